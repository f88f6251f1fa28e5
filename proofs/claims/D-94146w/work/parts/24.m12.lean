/-! the parser as a function: what is read from p on: where it ends, where it began last, the steps; or where it fails -/
abbrev PR : Type := (Nat × Nat × List (Int32 × Int32)) ⊕ Nat
def em : (Nat → Int32) → Nat → List (Int32 × Int32) → Nat → Int32
  | W, _, [] => W
  | W, s, x :: r => em (m_emits_c1 W s x.1 x.2) (s + 1) r
theorem em_app (b : List (Int32 × Int32)) : ∀ (a : List (Int32 × Int32)) (W : Nat → Int32) (s : Nat), em W s (a ++ b) = em (em W s a) (s + a.length) b
  | [], _, _ => rfl
  | x :: r, W, s => by
    show em (m_emits_c1 W s x.1 x.2) (s + 1) (r ++ b) = em (em (m_emits_c1 W s x.1 x.2) (s + 1) r) (s + (x :: r).length) b
    rw [em_app b r, List.length_cons, show s + 1 + r.length = s + (r.length + 1) by omega]
theorem emits_low {W : Nat → Int32} {s j : Nat} {a b : Int32} (h : j < 8645) : m_emits_c1 W s a b j = W j := by
  unfold m_emits_c1 m_textAt
  rw [ups_n (by omega), ups_n (by omega)]
theorem em_low {j : Nat} (h : j < 8645) : ∀ (a : List (Int32 × Int32)) (W : Nat → Int32) (s : Nat), em W s a j = W j
  | [], _, _ => rfl
  | x :: r, W, s => (em_low h r _ _).trans (emits_low h)
abbrev ps (μ : Mu) (p b d s : Nat) (W : Nat → Int32) : Mu := (mc (mset (mset (mset (mset μ 0 6 (nI p)) 0 8 (nI b)) 0 9 (nI d)) 0 12 (nI s)) 1 W)
def Post (G : UG) (adr : Nat → Nat) (h0 : Hp) (μ : Mu) (d s : Nat) (W : Nat → Int32) (r : PR) (v : Option Value) (h' : Hp) : Prop := match r with
  | .inl q => v = some (.int (b2i true)) ∧ MS G adr h0 (ps μ q.1 q.2.1 d (s + q.2.2.length) (em W s q.2.2)) h'
  | .inr b' => v = some (.int (b2i false)) ∧ ∃ (p' d' s' : Nat) (W' : Nat → Int32), (∀ j, j < 8645 → W' j = W j) ∧ MS G adr h0 (ps μ p' b' d' s' W') h'
section PP
variable {G : UG} {adr : Nat → Nat} {h0 : Hp} {μ : Mu} {d s : Nat} {W : Nat → Int32} {r : PR}
theorem con_ok {Ω : Hp → Prop} {y : MethodName} {code : ByteArray} {maxL : Nat} {ret : Option FieldType} {fr lo mc ms : Nat} {av : List Value} {p' b' : Nat} {ls : List (Int32 × Int32)} (c : Con G y code maxL ret fr lo mc ms av Ω (Post G adr h0 μ d s W r) nX) (e : r = .inl (p', b', ls)) : Con G y code maxL ret fr lo mc ms av Ω (fun v h' => v = some (.int (b2i true)) ∧ MS G adr h0 (ps μ p' b' d (s + ls.length) (em W s ls)) h') nX := by subst e; exact c
theorem con_no {Ω : Hp → Prop} {y : MethodName} {code : ByteArray} {maxL : Nat} {ret : Option FieldType} {fr lo mc ms : Nat} {av : List Value} {b' : Nat} (c : Con G y code maxL ret fr lo mc ms av Ω (Post G adr h0 μ d s W r) nX) (e : r = .inr b') : Con G y code maxL ret fr lo mc ms av Ω (fun v h' => v = some (.int (b2i false)) ∧ ∃ (p' d' s' : Nat) (W' : Nat → Int32), (∀ j, j < 8645 → W' j = W j) ∧ MS G adr h0 (ps μ p' b' d' s' W') h') nX := by subst e; exact c
theorem post_ok {h : Hp} {p' b' : Nat} {ls : List (Int32 × Int32)} (e : r = .inl (p', b', ls)) (m : MS G adr h0 (ps μ p' b' d (s + ls.length) (em W s ls)) h) : Post G adr h0 μ d s W r (some (.int (b2i true))) h := by subst e; exact ⟨rfl, m⟩
theorem post_no {h : Hp} {p' b' d' s' : Nat} {W' : Nat → Int32} (e : r = .inr b') (hW : ∀ j, j < 8645 → W' j = W j) (m : MS G adr h0 (ps μ p' b' d' s' W') h) : Post G adr h0 μ d s W r (some (.int (b2i false))) h := by subst e; exact ⟨rfl, p', d', s', W', hW, m⟩
theorem x_ex4 {F : UF} {R : Room} {Q : State → Prop} {nL pc : Nat} {L : List (Nat × Value)} {st : List Value} {k n b' : Nat} (kk : ∀ (p' d' s' : Nat) (W' : Nat → Int32), (∀ j, j < 8645 → W' j = W j) → X G F R Q nL pc L st (MS G adr h0 (ps μ p' b' d' s' W')) k n) : X G F R Q nL pc L st (fun h' => ∃ (p' d' s' : Nat) (W' : Nat → Int32), (∀ j, j < 8645 → W' j = W j) ∧ MS G adr h0 (ps μ p' b' d' s' W') h') k n := by
  rintro h H locs ls ⟨p', d', s', W', hW, m⟩ hR hS hl
  exact kk p' d' s' W' hW h H locs ls m hR hS hl
end PP
theorem let6_le {T : Nat → Int32} {p l : Nat} (h : p ≤ l) : p ≤ m_letters_f8 T p l ∧ m_letters_f8 T p l ≤ m_letters_f6 T p l ∧ m_letters_f6 T p l ≤ l := by
  rw [lt_6, lt_8]; exact ⟨(bl_le h).1, lt_le h⟩
theorem sign_le {T : Nat → Int32} {p l : Nat} {c : Int32} (h : p ≤ l) : p ≤ m_sign_f8 T p l c ∧ m_sign_f8 T p l c ≤ m_sign_f6 T p l c ∧ m_sign_f6 T p l c ≤ l ∧ (m_sign T p l c = true → m_sign_f8 T p l c + 1 = m_sign_f6 T p l c) := by
  have hb := bl6_le (T := T) h
  unfold m_sign_f8 m_sign_f6 m_sign
  by_cases q : m_isAt T (m_blanks_f6 T p l) l c c = true
  · have := isAt_lt q
    rw [if_pos q, if_pos q]
    refine ⟨hb.1, ?_, ?_, fun _ => rfl⟩
    · show m_blanks_f6 T p l ≤ _; omega
    · omega
  · rw [if_neg q, if_neg q]
    exact ⟨hb.1, Nat.le_refl _, hb.2, fun z => absurd z (by decide)⟩
theorem number_le {T : Nat → Int32} {p l : Nat} (h : p ≤ l) : p ≤ m_number_f8 T p l ∧ m_number_f8 T p l ≤ m_number_f6 T p l ∧ m_number_f6 T p l ≤ l ∧ (¬ m_number T p l < 0 → m_number_f8 T p l + 1 ≤ m_number_f6 T p l) := by
  have hb := bl6_le (T := T) h
  have hi : m_blanks_f6 T p l ≤ m_number_f6 T p l ∧ m_number_f6 T p l ≤ l := by
    unfold m_number_f6
    refine frb_inv (e := l + 1) (fun (s : Int32 × Nat) => m_blanks_f6 T p l ≤ s.2 ∧ s.2 ≤ l) (fun i s s' _ hs q => ?_) (fun i s s' _ hs q => ?_) _ 0 _ (by omega) ⟨Nat.le_refl _, hb.2⟩
    all_goals
      replace q : m_number_b6 T p l i s.1 s.2 = _ := q
      unfold m_number_b6 at q
      by_cases c : m_isAt T s.2 l (nI 48) (nI 57) = true
      · have := isAt_lt c
        rw [if_pos c] at q; cases q
        try exact ⟨by show _ ≤ s.2 + 1; omega, by show s.2 + 1 ≤ l; omega⟩
      · rw [if_neg c] at q; cases q
        try exact hs
  refine ⟨hb.1, hi.1, hi.2, fun hn => ?_⟩
  have e8 : m_number_f8 T p l = m_blanks_f6 T p l := rfl
  by_cases c : m_number_f6 T p l = m_blanks_f8 T p l
  · exfalso; apply hn
    unfold m_number
    unfold m_number_f6 at c
    rw [if_pos c]; decide
  · have : m_blanks_f8 T p l = m_blanks_f6 T p l := rfl
    omega
theorem isWord_len {T : Nat → Int32} {p b w : Nat} (h : m_isWord T p b w = true) : p - b = sN w := by
  unfold m_isWord at h
  revert h
  refine frb_inv (e := sN w + 1) (fun (s : Nat × Bool) => s.2 = true → p - b = sN w) (fun i s s' _ hs q => ?_) (fun i s s' _ hs q => ?_) _ 0 _ (by omega) (fun h => ?_)
  · replace q : m_isWord_b24 T b w i s.1 s.2 = _ := q
    unfold m_isWord_b24 at q
    by_cases c : s.2 = true
    · exact fun _ => hs c
    · rw [if_neg c] at q; cases q
  · replace q : m_isWord_b24 T b w i s.1 s.2 = _ := q
    unfold m_isWord_b24 at q
    by_cases c : s.2 = true
    · exact fun _ => hs c
    · rw [if_neg c] at q; cases q; exact fun z => absurd z c
  · by_cases c : p - b = sN w
    · exact c
    · exact absurd (show (if p - b = sN w then true else false) = true from h) (by rw [if_neg c]; decide)
theorem sN_1 : ∀ i, i < uSN → 2 ≤ sN i := by decide +kernel
theorem factAt_len {T : Nat → Int32} {p b : Nat} {st : Bool} (h : ¬ m_factAt T p b st < 0) : b + 1 ≤ p := by
  have k : ∀ w, w < uSN → m_isWord T p b w = true → b + 1 ≤ p := fun w hw c => by have := isWord_len c; have := sN_1 w hw; omega
  unfold m_factAt at h
  (repeat' split at h) <;> first | exact k 0 (by decide) (by assumption) | exact k 1 (by decide) (by assumption) | exact k 2 (by decide) (by assumption) | exact k 3 (by decide) (by assumption) | exact k 4 (by decide) (by assumption) | exact k 5 (by decide) (by assumption) | exact k 6 (by decide) (by assumption) | exact k 7 (by decide) (by assumption) | exact k 8 (by decide) (by assumption) | exact k 9 (by decide) (by assumption) | exact k 10 (by decide) (by assumption) | exact k 11 (by decide) (by assumption) | exact k 12 (by decide) (by assumption) | exact k 13 (by decide) (by assumption) | exact absurd (by decide) h
/-! the words of the grammar -/
def pFact (T : Nat → Int32) (l : Nat) (story : Bool) (p : Nat) : PR :=
  if m_factAt T (m_letters_f6 T p l) (m_letters_f8 T p l) story < 0 then .inr (m_letters_f8 T p l) else .inl (m_letters_f6 T p l, m_letters_f8 T p l, [(m_factAt T (m_letters_f6 T p l) (m_letters_f8 T p l) story, nI 0)])
/-- a result stays in the text, and has no more steps than letters -/
def PL (l p : Nat) (r : PR) : Prop := ∀ p' b' ls, r = .inl (p', b', ls) → p' ≤ l ∧ p + ls.length ≤ p'
theorem pFact_le {T : Nat → Int32} {l p : Nat} {story : Bool} (h : p ≤ l) : PL l p (pFact T l story p) := by
  intro p' b' ls e
  unfold pFact at e
  have hb := let6_le (T := T) h
  by_cases c : m_factAt T (m_letters_f6 T p l) (m_letters_f8 T p l) story < 0
  · rw [if_pos c] at e; cases e
  · rw [if_neg c] at e; cases e
    have := factAt_len c
    exact ⟨hb.2.2, by show p + 1 ≤ _; omega⟩
def pPart (T : Nat → Int32) (l : Nat) (story : Bool) (p : Nat) : PR :=
  if m_letters_f6 T p l ≤ m_letters_f8 T p l then
    (if m_number T (m_letters_f6 T p l) l < 0 then .inr (m_number_f8 T (m_letters_f6 T p l) l) else
      if m_sign T (m_number_f6 T (m_letters_f6 T p l) l) l (nI 42) = true then
        (match pFact T l story (m_sign_f6 T (m_number_f6 T (m_letters_f6 T p l) l) l (nI 42)) with
          | .inl q => .inl (q.1, q.2.1, [(nI 10, m_number T (m_letters_f6 T p l) l)] ++ q.2.2 ++ [(nI 11, nI 0)])
          | .inr b => .inr b)
      else .inl (m_sign_f6 T (m_number_f6 T (m_letters_f6 T p l) l) l (nI 42), m_sign_f8 T (m_number_f6 T (m_letters_f6 T p l) l) l (nI 42), [(nI 10, m_number T (m_letters_f6 T p l) l)]))
  else pFact T l story (m_letters_f8 T p l)

set_option maxHeartbeats 1000000 in
set_option maxRecDepth 100000 in
theorem c_m_readFact {G : UG} {adr : Nat → Nat} {h0 : Hp} {μ : Mu} (l : Nat) (h7 : μ 0 7 = nI l) (hl : l ≤ 400) (story : Bool) (h13 : μ 0 13 = b2i story) (p b d s : Nat) (W : Nat → Int32) (hp : p ≤ l) (hsp : s ≤ p) (hs : s < 400) : Con G yX6_readFact cX6_readFact 2 (some .boolean) 6 128 0 0 [.ref (adr 0)] (MS G adr h0 (ps μ p b d s W)) (Post G adr h0 μ d s W (pFact (μ 3) l story p)) nX := by
  refine con_of2 (plainFor_of_name (by decide)) rfl ?_
  intro F R Q RF RL RC RS hQ O hnh hnm
  refine x_eq (L' := [(0, .ref (adr 0))]) ?_ rfl rfl rfl
  refine x_aload_n O 0 dX6_readFact_0 rfl rfl ?_
  refine x_cV O 0 (c_m_letters (μ := (mc (mset (mset (mset (mset μ 0 6 (nI p)) 0 8 (nI b)) 0 9 (nI d)) 0 12 (nI s)) 1 W)) p ((congrFun (mc_n (by decide)) 6).trans ((rd_skip (by decide)).trans ((rd_skip (by decide)).trans ((rd_skip (by decide)).trans rd_hit)))) l ((congrFun (mc_n (by decide)) 7).trans ((rd_skip (by decide)).trans ((rd_skip (by decide)).trans ((rd_skip (by decide)).trans ((rd_skip (by decide)).trans h7))))) hl hp) MS.obj uc6 (lw_V q1877 q1879 qs46 q111 q1880) rfl hd_X6_letters rfl (by rw [RF]; rfl) (by rw [RL]; rfl) ⟨Nat.zero_le _, Nat.zero_le _⟩ rfl rfl dX6_readFact_1 ?_
  refine x_weak (Ω' := MS G adr h0 (mc (mset (mset (mset (mset μ 0 6 (nI (m_letters_f6 (μ 3) p l))) 0 8 (nI (m_letters_f8 (μ 3) p l))) 0 9 (nI d)) 0 12 (nI s)) 1 W)) (fun _ m => by rw [show (mc (mset (mset (mset (mset μ 0 6 (nI p)) 0 8 (nI b)) 0 9 (nI d)) 0 12 (nI s)) 1 W) 3 = μ 3 from ((mc_n (by decide)).trans ((mset_n (by decide)).trans ((mset_n (by decide)).trans ((mset_n (by decide)).trans (mset_n (by decide))))))] at m; exact m.eq ((congrArg (fun m_ => mset m_ 0 8 _) (wc_n (by decide))).trans ((congrArg (fun m_ => mset m_ 0 8 _) (congrArg (fun m_ => mc m_ 1 _) (ff_n (by decide)))).trans ((congrArg (fun m_ => mset m_ 0 8 _) (congrArg (fun m_ => mc m_ 1 _) (congrArg (fun m_ => mset m_ 0 12 _) (ff_n (by decide))))).trans ((congrArg (fun m_ => mset m_ 0 8 _) (congrArg (fun m_ => mc m_ 1 _) (congrArg (fun m_ => mset m_ 0 12 _) (congrArg (fun m_ => mset m_ 0 9 _) (ff_n (by decide)))))).trans ((congrArg (fun m_ => mset m_ 0 8 _) (congrArg (fun m_ => mc m_ 1 _) (congrArg (fun m_ => mset m_ 0 12 _) (congrArg (fun m_ => mset m_ 0 9 _) (congrArg (fun m_ => mset m_ 0 8 _) ff_s))))).trans ((wc_n (by decide)).trans ((congrArg (fun m_ => mc m_ 1 _) (ff_n (by decide))).trans ((congrArg (fun m_ => mc m_ 1 _) (congrArg (fun m_ => mset m_ 0 12 _) (ff_n (by decide)))).trans (congrArg (fun m_ => mc m_ 1 _) (congrArg (fun m_ => mset m_ 0 12 _) (congrArg (fun m_ => mset m_ 0 9 _) ff_s)))))))))))) ?_
  have hb1 := let6_le (T := μ 3) hp
  refine x_aload_n O 0 dX6_readFact_4 rfl rfl ?_
  refine x_cV O 0 (c_m_factAt (μ := (mc (mset (mset (mset (mset μ 0 6 (nI (m_letters_f6 (μ 3) p l))) 0 8 (nI (m_letters_f8 (μ 3) p l))) 0 9 (nI d)) 0 12 (nI s)) 1 W)) (m_letters_f6 (μ 3) p l) ((congrFun (mc_n (by decide)) 6).trans ((rd_skip (by decide)).trans ((rd_skip (by decide)).trans ((rd_skip (by decide)).trans rd_hit)))) (m_letters_f8 (μ 3) p l) ((congrFun (mc_n (by decide)) 8).trans ((rd_skip (by decide)).trans ((rd_skip (by decide)).trans rd_hit))) story ((congrFun (mc_n (by decide)) 13).trans ((rd_skip (by decide)).trans ((rd_skip (by decide)).trans ((rd_skip (by decide)).trans ((rd_skip (by decide)).trans h13))))) (by omega) (by omega)) MS.obj uc6 (lw_V q1914 q1916 qs54 q111 q1917) rfl hd_X6_factAt rfl (by rw [RF]; rfl) (by rw [RL]; rfl) ⟨Nat.zero_le _, Nat.zero_le _⟩ rfl rfl dX6_readFact_5 ?_
  refine x_top (v' := m_factAt (μ 3) (m_letters_f6 (μ 3) p l) (m_letters_f8 (μ 3) p l) story) (by rw [show (mc (mset (mset (mset (mset μ 0 6 (nI (m_letters_f6 (μ 3) p l))) 0 8 (nI (m_letters_f8 (μ 3) p l))) 0 9 (nI d)) 0 12 (nI s)) 1 W) 3 = μ 3 from ((mc_n (by decide)).trans ((mset_n (by decide)).trans ((mset_n (by decide)).trans ((mset_n (by decide)).trans (mset_n (by decide))))))]) ?_
  refine x_istore_n O [(1, .int (m_factAt (μ 3) (m_letters_f6 (μ 3) p l) (m_letters_f8 (μ 3) p l) story)), (0, .ref (adr 0))] dX6_readFact_8 rfl rfl rfl ?_
  refine x_iload_n O 0 dX6_readFact_9 rfl rfl ?_
  refine x_iflt O 19 dX6_readFact_10 (by decide) (fun c10 => ?_) (fun c10 => ?_)
  · refine x_iload_n O 0 dX6_readFact_19 rfl rfl ?_
    refine x_iflt O 27 dX6_readFact_20 (by decide) (fun c20 => ?_) (fun c20 => ?_)
    · refine x_sub [1] (L' := [(0, .ref (adr 0))]) rfl ?_
      refine x_iconst O (nI 0) dX6_readFact_27 (by decide) ?_
      refine x_top (v' := b2i false) (by decide) ?_
      exact x_zretQ O hQ rfl dX6_readFact_28 (fun h m => post_no (by unfold pFact; simp only [if_pos c10, if_pos c20]) (fun j hj => by first | rfl | simp only [em_low hj, emits_low hj]) m)
    · exact absurd c10 c20
  · refine x_aload_n O 1 dX6_readFact_13 rfl rfl ?_
    refine x_iload_n O 0 dX6_readFact_14 rfl rfl ?_
    refine x_iconst O (nI 0) dX6_readFact_15 (by decide) ?_
    refine x_cV O 2 (c_m_emits (μ := (mc (mset (mset (mset (mset μ 0 6 (nI (m_letters_f6 (μ 3) p l))) 0 8 (nI (m_letters_f8 (μ 3) p l))) 0 9 (nI d)) 0 12 (nI s)) 1 W)) s ((congrFun (mc_n (by decide)) 12).trans rd_hit) hs (m_factAt (μ 3) (m_letters_f6 (μ 3) p l) (m_letters_f8 (μ 3) p l) story) (nI 0)) MS.obj uc6 (lw_V q1887 q1889 qs48 q111 q1890) rfl hd_X6_emits rfl (by rw [RF]; rfl) (by rw [RL]; rfl) ⟨Nat.zero_le _, Nat.zero_le _⟩ rfl rfl dX6_readFact_16 ?_
    refine x_weak (Ω' := MS G adr h0 (mc (mset (mset (mset (mset μ 0 6 (nI (m_letters_f6 (μ 3) p l))) 0 8 (nI (m_letters_f8 (μ 3) p l))) 0 9 (nI d)) 0 12 (nI (m_emits_f12 W s (m_factAt (μ 3) (m_letters_f6 (μ 3) p l) (m_letters_f8 (μ 3) p l) story) (nI 0)))) 1 (m_emits_c1 W s (m_factAt (μ 3) (m_letters_f6 (μ 3) p l) (m_letters_f8 (μ 3) p l) story) (nI 0)))) (fun _ m => by rw [show (mc (mset (mset (mset (mset μ 0 6 (nI (m_letters_f6 (μ 3) p l))) 0 8 (nI (m_letters_f8 (μ 3) p l))) 0 9 (nI d)) 0 12 (nI s)) 1 W) 1 = W from mc_s] at m; exact m.eq ((congrArg (fun m_ => mc m_ 1 _) (wc_n (by decide))).trans ((congrArg (fun m_ => mc m_ 1 _) (congrArg (fun m_ => mc m_ 1 _) ff_s)).trans cc_s))) ?_
    refine x_weak (Ω' := MS G adr h0 ((mc (mset (mset (mset (mset μ 0 6 (nI (m_letters_f6 (μ 3) p l))) 0 8 (nI (m_letters_f8 (μ 3) p l))) 0 9 (nI d)) 0 12 (nI (s + 1))) 1 (m_emits_c1 W s (m_factAt (μ 3) (m_letters_f6 (μ 3) p l) (m_letters_f8 (μ 3) p l) story) (nI 0))))) (fun _ m => m) ?_
    refine x_iload_n O 0 dX6_readFact_19 rfl rfl ?_
    refine x_iflt O 27 dX6_readFact_20 (by decide) (fun c20 => ?_) (fun c20 => ?_)
    · exact absurd c20 c10
    · refine x_sub [1] (L' := [(0, .ref (adr 0))]) rfl ?_
      refine x_iconst O (nI 1) dX6_readFact_23 (by decide) ?_
      refine x_goto O 28 dX6_readFact_24 (by decide) ?_
      refine x_top (v' := b2i true) (by decide) ?_
      exact x_zretQ O hQ rfl dX6_readFact_28 (fun h m => post_ok (p' := m_letters_f6 (μ 3) p l) (b' := m_letters_f8 (μ 3) p l) (ls := [(m_factAt (μ 3) (m_letters_f6 (μ 3) p l) (m_letters_f8 (μ 3) p l) story, nI 0)]) (by unfold pFact; simp only [if_neg c10, if_neg c20]) (by first | exact m | (simp only [em_app, List.length_append, ← Nat.add_assoc]; exact m)))

def m_emitsIf (W : Nat → Int32) (st : Nat) (step : Int32) (n : Int32) : Bool :=
  (if n < 0 then false else true)
def m_emitsIf_f12 (W : Nat → Int32) (st : Nat) (step : Int32) (n : Int32) : Nat :=
  m_emits_f12 W st step n
def m_emitsIf_c1 (W : Nat → Int32) (st : Nat) (step : Int32) (n : Int32) : Nat → Int32 :=
  m_emits_c1 W st step n
set_option maxHeartbeats 1000000 in
set_option maxRecDepth 100000 in
theorem c_m_emitsIf {G : UG} {adr : Nat → Nat} {h0 : Hp} {μ : Mu} (st : Nat) (h12 : μ 0 12 = nI st) (hst : st < 400) (step : Int32) (n : Int32)  : Con G yX6_emitsIf cX6_emitsIf 3 (some .boolean) 2 43 0 0 [.ref (adr 0), .int step, .int n] (MS G adr h0 μ) (fun vr_ h' => vr_ = some (.int (b2i (m_emitsIf (μ 1) st step n))) ∧ MS G adr h0 (mc (mset μ 0 12 (nI (m_emitsIf_f12 (μ 1) st step n))) 1 (m_emitsIf_c1 (μ 1) st step n)) h') nX := by
  refine con_of2 (plainFor_of_name (by decide)) rfl ?_
  intro F R Q RF RL RC RS hQ O hnh hnm
  obtain ⟨res, hres⟩ : ∃ z, z = (m_emitsIf (μ 1) st step n) := ⟨_, rfl⟩
  rw [← hres] at hQ
  unfold m_emitsIf at hres
  obtain ⟨rs0, hrs0⟩ : ∃ z, z = m_emitsIf_f12 (μ 1) st step n := ⟨_, rfl⟩
  rw [← hrs0] at hQ
  unfold m_emitsIf_f12 at hrs0
  obtain ⟨rs1, hrs1⟩ : ∃ z, z = m_emitsIf_c1 (μ 1) st step n := ⟨_, rfl⟩
  rw [← hrs1] at hQ
  unfold m_emitsIf_c1 at hrs1
  refine x_eq (L' := [(0, .ref (adr 0)), (1, .int step), (2, .int n)]) ?_ rfl rfl rfl
  refine x_aload_n O 0 dX6_emitsIf_0 rfl rfl ?_
  refine x_iload_n O 1 dX6_emitsIf_1 rfl rfl ?_
  refine x_iload_n O 2 dX6_emitsIf_2 rfl rfl ?_
  refine x_cV O 2 (c_m_emits (μ := μ) st (h12) hst step n) MS.obj uc6 (lw_V q1887 q1889 qs48 q111 q1890) rfl hd_X6_emits rfl (by rw [RF]; rfl) (by rw [RL]; rfl) ⟨Nat.zero_le _, Nat.zero_le _⟩ rfl rfl dX6_emitsIf_3 ?_
  refine x_weak (Ω' := MS G adr h0 (mc (mset μ 0 12 (nI (m_emits_f12 (μ 1) st step n))) 1 (m_emits_c1 (μ 1) st step n))) (fun _ m => m.eq rfl) ?_
  refine x_iload_n O 2 dX6_emitsIf_6 rfl rfl ?_
  have J2 : ∀ (y1 : Bool), y1 = (if n < 0 then false else true) → X G F R Q 3 15 [(0, .ref (adr 0))] [.int (b2i y1)] (MS G adr h0 ((mc (mset μ 0 12 (nI (m_emits_f12 (μ 1) st step n))) 1 (m_emits_c1 (μ 1) st step n)))) 0 0 := by
    intro y1 e3
    subst e3
    exact x_zretQ O hQ rfl dX6_emitsIf_15 (fun h m => ⟨by rw [hres], by rw [hrs0, hrs1]; exact m.eq rfl⟩)
  refine x_iflt O 14 dX6_emitsIf_7 (by decide) (fun c7 => ?_) (fun c7 => ?_)
  · refine x_sub [0] (L' := [(0, .ref (adr 0))]) rfl ?_
    refine x_iconst O (nI 0) dX6_emitsIf_14 (by decide) ?_
    refine x_top (v' := b2i false) (by decide) ?_
    exact J2 false (by rw [if_pos c7])
  · refine x_sub [0] (L' := [(0, .ref (adr 0))]) rfl ?_
    refine x_iconst O (nI 1) dX6_emitsIf_10 (by decide) ?_
    refine x_goto O 15 dX6_emitsIf_11 (by decide) ?_
    refine x_top (v' := b2i true) (by decide) ?_
    exact J2 true (by rw [if_neg c7])

set_option maxHeartbeats 1000000 in
set_option maxRecDepth 100000 in
theorem c_m_readPart {G : UG} {adr : Nat → Nat} {h0 : Hp} {μ : Mu} (l : Nat) (h7 : μ 0 7 = nI l) (hl : l ≤ 400) (story : Bool) (h13 : μ 0 13 = b2i story) (p b d s : Nat) (W : Nat → Int32) (hp : p ≤ l) (hsp : s ≤ p) (hs : s < 400) : Con G yX6_readPart cX6_readPart 1 (some .boolean) 7 149 0 0 [.ref (adr 0)] (MS G adr h0 (ps μ p b d s W)) (Post G adr h0 μ d s W (pPart (μ 3) l story p)) nX := by
  refine con_of2 (plainFor_of_name (by decide)) rfl ?_
  intro F R Q RF RL RC RS hQ O hnh hnm
  refine x_eq (L' := [(0, .ref (adr 0))]) ?_ rfl rfl rfl
  refine x_aload_n O 0 dX6_readPart_0 rfl rfl ?_
  refine x_cV O 0 (c_m_letters (μ := (mc (mset (mset (mset (mset μ 0 6 (nI p)) 0 8 (nI b)) 0 9 (nI d)) 0 12 (nI s)) 1 W)) p ((congrFun (mc_n (by decide)) 6).trans ((rd_skip (by decide)).trans ((rd_skip (by decide)).trans ((rd_skip (by decide)).trans rd_hit)))) l ((congrFun (mc_n (by decide)) 7).trans ((rd_skip (by decide)).trans ((rd_skip (by decide)).trans ((rd_skip (by decide)).trans ((rd_skip (by decide)).trans h7))))) hl hp) MS.obj uc6 (lw_V q1877 q1879 qs46 q111 q1880) rfl hd_X6_letters rfl (by rw [RF]; rfl) (by rw [RL]; rfl) ⟨Nat.zero_le _, Nat.zero_le _⟩ rfl rfl dX6_readPart_1 ?_
  refine x_weak (Ω' := MS G adr h0 (mc (mset (mset (mset (mset μ 0 6 (nI (m_letters_f6 (μ 3) p l))) 0 8 (nI (m_letters_f8 (μ 3) p l))) 0 9 (nI d)) 0 12 (nI s)) 1 W)) (fun _ m => by rw [show (mc (mset (mset (mset (mset μ 0 6 (nI p)) 0 8 (nI b)) 0 9 (nI d)) 0 12 (nI s)) 1 W) 3 = μ 3 from ((mc_n (by decide)).trans ((mset_n (by decide)).trans ((mset_n (by decide)).trans ((mset_n (by decide)).trans (mset_n (by decide))))))] at m; exact m.eq ((congrArg (fun m_ => mset m_ 0 8 _) (wc_n (by decide))).trans ((congrArg (fun m_ => mset m_ 0 8 _) (congrArg (fun m_ => mc m_ 1 _) (ff_n (by decide)))).trans ((congrArg (fun m_ => mset m_ 0 8 _) (congrArg (fun m_ => mc m_ 1 _) (congrArg (fun m_ => mset m_ 0 12 _) (ff_n (by decide))))).trans ((congrArg (fun m_ => mset m_ 0 8 _) (congrArg (fun m_ => mc m_ 1 _) (congrArg (fun m_ => mset m_ 0 12 _) (congrArg (fun m_ => mset m_ 0 9 _) (ff_n (by decide)))))).trans ((congrArg (fun m_ => mset m_ 0 8 _) (congrArg (fun m_ => mc m_ 1 _) (congrArg (fun m_ => mset m_ 0 12 _) (congrArg (fun m_ => mset m_ 0 9 _) (congrArg (fun m_ => mset m_ 0 8 _) ff_s))))).trans ((wc_n (by decide)).trans ((congrArg (fun m_ => mc m_ 1 _) (ff_n (by decide))).trans ((congrArg (fun m_ => mc m_ 1 _) (congrArg (fun m_ => mset m_ 0 12 _) (ff_n (by decide)))).trans (congrArg (fun m_ => mc m_ 1 _) (congrArg (fun m_ => mset m_ 0 12 _) (congrArg (fun m_ => mset m_ 0 9 _) ff_s)))))))))))) ?_
  have hb1 := let6_le (T := μ 3) hp
  refine x_aload_n O 0 dX6_readPart_4 rfl rfl ?_
  refine x_mget O k_X6_109_6 (mg_6 _ _) dX6_readPart_5 ?_
  refine x_top (v' := nI (m_letters_f6 (μ 3) p l)) ((congrFun (mc_n (by decide)) 6).trans ((rd_skip (by decide)).trans ((rd_skip (by decide)).trans ((rd_skip (by decide)).trans rd_hit)))) ?_
  refine x_aload_n O 0 dX6_readPart_8 rfl rfl ?_
  refine x_mget O k_X6_121_6 (mg_8 _ _) dX6_readPart_9 ?_
  refine x_top (v' := nI (m_letters_f8 (μ 3) p l)) ((congrFun (mc_n (by decide)) 8).trans ((rd_skip (by decide)).trans ((rd_skip (by decide)).trans rd_hit))) ?_
  refine x_icmpleN O 28 (by omega) (by omega) dX6_readPart_12 (by decide) (fun c12 => ?_) (fun c12 => ?_)
  · refine x_aload_n O 0 dX6_readPart_28 rfl rfl ?_
    refine x_bipush O (nI 10) dX6_readPart_29 (by decide) ?_
    refine x_aload_n O 0 dX6_readPart_31 rfl rfl ?_
    refine x_cV O 0 (c_m_number (μ := (mc (mset (mset (mset (mset μ 0 6 (nI (m_letters_f6 (μ 3) p l))) 0 8 (nI (m_letters_f8 (μ 3) p l))) 0 9 (nI d)) 0 12 (nI s)) 1 W)) (m_letters_f6 (μ 3) p l) ((congrFun (mc_n (by decide)) 6).trans ((rd_skip (by decide)).trans ((rd_skip (by decide)).trans ((rd_skip (by decide)).trans rd_hit)))) l ((congrFun (mc_n (by decide)) 7).trans ((rd_skip (by decide)).trans ((rd_skip (by decide)).trans ((rd_skip (by decide)).trans ((rd_skip (by decide)).trans h7))))) hl (by omega)) MS.obj uc6 (lw_V q1898 q1900 qs50 q111 q1901) rfl hd_X6_number rfl (by rw [RF]; rfl) (by rw [RL]; rfl) ⟨Nat.zero_le _, Nat.zero_le _⟩ rfl rfl dX6_readPart_32 ?_
    refine x_top (v' := m_number (μ 3) (m_letters_f6 (μ 3) p l) l) (by rw [show (mc (mset (mset (mset (mset μ 0 6 (nI (m_letters_f6 (μ 3) p l))) 0 8 (nI (m_letters_f8 (μ 3) p l))) 0 9 (nI d)) 0 12 (nI s)) 1 W) 3 = μ 3 from ((mc_n (by decide)).trans ((mset_n (by decide)).trans ((mset_n (by decide)).trans ((mset_n (by decide)).trans (mset_n (by decide))))))]) ?_
    refine x_weak (Ω' := MS G adr h0 (mc (mset (mset (mset (mset μ 0 6 (nI (m_number_f6 (μ 3) (m_letters_f6 (μ 3) p l) l))) 0 8 (nI (m_number_f8 (μ 3) (m_letters_f6 (μ 3) p l) l))) 0 9 (nI d)) 0 12 (nI s)) 1 W)) (fun _ m => by rw [show (mc (mset (mset (mset (mset μ 0 6 (nI (m_letters_f6 (μ 3) p l))) 0 8 (nI (m_letters_f8 (μ 3) p l))) 0 9 (nI d)) 0 12 (nI s)) 1 W) 3 = μ 3 from ((mc_n (by decide)).trans ((mset_n (by decide)).trans ((mset_n (by decide)).trans ((mset_n (by decide)).trans (mset_n (by decide))))))] at m; exact m.eq ((congrArg (fun m_ => mset m_ 0 8 _) (wc_n (by decide))).trans ((congrArg (fun m_ => mset m_ 0 8 _) (congrArg (fun m_ => mc m_ 1 _) (ff_n (by decide)))).trans ((congrArg (fun m_ => mset m_ 0 8 _) (congrArg (fun m_ => mc m_ 1 _) (congrArg (fun m_ => mset m_ 0 12 _) (ff_n (by decide))))).trans ((congrArg (fun m_ => mset m_ 0 8 _) (congrArg (fun m_ => mc m_ 1 _) (congrArg (fun m_ => mset m_ 0 12 _) (congrArg (fun m_ => mset m_ 0 9 _) (ff_n (by decide)))))).trans ((congrArg (fun m_ => mset m_ 0 8 _) (congrArg (fun m_ => mc m_ 1 _) (congrArg (fun m_ => mset m_ 0 12 _) (congrArg (fun m_ => mset m_ 0 9 _) (congrArg (fun m_ => mset m_ 0 8 _) ff_s))))).trans ((wc_n (by decide)).trans ((congrArg (fun m_ => mc m_ 1 _) (ff_n (by decide))).trans ((congrArg (fun m_ => mc m_ 1 _) (congrArg (fun m_ => mset m_ 0 12 _) (ff_n (by decide)))).trans (congrArg (fun m_ => mc m_ 1 _) (congrArg (fun m_ => mset m_ 0 12 _) (congrArg (fun m_ => mset m_ 0 9 _) ff_s)))))))))))) ?_
    have hb2 := number_le (T := μ 3) (p := m_letters_f6 (μ 3) p l) (l := l) (by omega)
    refine x_cV O 2 (c_m_emitsIf (μ := (mc (mset (mset (mset (mset μ 0 6 (nI (m_number_f6 (μ 3) (m_letters_f6 (μ 3) p l) l))) 0 8 (nI (m_number_f8 (μ 3) (m_letters_f6 (μ 3) p l) l))) 0 9 (nI d)) 0 12 (nI s)) 1 W)) s ((congrFun (mc_n (by decide)) 12).trans rd_hit) hs (nI 10) (m_number (μ 3) (m_letters_f6 (μ 3) p l) l)) MS.obj uc6 (lw_V q1932 q1934 qs55 q111 q1935) rfl hd_X6_emitsIf rfl (by rw [RF]; rfl) (by rw [RL]; rfl) ⟨Nat.zero_le _, Nat.zero_le _⟩ rfl rfl dX6_readPart_35 ?_
    refine x_top (v' := b2i (m_emitsIf W s (nI 10) (m_number (μ 3) (m_letters_f6 (μ 3) p l) l))) (by rw [show (mc (mset (mset (mset (mset μ 0 6 (nI (m_number_f6 (μ 3) (m_letters_f6 (μ 3) p l) l))) 0 8 (nI (m_number_f8 (μ 3) (m_letters_f6 (μ 3) p l) l))) 0 9 (nI d)) 0 12 (nI s)) 1 W) 1 = W from mc_s]) ?_
    refine x_weak (Ω' := MS G adr h0 (mc (mset (mset (mset (mset μ 0 6 (nI (m_number_f6 (μ 3) (m_letters_f6 (μ 3) p l) l))) 0 8 (nI (m_number_f8 (μ 3) (m_letters_f6 (μ 3) p l) l))) 0 9 (nI d)) 0 12 (nI (m_emitsIf_f12 W s (nI 10) (m_number (μ 3) (m_letters_f6 (μ 3) p l) l)))) 1 (m_emitsIf_c1 W s (nI 10) (m_number (μ 3) (m_letters_f6 (μ 3) p l) l)))) (fun _ m => by rw [show (mc (mset (mset (mset (mset μ 0 6 (nI (m_number_f6 (μ 3) (m_letters_f6 (μ 3) p l) l))) 0 8 (nI (m_number_f8 (μ 3) (m_letters_f6 (μ 3) p l) l))) 0 9 (nI d)) 0 12 (nI s)) 1 W) 1 = W from mc_s] at m; exact m.eq ((congrArg (fun m_ => mc m_ 1 _) (wc_n (by decide))).trans ((congrArg (fun m_ => mc m_ 1 _) (congrArg (fun m_ => mc m_ 1 _) ff_s)).trans cc_s))) ?_
    refine x_weak (Ω' := MS G adr h0 ((mc (mset (mset (mset (mset μ 0 6 (nI (m_number_f6 (μ 3) (m_letters_f6 (μ 3) p l) l))) 0 8 (nI (m_number_f8 (μ 3) (m_letters_f6 (μ 3) p l) l))) 0 9 (nI d)) 0 12 (nI (s + 1))) 1 (m_emits_c1 W s (nI 10) (m_number (μ 3) (m_letters_f6 (μ 3) p l) l))))) (fun _ m => m) ?_
    refine x_dc (m_number (μ 3) (m_letters_f6 (μ 3) p l) l < 0) (fun c35 => ?_) (fun c35 => ?_)
    · refine x_top (v' := b2i false) (by unfold m_emitsIf; rw [if_pos c35]) ?_
      refine x_ifneB O 43 dX6_readPart_38 (by decide) (fun c => absurd c (by decide)) (fun _ => ?_)
      refine x_iconst O (nI 0) dX6_readPart_41 (by decide) ?_
      refine x_top (v' := b2i false) (by decide) ?_
      exact x_zretQ O hQ rfl dX6_readPart_42 (fun h m => post_no (by unfold pPart; simp only [if_pos c12, if_pos c35]) (fun j hj => by first | rfl | simp only [em_low hj, emits_low hj]) m)
    · refine x_top (v' := b2i true) (by unfold m_emitsIf; rw [if_neg c35]) ?_
      have hb4 := hb2.2.2.2 c35
      refine x_ifneB O 43 dX6_readPart_38 (by decide) (fun _ => ?_) (fun c => absurd rfl c)
      refine x_aload_n O 0 dX6_readPart_43 rfl rfl ?_
      refine x_bipush O (nI 42) dX6_readPart_44 (by decide) ?_
      refine x_cV O 1 (c_m_sign (μ := (mc (mset (mset (mset (mset μ 0 6 (nI (m_number_f6 (μ 3) (m_letters_f6 (μ 3) p l) l))) 0 8 (nI (m_number_f8 (μ 3) (m_letters_f6 (μ 3) p l) l))) 0 9 (nI d)) 0 12 (nI (s + 1))) 1 (m_emits_c1 W s (nI 10) (m_number (μ 3) (m_letters_f6 (μ 3) p l) l)))) (m_number_f6 (μ 3) (m_letters_f6 (μ 3) p l) l) ((congrFun (mc_n (by decide)) 6).trans ((rd_skip (by decide)).trans ((rd_skip (by decide)).trans ((rd_skip (by decide)).trans rd_hit)))) l ((congrFun (mc_n (by decide)) 7).trans ((rd_skip (by decide)).trans ((rd_skip (by decide)).trans ((rd_skip (by decide)).trans ((rd_skip (by decide)).trans h7))))) hl (by omega) (nI 42)) MS.obj uc6 (lw_V q1860 q1862 qs42 q111 q1863) rfl hd_X6_sign rfl (by rw [RF]; rfl) (by rw [RL]; rfl) ⟨Nat.zero_le _, Nat.zero_le _⟩ rfl rfl dX6_readPart_46 ?_
      refine x_top (v' := b2i (m_sign (μ 3) (m_number_f6 (μ 3) (m_letters_f6 (μ 3) p l) l) l (nI 42))) (by rw [show (mc (mset (mset (mset (mset μ 0 6 (nI (m_number_f6 (μ 3) (m_letters_f6 (μ 3) p l) l))) 0 8 (nI (m_number_f8 (μ 3) (m_letters_f6 (μ 3) p l) l))) 0 9 (nI d)) 0 12 (nI (s + 1))) 1 (m_emits_c1 W s (nI 10) (m_number (μ 3) (m_letters_f6 (μ 3) p l) l))) 3 = μ 3 from ((mc_n (by decide)).trans ((mset_n (by decide)).trans ((mset_n (by decide)).trans ((mset_n (by decide)).trans (mset_n (by decide))))))]) ?_
      refine x_weak (Ω' := MS G adr h0 (mc (mset (mset (mset (mset μ 0 6 (nI (m_sign_f6 (μ 3) (m_number_f6 (μ 3) (m_letters_f6 (μ 3) p l) l) l (nI 42)))) 0 8 (nI (m_sign_f8 (μ 3) (m_number_f6 (μ 3) (m_letters_f6 (μ 3) p l) l) l (nI 42)))) 0 9 (nI d)) 0 12 (nI (s + 1))) 1 (m_emits_c1 W s (nI 10) (m_number (μ 3) (m_letters_f6 (μ 3) p l) l)))) (fun _ m => by rw [show (mc (mset (mset (mset (mset μ 0 6 (nI (m_number_f6 (μ 3) (m_letters_f6 (μ 3) p l) l))) 0 8 (nI (m_number_f8 (μ 3) (m_letters_f6 (μ 3) p l) l))) 0 9 (nI d)) 0 12 (nI (s + 1))) 1 (m_emits_c1 W s (nI 10) (m_number (μ 3) (m_letters_f6 (μ 3) p l) l))) 3 = μ 3 from ((mc_n (by decide)).trans ((mset_n (by decide)).trans ((mset_n (by decide)).trans ((mset_n (by decide)).trans (mset_n (by decide))))))] at m; exact m.eq ((congrArg (fun m_ => mset m_ 0 8 _) (wc_n (by decide))).trans ((congrArg (fun m_ => mset m_ 0 8 _) (congrArg (fun m_ => mc m_ 1 _) (ff_n (by decide)))).trans ((congrArg (fun m_ => mset m_ 0 8 _) (congrArg (fun m_ => mc m_ 1 _) (congrArg (fun m_ => mset m_ 0 12 _) (ff_n (by decide))))).trans ((congrArg (fun m_ => mset m_ 0 8 _) (congrArg (fun m_ => mc m_ 1 _) (congrArg (fun m_ => mset m_ 0 12 _) (congrArg (fun m_ => mset m_ 0 9 _) (ff_n (by decide)))))).trans ((congrArg (fun m_ => mset m_ 0 8 _) (congrArg (fun m_ => mc m_ 1 _) (congrArg (fun m_ => mset m_ 0 12 _) (congrArg (fun m_ => mset m_ 0 9 _) (congrArg (fun m_ => mset m_ 0 8 _) ff_s))))).trans ((wc_n (by decide)).trans ((congrArg (fun m_ => mc m_ 1 _) (ff_n (by decide))).trans ((congrArg (fun m_ => mc m_ 1 _) (congrArg (fun m_ => mset m_ 0 12 _) (ff_n (by decide)))).trans (congrArg (fun m_ => mc m_ 1 _) (congrArg (fun m_ => mset m_ 0 12 _) (congrArg (fun m_ => mset m_ 0 9 _) ff_s)))))))))))) ?_
      have hb3 := sign_le (T := μ 3) (p := m_number_f6 (μ 3) (m_letters_f6 (μ 3) p l) l) (l := l) (c := nI 42) (by omega)
      refine x_ifneB O 54 dX6_readPart_49 (by decide) (fun c49 => ?_) (fun c49 => ?_)
      · have hb5 := hb3.2.2.2 c49
        refine x_aload_n O 0 dX6_readPart_54 rfl rfl ?_
        rcases hr55 : pFact (μ 3) l story (m_sign_f6 (μ 3) (m_number_f6 (μ 3) (m_letters_f6 (μ 3) p l) l) l (nI 42)) with ⟨p1, b1, ls1⟩ | b1
        · refine x_cV O 0 (con_ok (c_m_readFact (μ := μ) l h7 hl story h13 (m_sign_f6 (μ 3) (m_number_f6 (μ 3) (m_letters_f6 (μ 3) p l) l) l (nI 42)) (m_sign_f8 (μ 3) (m_number_f6 (μ 3) (m_letters_f6 (μ 3) p l) l) l (nI 42)) d (s + 1) (m_emits_c1 W s (nI 10) (m_number (μ 3) (m_letters_f6 (μ 3) p l) l)) (by omega) (by omega) (by omega)) hr55) MS.obj uc6 (lw_V q1910 q1912 qs53 q111 q1913) rfl hd_X6_readFact rfl (by rw [RF]; rfl) (by rw [RL]; rfl) ⟨Nat.zero_le _, Nat.zero_le _⟩ rfl rfl dX6_readPart_55 ?_
          refine x_top (v' := b2i true) rfl ?_
          have hF1 := pFact_le (T := μ 3) (story := story) (by first | exact hp | omega) _ _ _ hr55
          refine x_ifneB O 63 dX6_readPart_58 (by decide) (fun _ => ?_) (fun c => absurd rfl c)
          refine x_aload_n O 0 dX6_readPart_63 rfl rfl ?_
          refine x_bipush O (nI 11) dX6_readPart_64 (by decide) ?_
          refine x_iconst O (nI 0) dX6_readPart_66 (by decide) ?_
          refine x_cV O 2 (c_m_emits (μ := (mc (mset (mset (mset (mset μ 0 6 (nI p1)) 0 8 (nI b1)) 0 9 (nI d)) 0 12 (nI (s + 1 + ls1.length))) 1 (em (m_emits_c1 W s (nI 10) (m_number (μ 3) (m_letters_f6 (μ 3) p l) l)) (s + 1) ls1))) (s + 1 + ls1.length) ((congrFun (mc_n (by decide)) 12).trans rd_hit) (by omega) (nI 11) (nI 0)) MS.obj uc6 (lw_V q1887 q1889 qs48 q111 q1890) rfl hd_X6_emits rfl (by rw [RF]; rfl) (by rw [RL]; rfl) ⟨Nat.zero_le _, Nat.zero_le _⟩ rfl rfl dX6_readPart_67 ?_
          refine x_weak (Ω' := MS G adr h0 (mc (mset (mset (mset (mset μ 0 6 (nI p1)) 0 8 (nI b1)) 0 9 (nI d)) 0 12 (nI (m_emits_f12 (em (m_emits_c1 W s (nI 10) (m_number (μ 3) (m_letters_f6 (μ 3) p l) l)) (s + 1) ls1) (s + 1 + ls1.length) (nI 11) (nI 0)))) 1 (m_emits_c1 (em (m_emits_c1 W s (nI 10) (m_number (μ 3) (m_letters_f6 (μ 3) p l) l)) (s + 1) ls1) (s + 1 + ls1.length) (nI 11) (nI 0)))) (fun _ m => by rw [show (mc (mset (mset (mset (mset μ 0 6 (nI p1)) 0 8 (nI b1)) 0 9 (nI d)) 0 12 (nI (s + 1 + ls1.length))) 1 (em (m_emits_c1 W s (nI 10) (m_number (μ 3) (m_letters_f6 (μ 3) p l) l)) (s + 1) ls1)) 1 = em (m_emits_c1 W s (nI 10) (m_number (μ 3) (m_letters_f6 (μ 3) p l) l)) (s + 1) ls1 from mc_s] at m; exact m.eq ((congrArg (fun m_ => mc m_ 1 _) (wc_n (by decide))).trans ((congrArg (fun m_ => mc m_ 1 _) (congrArg (fun m_ => mc m_ 1 _) ff_s)).trans cc_s))) ?_
          refine x_weak (Ω' := MS G adr h0 ((mc (mset (mset (mset (mset μ 0 6 (nI p1)) 0 8 (nI b1)) 0 9 (nI d)) 0 12 (nI (s + 1 + ls1.length + 1))) 1 (m_emits_c1 (em (m_emits_c1 W s (nI 10) (m_number (μ 3) (m_letters_f6 (μ 3) p l) l)) (s + 1) ls1) (s + 1 + ls1.length) (nI 11) (nI 0))))) (fun _ m => m) ?_
          refine x_iconst O (nI 1) dX6_readPart_70 (by decide) ?_
          refine x_top (v' := b2i true) (by decide) ?_
          exact x_zretQ O hQ rfl dX6_readPart_71 (fun h m => post_ok (p' := p1) (b' := b1) (ls := [(nI 10, m_number (μ 3) (m_letters_f6 (μ 3) p l) l)] ++ ls1 ++ [(nI 11, nI 0)]) (by unfold pPart; simp only [if_pos c12, if_neg c35, if_pos c49, hr55]) (by first | exact m | (simp only [em_app, List.length_append, ← Nat.add_assoc]; exact m)))
        · refine x_cV O 0 (con_no (c_m_readFact (μ := μ) l h7 hl story h13 (m_sign_f6 (μ 3) (m_number_f6 (μ 3) (m_letters_f6 (μ 3) p l) l) l (nI 42)) (m_sign_f8 (μ 3) (m_number_f6 (μ 3) (m_letters_f6 (μ 3) p l) l) l (nI 42)) d (s + 1) (m_emits_c1 W s (nI 10) (m_number (μ 3) (m_letters_f6 (μ 3) p l) l)) (by omega) (by omega) (by omega)) hr55) MS.obj uc6 (lw_V q1910 q1912 qs53 q111 q1913) rfl hd_X6_readFact rfl (by rw [RF]; rfl) (by rw [RL]; rfl) ⟨Nat.zero_le _, Nat.zero_le _⟩ rfl rfl dX6_readPart_55 ?_
          refine x_top (v' := b2i false) rfl ?_
          refine x_ex4 (fun p1 d1 s1 W1 hW1 => ?_)
          refine x_ifneB O 63 dX6_readPart_58 (by decide) (fun c => absurd c (by decide)) (fun _ => ?_)
          refine x_iconst O (nI 0) dX6_readPart_61 (by decide) ?_
          refine x_top (v' := b2i false) (by decide) ?_
          exact x_zretQ O hQ rfl dX6_readPart_62 (fun h m => post_no (by unfold pPart; simp only [if_pos c12, if_neg c35, if_pos c49, hr55]) (fun j hj => by first | rfl | simp only [em_low hj, emits_low hj, hW1 j hj]) m)
      · refine x_iconst O (nI 1) dX6_readPart_52 (by decide) ?_
        refine x_top (v' := b2i true) (by decide) ?_
        exact x_zretQ O hQ rfl dX6_readPart_53 (fun h m => post_ok (p' := m_sign_f6 (μ 3) (m_number_f6 (μ 3) (m_letters_f6 (μ 3) p l) l) l (nI 42)) (b' := m_sign_f8 (μ 3) (m_number_f6 (μ 3) (m_letters_f6 (μ 3) p l) l) l (nI 42)) (ls := [(nI 10, m_number (μ 3) (m_letters_f6 (μ 3) p l) l)]) (by unfold pPart; simp only [if_pos c12, if_neg c35, if_neg c49]) (by first | exact m | (simp only [em_app, List.length_append, ← Nat.add_assoc]; exact m)))
  · refine x_aload_n O 0 dX6_readPart_15 rfl rfl ?_
    refine x_aload_n O 0 dX6_readPart_16 rfl rfl ?_
    refine x_mget O k_X6_121_6 (mg_8 _ _) dX6_readPart_17 ?_
    refine x_top (v' := nI (m_letters_f8 (μ 3) p l)) ((congrFun (mc_n (by decide)) 8).trans ((rd_skip (by decide)).trans ((rd_skip (by decide)).trans rd_hit))) ?_
    refine x_mputQ O p_X6_109_6 (mp_6 _ _ _) rfl dX6_readPart_20 (μ' := (mc (mset (mset (mset (mset μ 0 6 (nI (m_letters_f8 (μ 3) p l))) 0 8 (nI (m_letters_f8 (μ 3) p l))) 0 9 (nI d)) 0 12 (nI s)) 1 W)) ((wc_n (by decide)).trans ((congrArg (fun m_ => mc m_ 1 _) (ff_n (by decide))).trans ((congrArg (fun m_ => mc m_ 1 _) (congrArg (fun m_ => mset m_ 0 12 _) (ff_n (by decide)))).trans ((congrArg (fun m_ => mc m_ 1 _) (congrArg (fun m_ => mset m_ 0 12 _) (congrArg (fun m_ => mset m_ 0 9 _) (ff_n (by decide))))).trans (congrArg (fun m_ => mc m_ 1 _) (congrArg (fun m_ => mset m_ 0 12 _) (congrArg (fun m_ => mset m_ 0 9 _) (congrArg (fun m_ => mset m_ 0 8 _) ff_s)))))))) ?_
    refine x_aload_n O 0 dX6_readPart_23 rfl rfl ?_
    rcases hr24 : pFact (μ 3) l story (m_letters_f8 (μ 3) p l) with ⟨p2, b2, ls2⟩ | b2
    · refine x_cV O 0 (con_ok (c_m_readFact (μ := μ) l h7 hl story h13 (m_letters_f8 (μ 3) p l) (m_letters_f8 (μ 3) p l) d s W (by omega) (by omega) (by omega)) hr24) MS.obj uc6 (lw_V q1910 q1912 qs53 q111 q1913) rfl hd_X6_readFact rfl (by rw [RF]; rfl) (by rw [RL]; rfl) ⟨Nat.zero_le _, Nat.zero_le _⟩ rfl rfl dX6_readPart_24 ?_
      refine x_top (v' := b2i true) rfl ?_
      have hF2 := pFact_le (T := μ 3) (story := story) (by first | exact hp | omega) _ _ _ hr24
      exact x_zretQ O hQ rfl dX6_readPart_27 (fun h m => post_ok (p' := p2) (b' := b2) (ls := ls2) (by unfold pPart; simp only [if_neg c12, hr24]) (by first | exact m | (simp only [em_app, List.length_append, ← Nat.add_assoc]; exact m)))
    · refine x_cV O 0 (con_no (c_m_readFact (μ := μ) l h7 hl story h13 (m_letters_f8 (μ 3) p l) (m_letters_f8 (μ 3) p l) d s W (by omega) (by omega) (by omega)) hr24) MS.obj uc6 (lw_V q1910 q1912 qs53 q111 q1913) rfl hd_X6_readFact rfl (by rw [RF]; rfl) (by rw [RL]; rfl) ⟨Nat.zero_le _, Nat.zero_le _⟩ rfl rfl dX6_readPart_24 ?_
      refine x_top (v' := b2i false) rfl ?_
      refine x_ex4 (fun p2 d2 s2 W2 hW2 => ?_)
      exact x_zretQ O hQ rfl dX6_readPart_27 (fun h m => post_no (by unfold pPart; simp only [if_neg c12, hr24]) (fun j hj => by first | rfl | simp only [em_low hj, emits_low hj, hW2 j hj]) m)

theorem pPart_le {T : Nat → Int32} {l p : Nat} {story : Bool} (h : p ≤ l) : PL l p (pPart T l story p) := by
  intro p' b' ls e
  have hb1 := let6_le (T := T) h
  unfold pPart at e
  by_cases c : m_letters_f6 T p l ≤ m_letters_f8 T p l
  · rw [if_pos c] at e
    have hb2 := number_le (T := T) (p := m_letters_f6 T p l) (l := l) (by omega)
    by_cases c2 : m_number T (m_letters_f6 T p l) l < 0
    · rw [if_pos c2] at e; cases e
    · rw [if_neg c2] at e
      have hb4 := hb2.2.2.2 c2
      have hb3 := sign_le (T := T) (p := m_number_f6 T (m_letters_f6 T p l) l) (l := l) (c := nI 42) (by omega)
      by_cases c3 : m_sign T (m_number_f6 T (m_letters_f6 T p l) l) l (nI 42) = true
      · rw [if_pos c3] at e
        have hb5 := hb3.2.2.2 c3
        rcases hr : pFact T l story (m_sign_f6 T (m_number_f6 T (m_letters_f6 T p l) l) l (nI 42)) with ⟨qa, qb, qc⟩ | q
        · rw [hr] at e; cases e
          have hF := pFact_le (T := T) (story := story) (by omega) _ _ _ hr
          refine ⟨hF.1, ?_⟩
          simp only [List.length_append, List.length_cons, List.length_nil]; omega
        · rw [hr] at e; cases e
      · rw [if_neg c3] at e; cases e
        refine ⟨hb3.2.2.1, ?_⟩
        simp only [List.length_cons, List.length_nil]; omega
  · rw [if_neg c] at e
    have hF := pFact_le (T := T) (story := story) (by omega) _ _ _ e
    omega
/-- one and then more of them, a word between two -/
def pLp (l : Nat) (A : Nat → PR) (tk : Nat → Bool) (nx bg : Nat → Nat) (stp : Int32) : Nat → Nat → List (Int32 × Int32) → PR
  | 0, _, _ => .inr 0
  | n + 1, p, acc => if tk p = true then (match A (nx p) with
      | .inl q => pLp l A tk nx bg stp n q.1 (acc ++ q.2.2 ++ [(stp, nI 0)])
      | .inr b => .inr b) else .inl (nx p, bg p, acc)
theorem pLp_s {l : Nat} {A : Nat → PR} {tk : Nat → Bool} {nx bg : Nat → Nat} {stp : Int32} {n p : Nat} {acc : List (Int32 × Int32)} : pLp l A tk nx bg stp (n + 1) p acc = if tk p = true then (match A (nx p) with
      | .inl q => pLp l A tk nx bg stp n q.1 (acc ++ q.2.2 ++ [(stp, nI 0)])
      | .inr b => .inr b) else .inl (nx p, bg p, acc) := rfl
def pRow (l : Nat) (A : Nat → PR) (tk : Nat → Bool) (nx bg : Nat → Nat) (stp : Int32) (p : Nat) : PR := match A p with
  | .inl q => pLp l A tk nx bg stp (l + 1) q.1 q.2.2
  | .inr b => .inr b
theorem pLp_le {l : Nat} {A : Nat → PR} {tk : Nat → Bool} {nx bg : Nat → Nat} {stp : Int32} (hA : ∀ p, p ≤ l → PL l p (A p)) (hn : ∀ p, p ≤ l → p ≤ nx p ∧ nx p ≤ l ∧ (tk p = true → p + 1 ≤ nx p)) (p0 : Nat) : ∀ n p acc, p ≤ l → p0 + acc.length ≤ p → PL l p0 (pLp l A tk nx bg stp n p acc)
  | 0, _, _, _, _ => fun _ _ _ e => by cases e
  | n + 1, p, acc, h, ha => by
    intro p' b' ls e
    unfold pLp at e
    have h1 := hn p h
    by_cases c : tk p = true
    · rw [if_pos c] at e
      have h2 := h1.2.2 c
      rcases hr : A (nx p) with ⟨qa, qb, qc⟩ | q
      · rw [hr] at e
        have hF := hA (nx p) h1.2.1 _ _ _ hr
        exact pLp_le hA hn p0 n qa _ hF.1 (by simp only [List.length_append, List.length_cons, List.length_nil]; omega) _ _ _ e
      · rw [hr] at e; cases e
    · rw [if_neg c] at e; cases e
      exact ⟨h1.2.1, by omega⟩
theorem pRow_le {l : Nat} {A : Nat → PR} {tk : Nat → Bool} {nx bg : Nat → Nat} {stp : Int32} (hA : ∀ p, p ≤ l → PL l p (A p)) (hn : ∀ p, p ≤ l → p ≤ nx p ∧ nx p ≤ l ∧ (tk p = true → p + 1 ≤ nx p)) {p : Nat} (h : p ≤ l) : PL l p (pRow l A tk nx bg stp p) := by
  intro p' b' ls e
  unfold pRow at e
  rcases hr : A p with ⟨qa, qb, qc⟩ | q
  · rw [hr] at e
    have hF := hA p h _ _ _ hr
    exact pLp_le hA hn p _ qa qc hF.1 hF.2 _ _ _ e
  · rw [hr] at e; cases e
def pSum (T : Nat → Int32) (l : Nat) (story : Bool) (p : Nat) : PR := pRow l (pPart T l story) (fun p => m_sign T p l (nI 43)) (fun p => m_sign_f6 T p l (nI 43)) (fun p => m_sign_f8 T p l (nI 43)) (nI 12) p
theorem pSum_le {T : Nat → Int32} {l p : Nat} {story : Bool} (h : p ≤ l) : PL l p (pSum T l story p) :=
  pRow_le (fun p hp => pPart_le hp) (fun p hp => by have := sign_le (T := T) (p := p) (l := l) (c := nI 43) hp; exact ⟨by omega, this.2.2.1, fun c => by have := this.2.2.2 c; omega⟩) h

set_option maxHeartbeats 1000000 in
set_option maxRecDepth 100000 in
theorem c_m_readSum {G : UG} {adr : Nat → Nat} {h0 : Hp} {μ : Mu} (l : Nat) (h7 : μ 0 7 = nI l) (hl : l ≤ 400) (story : Bool) (h13 : μ 0 13 = b2i story) (p b d s : Nat) (W : Nat → Int32) (hp : p ≤ l) (hsp : s ≤ p) (hs : s < 400) : Con G yX6_readSum cX6_readSum 1 (some .boolean) 8 169 0 0 [.ref (adr 0)] (MS G adr h0 (ps μ p b d s W)) (Post G adr h0 μ d s W (pSum (μ 3) l story p)) nX := by
  refine con_of2 (plainFor_of_name (by decide)) rfl ?_
  intro F R Q RF RL RC RS hQ O hnh hnm
  refine x_eq (L' := [(0, .ref (adr 0))]) ?_ rfl rfl rfl
  refine x_aload_n O 0 dX6_readSum_0 rfl rfl ?_
  rcases hr1 : pPart (μ 3) l story p with ⟨p1, b1, ls1⟩ | b1
  · refine x_cV O 0 (con_ok (c_m_readPart (μ := μ) l h7 hl story h13 p b d s W (by omega) (by omega) (by omega)) hr1) MS.obj uc6 (lw_V q1906 q1908 qs52 q111 q1909) rfl hd_X6_readPart rfl (by rw [RF]; rfl) (by rw [RL]; rfl) ⟨Nat.zero_le _, Nat.zero_le _⟩ rfl rfl dX6_readSum_1 ?_
    refine x_top (v' := b2i true) rfl ?_
    have hF1 := pPart_le (T := μ 3) (story := story) (by first | exact hp | omega) _ _ _ hr1
    refine x_ifneB O 9 dX6_readSum_4 (by decide) (fun _ => ?_) (fun c => absurd rfl c)
    have LOOP9 : ∀ (n_ p_ b_ : Nat) (acc_ : List (Int32 × Int32)), l - p_ < n_ → p_ ≤ l → s + acc_.length ≤ p_ → pSum (μ 3) l story p = pLp l (pPart (μ 3) l story) (fun p => m_sign (μ 3) p l (nI 43)) (fun p => m_sign_f6 (μ 3) p l (nI 43)) (fun p => m_sign_f8 (μ 3) p l (nI 43)) (nI 12) n_ p_ acc_ → X G F R Q 1 9 [(0, .ref (adr 0))] [] (MS G adr h0 ((mc (mset (mset (mset (mset μ 0 6 (nI p_)) 0 8 (nI b_)) 0 9 (nI d)) 0 12 (nI (s + acc_.length))) 1 (em W s acc_)))) 0 0 := by
      intro n_
      induction n_ with
      | zero => intro p_ b_ acc_ h_; omega
      | succ n_ IH_ =>
        intro p_ b_ acc_ hq1_ hq2_ hq3_ hE_
        refine x_aload_n O 0 dX6_readSum_9 rfl rfl ?_
        refine x_bipush O (nI 43) dX6_readSum_10 (by decide) ?_
        refine x_cV O 1 (c_m_sign (μ := (mc (mset (mset (mset (mset μ 0 6 (nI p_)) 0 8 (nI b_)) 0 9 (nI d)) 0 12 (nI (s + acc_.length))) 1 (em W s acc_))) p_ ((congrFun (mc_n (by decide)) 6).trans ((rd_skip (by decide)).trans ((rd_skip (by decide)).trans ((rd_skip (by decide)).trans rd_hit)))) l ((congrFun (mc_n (by decide)) 7).trans ((rd_skip (by decide)).trans ((rd_skip (by decide)).trans ((rd_skip (by decide)).trans ((rd_skip (by decide)).trans h7))))) hl (by omega) (nI 43)) MS.obj uc6 (lw_V q1860 q1862 qs42 q111 q1863) rfl hd_X6_sign rfl (by rw [RF]; rfl) (by rw [RL]; rfl) ⟨Nat.zero_le _, Nat.zero_le _⟩ rfl rfl dX6_readSum_12 ?_
        refine x_top (v' := b2i (m_sign (μ 3) p_ l (nI 43))) (by rw [show (mc (mset (mset (mset (mset μ 0 6 (nI p_)) 0 8 (nI b_)) 0 9 (nI d)) 0 12 (nI (s + acc_.length))) 1 (em W s acc_)) 3 = μ 3 from ((mc_n (by decide)).trans ((mset_n (by decide)).trans ((mset_n (by decide)).trans ((mset_n (by decide)).trans (mset_n (by decide))))))]) ?_
        refine x_weak (Ω' := MS G adr h0 (mc (mset (mset (mset (mset μ 0 6 (nI (m_sign_f6 (μ 3) p_ l (nI 43)))) 0 8 (nI (m_sign_f8 (μ 3) p_ l (nI 43)))) 0 9 (nI d)) 0 12 (nI (s + acc_.length))) 1 (em W s acc_))) (fun _ m => by rw [show (mc (mset (mset (mset (mset μ 0 6 (nI p_)) 0 8 (nI b_)) 0 9 (nI d)) 0 12 (nI (s + acc_.length))) 1 (em W s acc_)) 3 = μ 3 from ((mc_n (by decide)).trans ((mset_n (by decide)).trans ((mset_n (by decide)).trans ((mset_n (by decide)).trans (mset_n (by decide))))))] at m; exact m.eq ((congrArg (fun m_ => mset m_ 0 8 _) (wc_n (by decide))).trans ((congrArg (fun m_ => mset m_ 0 8 _) (congrArg (fun m_ => mc m_ 1 _) (ff_n (by decide)))).trans ((congrArg (fun m_ => mset m_ 0 8 _) (congrArg (fun m_ => mc m_ 1 _) (congrArg (fun m_ => mset m_ 0 12 _) (ff_n (by decide))))).trans ((congrArg (fun m_ => mset m_ 0 8 _) (congrArg (fun m_ => mc m_ 1 _) (congrArg (fun m_ => mset m_ 0 12 _) (congrArg (fun m_ => mset m_ 0 9 _) (ff_n (by decide)))))).trans ((congrArg (fun m_ => mset m_ 0 8 _) (congrArg (fun m_ => mc m_ 1 _) (congrArg (fun m_ => mset m_ 0 12 _) (congrArg (fun m_ => mset m_ 0 9 _) (congrArg (fun m_ => mset m_ 0 8 _) ff_s))))).trans ((wc_n (by decide)).trans ((congrArg (fun m_ => mc m_ 1 _) (ff_n (by decide))).trans ((congrArg (fun m_ => mc m_ 1 _) (congrArg (fun m_ => mset m_ 0 12 _) (ff_n (by decide)))).trans (congrArg (fun m_ => mc m_ 1 _) (congrArg (fun m_ => mset m_ 0 12 _) (congrArg (fun m_ => mset m_ 0 9 _) ff_s)))))))))))) ?_
        have hb1 := sign_le (T := μ 3) (p := p_) (l := l) (c := nI 43) (by omega)
        refine x_ifeqB O 37 dX6_readSum_15 (by decide) (fun c15 => ?_) (fun c15 => ?_)
        · refine x_iconst O (nI 1) dX6_readSum_37 (by decide) ?_
          refine x_top (v' := b2i true) (by decide) ?_
          exact x_zretQ O hQ rfl dX6_readSum_38 (fun h m => post_ok (p' := m_sign_f6 (μ 3) p_ l (nI 43)) (b' := m_sign_f8 (μ 3) p_ l (nI 43)) (ls := acc_) (hE_.trans (by rw [pLp_s]; simp only [if_neg c15])) (by first | exact m | (simp only [em_app, List.length_append, ← Nat.add_assoc]; exact m)))
        · have hb2 := hb1.2.2.2 c15
          refine x_aload_n O 0 dX6_readSum_18 rfl rfl ?_
          rcases hr19 : pPart (μ 3) l story (m_sign_f6 (μ 3) p_ l (nI 43)) with ⟨p2, b2, ls2⟩ | b2
          · refine x_cV O 0 (con_ok (c_m_readPart (μ := μ) l h7 hl story h13 (m_sign_f6 (μ 3) p_ l (nI 43)) (m_sign_f8 (μ 3) p_ l (nI 43)) d (s + acc_.length) (em W s acc_) (by omega) (by omega) (by omega)) hr19) MS.obj uc6 (lw_V q1906 q1908 qs52 q111 q1909) rfl hd_X6_readPart rfl (by rw [RF]; rfl) (by rw [RL]; rfl) ⟨Nat.zero_le _, Nat.zero_le _⟩ rfl rfl dX6_readSum_19 ?_
            refine x_top (v' := b2i true) rfl ?_
            have hF2 := pPart_le (T := μ 3) (story := story) (by first | exact hp | omega) _ _ _ hr19
            refine x_ifneB O 27 dX6_readSum_22 (by decide) (fun _ => ?_) (fun c => absurd rfl c)
            refine x_aload_n O 0 dX6_readSum_27 rfl rfl ?_
            refine x_bipush O (nI 12) dX6_readSum_28 (by decide) ?_
            refine x_iconst O (nI 0) dX6_readSum_30 (by decide) ?_
            refine x_cV O 2 (c_m_emits (μ := (mc (mset (mset (mset (mset μ 0 6 (nI p2)) 0 8 (nI b2)) 0 9 (nI d)) 0 12 (nI (s + acc_.length + ls2.length))) 1 (em (em W s acc_) (s + acc_.length) ls2))) (s + acc_.length + ls2.length) ((congrFun (mc_n (by decide)) 12).trans rd_hit) (by omega) (nI 12) (nI 0)) MS.obj uc6 (lw_V q1887 q1889 qs48 q111 q1890) rfl hd_X6_emits rfl (by rw [RF]; rfl) (by rw [RL]; rfl) ⟨Nat.zero_le _, Nat.zero_le _⟩ rfl rfl dX6_readSum_31 ?_
            refine x_weak (Ω' := MS G adr h0 (mc (mset (mset (mset (mset μ 0 6 (nI p2)) 0 8 (nI b2)) 0 9 (nI d)) 0 12 (nI (m_emits_f12 (em (em W s acc_) (s + acc_.length) ls2) (s + acc_.length + ls2.length) (nI 12) (nI 0)))) 1 (m_emits_c1 (em (em W s acc_) (s + acc_.length) ls2) (s + acc_.length + ls2.length) (nI 12) (nI 0)))) (fun _ m => by rw [show (mc (mset (mset (mset (mset μ 0 6 (nI p2)) 0 8 (nI b2)) 0 9 (nI d)) 0 12 (nI (s + acc_.length + ls2.length))) 1 (em (em W s acc_) (s + acc_.length) ls2)) 1 = em (em W s acc_) (s + acc_.length) ls2 from mc_s] at m; exact m.eq ((congrArg (fun m_ => mc m_ 1 _) (wc_n (by decide))).trans ((congrArg (fun m_ => mc m_ 1 _) (congrArg (fun m_ => mc m_ 1 _) ff_s)).trans cc_s))) ?_
            refine x_weak (Ω' := MS G adr h0 ((mc (mset (mset (mset (mset μ 0 6 (nI p2)) 0 8 (nI b2)) 0 9 (nI d)) 0 12 (nI (s + acc_.length + ls2.length + 1))) 1 (m_emits_c1 (em (em W s acc_) (s + acc_.length) ls2) (s + acc_.length + ls2.length) (nI 12) (nI 0))))) (fun _ m => m) ?_
            refine x_goto O 9 dX6_readSum_34 (by decide) ?_
            refine x_weak (Ω' := MS G adr h0 (ps μ p2 b2 d (s + (acc_ ++ ls2 ++ [(nI 12, nI 0)]).length) (em W s (acc_ ++ ls2 ++ [(nI 12, nI 0)])))) (fun _ m => by first | exact m | (simp only [em_app, List.length_append, ← Nat.add_assoc]; exact m)) ?_
            exact IH_ p2 b2 (acc_ ++ ls2 ++ [(nI 12, nI 0)]) (by omega) (by omega) (by simp only [List.length_append, List.length_cons, List.length_nil]; omega) (hE_.trans (by rw [pLp_s]; simp only [if_pos c15, hr19]))
          · refine x_cV O 0 (con_no (c_m_readPart (μ := μ) l h7 hl story h13 (m_sign_f6 (μ 3) p_ l (nI 43)) (m_sign_f8 (μ 3) p_ l (nI 43)) d (s + acc_.length) (em W s acc_) (by omega) (by omega) (by omega)) hr19) MS.obj uc6 (lw_V q1906 q1908 qs52 q111 q1909) rfl hd_X6_readPart rfl (by rw [RF]; rfl) (by rw [RL]; rfl) ⟨Nat.zero_le _, Nat.zero_le _⟩ rfl rfl dX6_readSum_19 ?_
            refine x_top (v' := b2i false) rfl ?_
            refine x_ex4 (fun p2 d2 s2 W2 hW2 => ?_)
            refine x_ifneB O 27 dX6_readSum_22 (by decide) (fun c => absurd c (by decide)) (fun _ => ?_)
            refine x_iconst O (nI 0) dX6_readSum_25 (by decide) ?_
            refine x_top (v' := b2i false) (by decide) ?_
            exact x_zretQ O hQ rfl dX6_readSum_26 (fun h m => post_no (hE_.trans (by rw [pLp_s]; simp only [if_pos c15, hr19])) (fun j hj => by first | rfl | simp only [em_low hj, emits_low hj, hW2 j hj]) m)
    exact LOOP9 (l + 1) p1 b1 ls1 (by omega) (by omega) (by omega) (by unfold pSum pRow; simp only [hr1])
  · refine x_cV O 0 (con_no (c_m_readPart (μ := μ) l h7 hl story h13 p b d s W (by omega) (by omega) (by omega)) hr1) MS.obj uc6 (lw_V q1906 q1908 qs52 q111 q1909) rfl hd_X6_readPart rfl (by rw [RF]; rfl) (by rw [RL]; rfl) ⟨Nat.zero_le _, Nat.zero_le _⟩ rfl rfl dX6_readSum_1 ?_
    refine x_top (v' := b2i false) rfl ?_
    refine x_ex4 (fun p1 d1 s1 W1 hW1 => ?_)
    refine x_ifneB O 9 dX6_readSum_4 (by decide) (fun c => absurd c (by decide)) (fun _ => ?_)
    refine x_iconst O (nI 0) dX6_readSum_7 (by decide) ?_
    refine x_top (v' := b2i false) (by decide) ?_
    exact x_zretQ O hQ rfl dX6_readSum_8 (fun h m => post_no (by unfold pSum pRow; simp only [hr1]) (fun j hj => by first | rfl | simp only [em_low hj, emits_low hj, hW1 j hj]) m)

def m_passes (C3 : Nat → Int32) (p : Nat) (l : Nat) (w : Nat) : Bool :=
  (if m_isWord C3 (m_letters_f6 C3 p l) (m_letters_f8 C3 p l) w = true then true else false)
def m_passes_f6 (C3 : Nat → Int32) (p : Nat) (l : Nat) (w : Nat) : Nat :=
  (if m_isWord C3 (m_letters_f6 C3 p l) (m_letters_f8 C3 p l) w = true then m_letters_f6 C3 p l else m_letters_f8 C3 p l)
def m_passes_f8 (C3 : Nat → Int32) (p : Nat) (l : Nat) (w : Nat) : Nat :=
  m_letters_f8 C3 p l
set_option maxHeartbeats 1000000 in
set_option maxRecDepth 100000 in
theorem c_m_passes {G : UG} {adr : Nat → Nat} {h0 : Hp} {μ : Mu} (p : Nat) (h6 : μ 0 6 = nI p) (l : Nat) (h7 : μ 0 7 = nI l) (hl : l ≤ 400) (hpb : p ≤ l) (w : Nat) (hw : w < uSN) : Con G yX6_passes cX6_passes 2 (some .boolean) 5 108 0 0 [.ref (adr 0), .ref (uK G w)] (MS G adr h0 μ) (fun vr_ h' => vr_ = some (.int (b2i (m_passes (μ 3) p l w))) ∧ MS G adr h0 (mset (mset μ 0 6 (nI (m_passes_f6 (μ 3) p l w))) 0 8 (nI (m_passes_f8 (μ 3) p l w))) h') nX := by
  refine con_of2 (plainFor_of_name (by decide)) rfl ?_
  intro F R Q RF RL RC RS hQ O hnh hnm
  obtain ⟨res, hres⟩ : ∃ z, z = (m_passes (μ 3) p l w) := ⟨_, rfl⟩
  rw [← hres] at hQ
  unfold m_passes at hres
  obtain ⟨rs0, hrs0⟩ : ∃ z, z = m_passes_f6 (μ 3) p l w := ⟨_, rfl⟩
  rw [← hrs0] at hQ
  unfold m_passes_f6 at hrs0
  obtain ⟨rs1, hrs1⟩ : ∃ z, z = m_passes_f8 (μ 3) p l w := ⟨_, rfl⟩
  rw [← hrs1] at hQ
  unfold m_passes_f8 at hrs1
  have hb := let6_le (T := μ 3) hpb
  refine x_eq (L' := [(0, .ref (adr 0)), (1, .ref (uK G w))]) ?_ rfl rfl rfl
  refine x_aload_n O 0 dX6_passes_0 rfl rfl ?_
  refine x_cV O 0 (c_m_letters (μ := μ) p (h6) l (h7) hl hpb) MS.obj uc6 (lw_V q1877 q1879 qs46 q111 q1880) rfl hd_X6_letters rfl (by rw [RF]; rfl) (by rw [RL]; rfl) ⟨Nat.zero_le _, Nat.zero_le _⟩ rfl rfl dX6_passes_1 ?_
  refine x_weak (Ω' := MS G adr h0 (mset (mset μ 0 6 (nI (m_letters_f6 (μ 3) p l))) 0 8 (nI (m_letters_f8 (μ 3) p l)))) (fun _ m => m.eq rfl) ?_
  refine x_aload_n O 0 dX6_passes_4 rfl rfl ?_
  refine x_aload_n O 1 dX6_passes_5 rfl rfl ?_
  refine x_cV O 1 (c_m_isWord (μ := (mset (mset μ 0 6 (nI (m_letters_f6 (μ 3) p l))) 0 8 (nI (m_letters_f8 (μ 3) p l)))) (m_letters_f6 (μ 3) p l) ((rd_skip (by decide)).trans rd_hit) (m_letters_f8 (μ 3) p l) rd_hit (by omega) (by omega) w (by omega)) MS.obj uc6 (lw_V q1881 q1883 qs47 q111 q1884) rfl hd_X6_isWord rfl (by rw [RF]; rfl) (by rw [RL]; rfl) ⟨Nat.zero_le _, Nat.zero_le _⟩ rfl rfl dX6_passes_6 ?_
  refine x_top (v' := b2i (m_isWord (μ 3) (m_letters_f6 (μ 3) p l) (m_letters_f8 (μ 3) p l) w)) (by rw [show (mset (mset μ 0 6 (nI (m_letters_f6 (μ 3) p l))) 0 8 (nI (m_letters_f8 (μ 3) p l))) 3 = μ 3 from ((mset_n (by decide)).trans (mset_n (by decide)))]) ?_
  refine x_ifeqB O 14 dX6_passes_9 (by decide) (fun c9 => ?_) (fun c9 => ?_)
  · have hr1 := hres.trans (if_neg c9)
    have hr2 := hrs0.trans (if_neg c9)
    refine x_sub [0] (L' := [(0, .ref (adr 0))]) rfl ?_
    refine x_aload_n O 0 dX6_passes_14 rfl rfl ?_
    refine x_aload_n O 0 dX6_passes_15 rfl rfl ?_
    refine x_mget O k_X6_121_6 (mg_8 _ _) dX6_passes_16 ?_
    refine x_top (v' := nI (m_letters_f8 (μ 3) p l)) rd_hit ?_
    refine x_mputQ O p_X6_109_6 (mp_6 _ _ _) rfl dX6_passes_19 (μ' := (mset (mset μ 0 6 (nI (m_letters_f8 (μ 3) p l))) 0 8 (nI (m_letters_f8 (μ 3) p l)))) ((ff_n (by decide)).trans (congrArg (fun m_ => mset m_ 0 8 _) ff_s)) ?_
    refine x_iconst O (nI 0) dX6_passes_22 (by decide) ?_
    refine x_top (v' := b2i false) (by decide) ?_
    exact x_zretQ O hQ rfl dX6_passes_23 (fun h m => ⟨by rw [hr1], by rw [hr2, hrs1]; exact m.eq rfl⟩)
  · have hr3 := hres.trans (if_pos c9)
    have hr4 := hrs0.trans (if_pos c9)
    refine x_sub [0] (L' := [(0, .ref (adr 0))]) rfl ?_
    refine x_iconst O (nI 1) dX6_passes_12 (by decide) ?_
    refine x_top (v' := b2i true) (by decide) ?_
    exact x_zretQ O hQ rfl dX6_passes_13 (fun h m => ⟨by rw [hr3], by rw [hr4, hrs1]; exact m.eq rfl⟩)

theorem passes_le {T : Nat → Int32} {p l w : Nat} (h : p ≤ l) (hw : w < uSN) : p ≤ m_passes_f8 T p l w ∧ m_passes_f8 T p l w ≤ m_passes_f6 T p l w ∧ m_passes_f6 T p l w ≤ l ∧ (m_passes T p l w = true → m_passes_f8 T p l w + 2 ≤ m_passes_f6 T p l w) := by
  have hb := let6_le (T := T) h
  have h8 : m_passes_f8 T p l w = m_letters_f8 T p l := rfl
  rw [h8]
  unfold m_passes_f6 m_passes
  by_cases q : m_isWord T (m_letters_f6 T p l) (m_letters_f8 T p l) w = true
  · have := isWord_len q
    have := sN_1 w hw
    rw [if_pos q, if_pos q]
    exact ⟨hb.1, hb.2.1, hb.2.2, fun _ => by omega⟩
  · rw [if_neg q, if_neg q]
    exact ⟨hb.1, Nat.le_refl _, by omega, fun z => absurd z (by decide)⟩

def m_readTag (W : Nat → Int32) (C3 : Nat → Int32) (p : Nat) (l : Nat) (story : Bool) (st : Nat) : Bool :=
  (if 0 ≤ ((if story = true then (if m_isWord C3 (m_letters_f6 C3 p l) (m_letters_f8 C3 p l) 23 = true then nI 9 else (-1)) else (if m_isWord C3 (m_letters_f6 C3 p l) (m_letters_f8 C3 p l) 21 = true then nI 7 else (if m_isWord C3 (m_letters_f6 C3 p l) (m_letters_f8 C3 p l) 22 = true then nI 8 else (-1))))) then true else false)
def m_readTag_f6 (W : Nat → Int32) (C3 : Nat → Int32) (p : Nat) (l : Nat) (story : Bool) (st : Nat) : Nat :=
  (if 0 ≤ ((if story = true then (if m_isWord C3 (m_letters_f6 C3 p l) (m_letters_f8 C3 p l) 23 = true then nI 9 else (-1)) else (if m_isWord C3 (m_letters_f6 C3 p l) (m_letters_f8 C3 p l) 21 = true then nI 7 else (if m_isWord C3 (m_letters_f6 C3 p l) (m_letters_f8 C3 p l) 22 = true then nI 8 else (-1))))) then (if ((if story = true then (if m_isWord C3 (m_letters_f6 C3 p l) (m_letters_f8 C3 p l) 23 = true then nI 9 else (-1)) else (if m_isWord C3 (m_letters_f6 C3 p l) (m_letters_f8 C3 p l) 21 = true then nI 7 else (if m_isWord C3 (m_letters_f6 C3 p l) (m_letters_f8 C3 p l) 22 = true then nI 8 else (-1))))) = (nI 9) then m_number_f6 C3 (m_letters_f6 C3 p l) l else m_letters_f6 C3 p l) else m_letters_f8 C3 p l)
def m_readTag_f8 (W : Nat → Int32) (C3 : Nat → Int32) (p : Nat) (l : Nat) (story : Bool) (st : Nat) : Nat :=
  (if 0 ≤ ((if story = true then (if m_isWord C3 (m_letters_f6 C3 p l) (m_letters_f8 C3 p l) 23 = true then nI 9 else (-1)) else (if m_isWord C3 (m_letters_f6 C3 p l) (m_letters_f8 C3 p l) 21 = true then nI 7 else (if m_isWord C3 (m_letters_f6 C3 p l) (m_letters_f8 C3 p l) 22 = true then nI 8 else (-1))))) then (if ((if story = true then (if m_isWord C3 (m_letters_f6 C3 p l) (m_letters_f8 C3 p l) 23 = true then nI 9 else (-1)) else (if m_isWord C3 (m_letters_f6 C3 p l) (m_letters_f8 C3 p l) 21 = true then nI 7 else (if m_isWord C3 (m_letters_f6 C3 p l) (m_letters_f8 C3 p l) 22 = true then nI 8 else (-1))))) = (nI 9) then m_number_f8 C3 (m_letters_f6 C3 p l) l else m_letters_f8 C3 p l) else m_letters_f8 C3 p l)
def m_readTag_f12 (W : Nat → Int32) (C3 : Nat → Int32) (p : Nat) (l : Nat) (story : Bool) (st : Nat) : Nat :=
  (if 0 ≤ ((if story = true then (if m_isWord C3 (m_letters_f6 C3 p l) (m_letters_f8 C3 p l) 23 = true then nI 9 else (-1)) else (if m_isWord C3 (m_letters_f6 C3 p l) (m_letters_f8 C3 p l) 21 = true then nI 7 else (if m_isWord C3 (m_letters_f6 C3 p l) (m_letters_f8 C3 p l) 22 = true then nI 8 else (-1))))) then m_emits_f12 W st ((if story = true then (if m_isWord C3 (m_letters_f6 C3 p l) (m_letters_f8 C3 p l) 23 = true then nI 9 else (-1)) else (if m_isWord C3 (m_letters_f6 C3 p l) (m_letters_f8 C3 p l) 21 = true then nI 7 else (if m_isWord C3 (m_letters_f6 C3 p l) (m_letters_f8 C3 p l) 22 = true then nI 8 else (-1))))) ((if ((if story = true then (if m_isWord C3 (m_letters_f6 C3 p l) (m_letters_f8 C3 p l) 23 = true then nI 9 else (-1)) else (if m_isWord C3 (m_letters_f6 C3 p l) (m_letters_f8 C3 p l) 21 = true then nI 7 else (if m_isWord C3 (m_letters_f6 C3 p l) (m_letters_f8 C3 p l) 22 = true then nI 8 else (-1))))) = (nI 9) then m_number C3 (m_letters_f6 C3 p l) l else nI 0)) else st)
def m_readTag_c1 (W : Nat → Int32) (C3 : Nat → Int32) (p : Nat) (l : Nat) (story : Bool) (st : Nat) : Nat → Int32 :=
  (if 0 ≤ ((if story = true then (if m_isWord C3 (m_letters_f6 C3 p l) (m_letters_f8 C3 p l) 23 = true then nI 9 else (-1)) else (if m_isWord C3 (m_letters_f6 C3 p l) (m_letters_f8 C3 p l) 21 = true then nI 7 else (if m_isWord C3 (m_letters_f6 C3 p l) (m_letters_f8 C3 p l) 22 = true then nI 8 else (-1))))) then m_emits_c1 W st ((if story = true then (if m_isWord C3 (m_letters_f6 C3 p l) (m_letters_f8 C3 p l) 23 = true then nI 9 else (-1)) else (if m_isWord C3 (m_letters_f6 C3 p l) (m_letters_f8 C3 p l) 21 = true then nI 7 else (if m_isWord C3 (m_letters_f6 C3 p l) (m_letters_f8 C3 p l) 22 = true then nI 8 else (-1))))) ((if ((if story = true then (if m_isWord C3 (m_letters_f6 C3 p l) (m_letters_f8 C3 p l) 23 = true then nI 9 else (-1)) else (if m_isWord C3 (m_letters_f6 C3 p l) (m_letters_f8 C3 p l) 21 = true then nI 7 else (if m_isWord C3 (m_letters_f6 C3 p l) (m_letters_f8 C3 p l) 22 = true then nI 8 else (-1))))) = (nI 9) then m_number C3 (m_letters_f6 C3 p l) l else nI 0)) else W)
set_option maxHeartbeats 1000000 in
set_option maxRecDepth 100000 in
theorem c_m_readTag {G : UG} {adr : Nat → Nat} {h0 : Hp} {μ : Mu} (p : Nat) (h6 : μ 0 6 = nI p) (l : Nat) (h7 : μ 0 7 = nI l) (story : Bool) (h13 : μ 0 13 = b2i story) (st : Nat) (h12 : μ 0 12 = nI st) (hl : l ≤ 400) (hpb : p ≤ l) (hst : st < 400)   : Con G yX6_readTag cX6_readTag 2 (some .boolean) 5 108 0 0 [.ref (adr 0)] (MS G adr h0 μ) (fun vr_ h' => vr_ = some (.int (b2i (m_readTag (μ 1) (μ 3) p l story st))) ∧ MS G adr h0 (mc (mset (mset (mset μ 0 6 (nI (m_readTag_f6 (μ 1) (μ 3) p l story st))) 0 8 (nI (m_readTag_f8 (μ 1) (μ 3) p l story st))) 0 12 (nI (m_readTag_f12 (μ 1) (μ 3) p l story st))) 1 (m_readTag_c1 (μ 1) (μ 3) p l story st)) h') nX := by
  refine con_of2 (plainFor_of_name (by decide)) rfl ?_
  intro F R Q RF RL RC RS hQ O hnh hnm
  obtain ⟨res, hres⟩ : ∃ z, z = (m_readTag (μ 1) (μ 3) p l story st) := ⟨_, rfl⟩
  rw [← hres] at hQ
  unfold m_readTag at hres
  obtain ⟨rs0, hrs0⟩ : ∃ z, z = m_readTag_f6 (μ 1) (μ 3) p l story st := ⟨_, rfl⟩
  rw [← hrs0] at hQ
  unfold m_readTag_f6 at hrs0
  obtain ⟨rs1, hrs1⟩ : ∃ z, z = m_readTag_f8 (μ 1) (μ 3) p l story st := ⟨_, rfl⟩
  rw [← hrs1] at hQ
  unfold m_readTag_f8 at hrs1
  obtain ⟨rs2, hrs2⟩ : ∃ z, z = m_readTag_f12 (μ 1) (μ 3) p l story st := ⟨_, rfl⟩
  rw [← hrs2] at hQ
  unfold m_readTag_f12 at hrs2
  obtain ⟨rs3, hrs3⟩ : ∃ z, z = m_readTag_c1 (μ 1) (μ 3) p l story st := ⟨_, rfl⟩
  rw [← hrs3] at hQ
  unfold m_readTag_c1 at hrs3
  have hb := let6_le (T := μ 3) hpb
  refine x_eq (L' := [(0, .ref (adr 0))]) ?_ rfl rfl rfl
  refine x_aload_n O 0 dX6_readTag_0 rfl rfl ?_
  refine x_cV O 0 (c_m_letters (μ := μ) p (h6) l (h7) hl hpb) MS.obj uc6 (lw_V q1877 q1879 qs46 q111 q1880) rfl hd_X6_letters rfl (by rw [RF]; rfl) (by rw [RL]; rfl) ⟨Nat.zero_le _, Nat.zero_le _⟩ rfl rfl dX6_readTag_1 ?_
  refine x_weak (Ω' := MS G adr h0 (mset (mset μ 0 6 (nI (m_letters_f6 (μ 3) p l))) 0 8 (nI (m_letters_f8 (μ 3) p l)))) (fun _ m => m.eq rfl) ?_
  refine x_aload_n O 0 dX6_readTag_4 rfl rfl ?_
  refine x_mget O k_X6_151_6 (mg_13 _ _) dX6_readTag_5 ?_
  refine x_top (v' := b2i story) ((rd_skip (by decide)).trans ((rd_skip (by decide)).trans (h13))) ?_
  have J5 : ∀ (y1 : Int32), y1 = (if story = true then (if m_isWord (μ 3) (m_letters_f6 (μ 3) p l) (m_letters_f8 (μ 3) p l) 23 = true then nI 9 else (-1)) else (if m_isWord (μ 3) (m_letters_f6 (μ 3) p l) (m_letters_f8 (μ 3) p l) 21 = true then nI 7 else (if m_isWord (μ 3) (m_letters_f6 (μ 3) p l) (m_letters_f8 (μ 3) p l) 22 = true then nI 8 else (-1)))) → X G F R Q 2 58 [(0, .ref (adr 0))] [.int y1] (MS G adr h0 ((mset (mset μ 0 6 (nI (m_letters_f6 (μ 3) p l))) 0 8 (nI (m_letters_f8 (μ 3) p l))))) 0 0 := by
    intro y1 e6
    subst e6
    refine x_istore_n O [(1, .int ((if story = true then (if m_isWord (μ 3) (m_letters_f6 (μ 3) p l) (m_letters_f8 (μ 3) p l) 23 = true then nI 9 else (-1)) else (if m_isWord (μ 3) (m_letters_f6 (μ 3) p l) (m_letters_f8 (μ 3) p l) 21 = true then nI 7 else (if m_isWord (μ 3) (m_letters_f6 (μ 3) p l) (m_letters_f8 (μ 3) p l) 22 = true then nI 8 else (-1)))))), (0, .ref (adr 0))] dX6_readTag_58 rfl rfl rfl ?_
    refine x_iload_n O 0 dX6_readTag_59 rfl rfl ?_
    refine x_ifge O 73 dX6_readTag_60 (by decide) (fun c60 => ?_) (fun c60 => ?_)
    · have hr7 := hres.trans (if_pos c60)
      have hr8 := hrs0.trans (if_pos c60)
      have hr9 := hrs1.trans (if_pos c60)
      have hr10 := hrs2.trans (if_pos c60)
      have hr11 := hrs3.trans (if_pos c60)
      refine x_aload_n O 1 dX6_readTag_73 rfl rfl ?_
      refine x_iload_n O 0 dX6_readTag_74 rfl rfl ?_
      refine x_iload_n O 0 dX6_readTag_75 rfl rfl ?_
      refine x_bipush O (nI 9) dX6_readTag_76 (by decide) ?_
      have J12 : ∀ (y2 : Int32) (y3 : Nat) (y4 : Nat), y2 = (if ((if story = true then (if m_isWord (μ 3) (m_letters_f6 (μ 3) p l) (m_letters_f8 (μ 3) p l) 23 = true then nI 9 else (-1)) else (if m_isWord (μ 3) (m_letters_f6 (μ 3) p l) (m_letters_f8 (μ 3) p l) 21 = true then nI 7 else (if m_isWord (μ 3) (m_letters_f6 (μ 3) p l) (m_letters_f8 (μ 3) p l) 22 = true then nI 8 else (-1))))) = (nI 9) then m_number (μ 3) (m_letters_f6 (μ 3) p l) l else nI 0) → y3 = (if ((if story = true then (if m_isWord (μ 3) (m_letters_f6 (μ 3) p l) (m_letters_f8 (μ 3) p l) 23 = true then nI 9 else (-1)) else (if m_isWord (μ 3) (m_letters_f6 (μ 3) p l) (m_letters_f8 (μ 3) p l) 21 = true then nI 7 else (if m_isWord (μ 3) (m_letters_f6 (μ 3) p l) (m_letters_f8 (μ 3) p l) 22 = true then nI 8 else (-1))))) = (nI 9) then m_number_f6 (μ 3) (m_letters_f6 (μ 3) p l) l else m_letters_f6 (μ 3) p l) → y4 = (if ((if story = true then (if m_isWord (μ 3) (m_letters_f6 (μ 3) p l) (m_letters_f8 (μ 3) p l) 23 = true then nI 9 else (-1)) else (if m_isWord (μ 3) (m_letters_f6 (μ 3) p l) (m_letters_f8 (μ 3) p l) 21 = true then nI 7 else (if m_isWord (μ 3) (m_letters_f6 (μ 3) p l) (m_letters_f8 (μ 3) p l) 22 = true then nI 8 else (-1))))) = (nI 9) then m_number_f8 (μ 3) (m_letters_f6 (μ 3) p l) l else m_letters_f8 (μ 3) p l) → X G F R Q 2 89 [(0, .ref (adr 0))] [.int y2, .int ((if story = true then (if m_isWord (μ 3) (m_letters_f6 (μ 3) p l) (m_letters_f8 (μ 3) p l) 23 = true then nI 9 else (-1)) else (if m_isWord (μ 3) (m_letters_f6 (μ 3) p l) (m_letters_f8 (μ 3) p l) 21 = true then nI 7 else (if m_isWord (μ 3) (m_letters_f6 (μ 3) p l) (m_letters_f8 (μ 3) p l) 22 = true then nI 8 else (-1))))), .ref (adr 0)] (MS G adr h0 ((mset (mset μ 0 6 (nI y3)) 0 8 (nI y4)))) 0 0 := by
        intro y2 y3 y4 e13 e14 e15
        subst e13; subst e14; subst e15
        refine x_cV O 2 (c_m_emits (μ := (mset (mset μ 0 6 (nI ((if ((if story = true then (if m_isWord (μ 3) (m_letters_f6 (μ 3) p l) (m_letters_f8 (μ 3) p l) 23 = true then nI 9 else (-1)) else (if m_isWord (μ 3) (m_letters_f6 (μ 3) p l) (m_letters_f8 (μ 3) p l) 21 = true then nI 7 else (if m_isWord (μ 3) (m_letters_f6 (μ 3) p l) (m_letters_f8 (μ 3) p l) 22 = true then nI 8 else (-1))))) = (nI 9) then m_number_f6 (μ 3) (m_letters_f6 (μ 3) p l) l else m_letters_f6 (μ 3) p l)))) 0 8 (nI ((if ((if story = true then (if m_isWord (μ 3) (m_letters_f6 (μ 3) p l) (m_letters_f8 (μ 3) p l) 23 = true then nI 9 else (-1)) else (if m_isWord (μ 3) (m_letters_f6 (μ 3) p l) (m_letters_f8 (μ 3) p l) 21 = true then nI 7 else (if m_isWord (μ 3) (m_letters_f6 (μ 3) p l) (m_letters_f8 (μ 3) p l) 22 = true then nI 8 else (-1))))) = (nI 9) then m_number_f8 (μ 3) (m_letters_f6 (μ 3) p l) l else m_letters_f8 (μ 3) p l))))) st ((rd_skip (by decide)).trans ((rd_skip (by decide)).trans (h12))) hst ((if story = true then (if m_isWord (μ 3) (m_letters_f6 (μ 3) p l) (m_letters_f8 (μ 3) p l) 23 = true then nI 9 else (-1)) else (if m_isWord (μ 3) (m_letters_f6 (μ 3) p l) (m_letters_f8 (μ 3) p l) 21 = true then nI 7 else (if m_isWord (μ 3) (m_letters_f6 (μ 3) p l) (m_letters_f8 (μ 3) p l) 22 = true then nI 8 else (-1))))) ((if ((if story = true then (if m_isWord (μ 3) (m_letters_f6 (μ 3) p l) (m_letters_f8 (μ 3) p l) 23 = true then nI 9 else (-1)) else (if m_isWord (μ 3) (m_letters_f6 (μ 3) p l) (m_letters_f8 (μ 3) p l) 21 = true then nI 7 else (if m_isWord (μ 3) (m_letters_f6 (μ 3) p l) (m_letters_f8 (μ 3) p l) 22 = true then nI 8 else (-1))))) = (nI 9) then m_number (μ 3) (m_letters_f6 (μ 3) p l) l else nI 0))) MS.obj uc6 (lw_V q1887 q1889 qs48 q111 q1890) rfl hd_X6_emits rfl (by rw [RF]; rfl) (by rw [RL]; rfl) ⟨Nat.zero_le _, Nat.zero_le _⟩ rfl rfl dX6_readTag_89 ?_
        refine x_weak (Ω' := MS G adr h0 (mc (mset (mset (mset μ 0 6 (nI ((if ((if story = true then (if m_isWord (μ 3) (m_letters_f6 (μ 3) p l) (m_letters_f8 (μ 3) p l) 23 = true then nI 9 else (-1)) else (if m_isWord (μ 3) (m_letters_f6 (μ 3) p l) (m_letters_f8 (μ 3) p l) 21 = true then nI 7 else (if m_isWord (μ 3) (m_letters_f6 (μ 3) p l) (m_letters_f8 (μ 3) p l) 22 = true then nI 8 else (-1))))) = (nI 9) then m_number_f6 (μ 3) (m_letters_f6 (μ 3) p l) l else m_letters_f6 (μ 3) p l)))) 0 8 (nI ((if ((if story = true then (if m_isWord (μ 3) (m_letters_f6 (μ 3) p l) (m_letters_f8 (μ 3) p l) 23 = true then nI 9 else (-1)) else (if m_isWord (μ 3) (m_letters_f6 (μ 3) p l) (m_letters_f8 (μ 3) p l) 21 = true then nI 7 else (if m_isWord (μ 3) (m_letters_f6 (μ 3) p l) (m_letters_f8 (μ 3) p l) 22 = true then nI 8 else (-1))))) = (nI 9) then m_number_f8 (μ 3) (m_letters_f6 (μ 3) p l) l else m_letters_f8 (μ 3) p l)))) 0 12 (nI (m_emits_f12 (μ 1) st ((if story = true then (if m_isWord (μ 3) (m_letters_f6 (μ 3) p l) (m_letters_f8 (μ 3) p l) 23 = true then nI 9 else (-1)) else (if m_isWord (μ 3) (m_letters_f6 (μ 3) p l) (m_letters_f8 (μ 3) p l) 21 = true then nI 7 else (if m_isWord (μ 3) (m_letters_f6 (μ 3) p l) (m_letters_f8 (μ 3) p l) 22 = true then nI 8 else (-1))))) ((if ((if story = true then (if m_isWord (μ 3) (m_letters_f6 (μ 3) p l) (m_letters_f8 (μ 3) p l) 23 = true then nI 9 else (-1)) else (if m_isWord (μ 3) (m_letters_f6 (μ 3) p l) (m_letters_f8 (μ 3) p l) 21 = true then nI 7 else (if m_isWord (μ 3) (m_letters_f6 (μ 3) p l) (m_letters_f8 (μ 3) p l) 22 = true then nI 8 else (-1))))) = (nI 9) then m_number (μ 3) (m_letters_f6 (μ 3) p l) l else nI 0))))) 1 (m_emits_c1 (μ 1) st ((if story = true then (if m_isWord (μ 3) (m_letters_f6 (μ 3) p l) (m_letters_f8 (μ 3) p l) 23 = true then nI 9 else (-1)) else (if m_isWord (μ 3) (m_letters_f6 (μ 3) p l) (m_letters_f8 (μ 3) p l) 21 = true then nI 7 else (if m_isWord (μ 3) (m_letters_f6 (μ 3) p l) (m_letters_f8 (μ 3) p l) 22 = true then nI 8 else (-1))))) ((if ((if story = true then (if m_isWord (μ 3) (m_letters_f6 (μ 3) p l) (m_letters_f8 (μ 3) p l) 23 = true then nI 9 else (-1)) else (if m_isWord (μ 3) (m_letters_f6 (μ 3) p l) (m_letters_f8 (μ 3) p l) 21 = true then nI 7 else (if m_isWord (μ 3) (m_letters_f6 (μ 3) p l) (m_letters_f8 (μ 3) p l) 22 = true then nI 8 else (-1))))) = (nI 9) then m_number (μ 3) (m_letters_f6 (μ 3) p l) l else nI 0))))) (fun _ m => by rw [show (mset (mset μ 0 6 (nI ((if ((if story = true then (if m_isWord (μ 3) (m_letters_f6 (μ 3) p l) (m_letters_f8 (μ 3) p l) 23 = true then nI 9 else (-1)) else (if m_isWord (μ 3) (m_letters_f6 (μ 3) p l) (m_letters_f8 (μ 3) p l) 21 = true then nI 7 else (if m_isWord (μ 3) (m_letters_f6 (μ 3) p l) (m_letters_f8 (μ 3) p l) 22 = true then nI 8 else (-1))))) = (nI 9) then m_number_f6 (μ 3) (m_letters_f6 (μ 3) p l) l else m_letters_f6 (μ 3) p l)))) 0 8 (nI ((if ((if story = true then (if m_isWord (μ 3) (m_letters_f6 (μ 3) p l) (m_letters_f8 (μ 3) p l) 23 = true then nI 9 else (-1)) else (if m_isWord (μ 3) (m_letters_f6 (μ 3) p l) (m_letters_f8 (μ 3) p l) 21 = true then nI 7 else (if m_isWord (μ 3) (m_letters_f6 (μ 3) p l) (m_letters_f8 (μ 3) p l) 22 = true then nI 8 else (-1))))) = (nI 9) then m_number_f8 (μ 3) (m_letters_f6 (μ 3) p l) l else m_letters_f8 (μ 3) p l)))) 1 = μ 1 from ((mset_n (by decide)).trans (mset_n (by decide)))] at m; exact m.eq rfl) ?_
        refine x_iconst O (nI 1) dX6_readTag_92 (by decide) ?_
        refine x_top (v' := b2i true) (by decide) ?_
        exact x_zretQ O hQ rfl dX6_readTag_93 (fun h m => ⟨by rw [hr7], by rw [hr8, hr9, hr10, hr11]; exact m.eq rfl⟩)
      refine x_icmpne O 88 dX6_readTag_78 (by decide) (fun c78 => ?_) (fun c78 => ?_)
      · refine x_sub [1] (L' := [(0, .ref (adr 0))]) rfl ?_
        refine x_iconst O (nI 0) dX6_readTag_88 (by decide) ?_
        exact J12 (nI 0) (m_letters_f6 (μ 3) p l) (m_letters_f8 (μ 3) p l) (by rw [if_neg c78]) (by rw [if_neg c78]) (by rw [if_neg c78])
      · refine x_sub [1] (L' := [(0, .ref (adr 0))]) rfl ?_
        refine x_aload_n O 0 dX6_readTag_81 rfl rfl ?_
        refine x_cV O 0 (c_m_number (μ := (mset (mset μ 0 6 (nI (m_letters_f6 (μ 3) p l))) 0 8 (nI (m_letters_f8 (μ 3) p l)))) (m_letters_f6 (μ 3) p l) ((rd_skip (by decide)).trans rd_hit) l ((rd_skip (by decide)).trans ((rd_skip (by decide)).trans (h7))) hl (by omega)) MS.obj uc6 (lw_V q1898 q1900 qs50 q111 q1901) rfl hd_X6_number rfl (by rw [RF]; rfl) (by rw [RL]; rfl) ⟨Nat.zero_le _, Nat.zero_le _⟩ rfl rfl dX6_readTag_82 ?_
        refine x_top (v' := m_number (μ 3) (m_letters_f6 (μ 3) p l) l) (by rw [show (mset (mset μ 0 6 (nI (m_letters_f6 (μ 3) p l))) 0 8 (nI (m_letters_f8 (μ 3) p l))) 3 = μ 3 from ((mset_n (by decide)).trans (mset_n (by decide)))]) ?_
        refine x_weak (Ω' := MS G adr h0 (mset (mset μ 0 6 (nI (m_number_f6 (μ 3) (m_letters_f6 (μ 3) p l) l))) 0 8 (nI (m_number_f8 (μ 3) (m_letters_f6 (μ 3) p l) l)))) (fun _ m => by rw [show (mset (mset μ 0 6 (nI (m_letters_f6 (μ 3) p l))) 0 8 (nI (m_letters_f8 (μ 3) p l))) 3 = μ 3 from ((mset_n (by decide)).trans (mset_n (by decide)))] at m; exact m.eq ((congrArg (fun m_ => mset m_ 0 8 _) (ff_n (by decide))).trans ((congrArg (fun m_ => mset m_ 0 8 _) (congrArg (fun m_ => mset m_ 0 8 _) ff_s)).trans ff_s))) ?_
        refine x_goto O 89 dX6_readTag_85 (by decide) ?_
        exact J12 (m_number (μ 3) (m_letters_f6 (μ 3) p l) l) (m_number_f6 (μ 3) (m_letters_f6 (μ 3) p l) l) (m_number_f8 (μ 3) (m_letters_f6 (μ 3) p l) l) (by rw [if_pos c78]) (by rw [if_pos c78]) (by rw [if_pos c78])
    · have hr16 := hres.trans (if_neg c60)
      have hr17 := hrs0.trans (if_neg c60)
      have hr18 := hrs1.trans (if_neg c60)
      have hr19 := hrs2.trans (if_neg c60)
      have hr20 := hrs3.trans (if_neg c60)
      refine x_sub [1] (L' := [(0, .ref (adr 0))]) rfl ?_
      refine x_aload_n O 0 dX6_readTag_63 rfl rfl ?_
      refine x_aload_n O 0 dX6_readTag_64 rfl rfl ?_
      refine x_mget O k_X6_121_6 (mg_8 _ _) dX6_readTag_65 ?_
      refine x_top (v' := nI (m_letters_f8 (μ 3) p l)) rd_hit ?_
      refine x_mputQ O p_X6_109_6 (mp_6 _ _ _) rfl dX6_readTag_68 (μ' := (mset (mset μ 0 6 (nI (m_letters_f8 (μ 3) p l))) 0 8 (nI (m_letters_f8 (μ 3) p l)))) ((ff_n (by decide)).trans (congrArg (fun m_ => mset m_ 0 8 _) ff_s)) ?_
      refine x_iconst O (nI 0) dX6_readTag_71 (by decide) ?_
      refine x_top (v' := b2i false) (by decide) ?_
      exact x_zretQ O hQ rfl dX6_readTag_72 (fun h m => ⟨by rw [hr16], by rw [hr17, hr18, hr19, hr20]; exact m.eq ((mf_id (k := 12) (v := nI st) (by exact (h12))).symm.trans (mc_id (c := 1) (f := μ 1) (by rfl)).symm)⟩)
  refine x_ifeqB O 29 dX6_readTag_8 (by decide) (fun c8 => ?_) (fun c8 => ?_)
  · refine x_aload_n O 0 dX6_readTag_29 rfl rfl ?_
    refine x_ldcS O (i := 21) (tx := "armed") (List.mem_of_getElem? (i := 28) rfl) dX6_readTag_30 ?_
    refine x_cV O 1 (c_m_isWord (μ := (mset (mset μ 0 6 (nI (m_letters_f6 (μ 3) p l))) 0 8 (nI (m_letters_f8 (μ 3) p l)))) (m_letters_f6 (μ 3) p l) ((rd_skip (by decide)).trans rd_hit) (m_letters_f8 (μ 3) p l) rd_hit (by omega) (by omega) 21 (by decide)) MS.obj uc6 (lw_V q1881 q1883 qs47 q111 q1884) rfl hd_X6_isWord rfl (by rw [RF]; rfl) (by rw [RL]; rfl) ⟨Nat.zero_le _, Nat.zero_le _⟩ rfl rfl dX6_readTag_32 ?_
    refine x_top (v' := b2i (m_isWord (μ 3) (m_letters_f6 (μ 3) p l) (m_letters_f8 (μ 3) p l) 21)) (by rw [show (mset (mset μ 0 6 (nI (m_letters_f6 (μ 3) p l))) 0 8 (nI (m_letters_f8 (μ 3) p l))) 3 = μ 3 from ((mset_n (by decide)).trans (mset_n (by decide)))]) ?_
    refine x_ifeqB O 43 dX6_readTag_35 (by decide) (fun c35 => ?_) (fun c35 => ?_)
    · refine x_aload_n O 0 dX6_readTag_43 rfl rfl ?_
      refine x_ldcS O (i := 22) (tx := "alone") (List.mem_of_getElem? (i := 29) rfl) dX6_readTag_44 ?_
      refine x_cV O 1 (c_m_isWord (μ := (mset (mset μ 0 6 (nI (m_letters_f6 (μ 3) p l))) 0 8 (nI (m_letters_f8 (μ 3) p l)))) (m_letters_f6 (μ 3) p l) ((rd_skip (by decide)).trans rd_hit) (m_letters_f8 (μ 3) p l) rd_hit (by omega) (by omega) 22 (by decide)) MS.obj uc6 (lw_V q1881 q1883 qs47 q111 q1884) rfl hd_X6_isWord rfl (by rw [RF]; rfl) (by rw [RL]; rfl) ⟨Nat.zero_le _, Nat.zero_le _⟩ rfl rfl dX6_readTag_46 ?_
      refine x_top (v' := b2i (m_isWord (μ 3) (m_letters_f6 (μ 3) p l) (m_letters_f8 (μ 3) p l) 22)) (by rw [show (mset (mset μ 0 6 (nI (m_letters_f6 (μ 3) p l))) 0 8 (nI (m_letters_f8 (μ 3) p l))) 3 = μ 3 from ((mset_n (by decide)).trans (mset_n (by decide)))]) ?_
      refine x_ifeqB O 57 dX6_readTag_49 (by decide) (fun c49 => ?_) (fun c49 => ?_)
      · refine x_iconst O ((-1)) dX6_readTag_57 (by decide) ?_
        exact J5 ((-1)) (by first | (rw [if_neg c8, if_neg c35, if_neg c49]; done) | simp only [if_neg c8, if_neg c35, if_neg c49])
      · refine x_bipush O (nI 8) dX6_readTag_52 (by decide) ?_
        refine x_goto O 58 dX6_readTag_54 (by decide) ?_
        exact J5 (nI 8) (by first | (rw [if_neg c8, if_neg c35, if_pos c49]; done) | simp only [if_neg c8, if_neg c35, if_pos c49])
    · refine x_bipush O (nI 7) dX6_readTag_38 (by decide) ?_
      refine x_goto O 58 dX6_readTag_40 (by decide) ?_
      exact J5 (nI 7) (by first | (rw [if_neg c8, if_pos c35]; done) | simp only [if_neg c8, if_pos c35])
  · refine x_aload_n O 0 dX6_readTag_11 rfl rfl ?_
    refine x_ldcS O (i := 23) (tx := "held") (List.mem_of_getElem? (i := 27) rfl) dX6_readTag_12 ?_
    refine x_cV O 1 (c_m_isWord (μ := (mset (mset μ 0 6 (nI (m_letters_f6 (μ 3) p l))) 0 8 (nI (m_letters_f8 (μ 3) p l)))) (m_letters_f6 (μ 3) p l) ((rd_skip (by decide)).trans rd_hit) (m_letters_f8 (μ 3) p l) rd_hit (by omega) (by omega) 23 (by decide)) MS.obj uc6 (lw_V q1881 q1883 qs47 q111 q1884) rfl hd_X6_isWord rfl (by rw [RF]; rfl) (by rw [RL]; rfl) ⟨Nat.zero_le _, Nat.zero_le _⟩ rfl rfl dX6_readTag_14 ?_
    refine x_top (v' := b2i (m_isWord (μ 3) (m_letters_f6 (μ 3) p l) (m_letters_f8 (μ 3) p l) 23)) (by rw [show (mset (mset μ 0 6 (nI (m_letters_f6 (μ 3) p l))) 0 8 (nI (m_letters_f8 (μ 3) p l))) 3 = μ 3 from ((mset_n (by decide)).trans (mset_n (by decide)))]) ?_
    refine x_ifeqB O 25 dX6_readTag_17 (by decide) (fun c17 => ?_) (fun c17 => ?_)
    · refine x_iconst O ((-1)) dX6_readTag_25 (by decide) ?_
      refine x_goto O 58 dX6_readTag_26 (by decide) ?_
      exact J5 ((-1)) (by first | (rw [if_pos c8, if_neg c17]; done) | simp only [if_pos c8, if_neg c17])
    · refine x_bipush O (nI 9) dX6_readTag_20 (by decide) ?_
      refine x_goto O 58 dX6_readTag_22 (by decide) ?_
      exact J5 (nI 9) (by first | (rw [if_pos c8, if_pos c17]; done) | simp only [if_pos c8, if_pos c17])
