def pAll (T : Nat → Int32) (l : Nat) (A : Nat → PR) (p : Nat) : PR := pRow l A (fun p => m_passes T p l 24) (fun p => m_passes_f6 T p l 24) (fun p => m_passes_f8 T p l 24) (nI 16) p
def pOr (T : Nat → Int32) (l : Nat) (A : Nat → PR) (p : Nat) : PR := pRow l A (fun p => m_passes T p l 25) (fun p => m_passes_f6 T p l 25) (fun p => m_passes_f8 T p l 25) (nI 17) p
theorem pAll_le {T : Nat → Int32} {l : Nat} {A : Nat → PR} (hA : ∀ p, p ≤ l → PL l p (A p)) : ∀ p, p ≤ l → PL l p (pAll T l A p) := fun p h =>
  pRow_le hA (fun p hp => by have := passes_le (T := T) (p := p) (l := l) (w := 24) hp (by decide); exact ⟨by omega, this.2.2.1, fun c => by have := this.2.2.2 c; omega⟩) h
theorem pOr_le {T : Nat → Int32} {l : Nat} {A : Nat → PR} (hA : ∀ p, p ≤ l → PL l p (A p)) : ∀ p, p ≤ l → PL l p (pOr T l A p) := fun p h =>
  pRow_le hA (fun p hp => by have := passes_le (T := T) (p := p) (l := l) (w := 25) hp (by decide); exact ⟨by omega, this.2.2.1, fun c => by have := this.2.2.2 c; omega⟩) h
theorem PLl {l p : Nat} {r : PR} (h : PL l p r) {p' b' : Nat} {ls : List (Int32 × Int32)} (e : r = .inl (p', b', ls)) : p' ≤ l ∧ p + ls.length ≤ p' := h _ _ _ e
theorem pAtomB_le {T : Nat → Int32} {l : Nat} {story : Bool} {deep : Option ((Nat → PR) × (Nat → PR))} (hD : ∀ D, deep = some D → (∀ p, p ≤ l → PL l p (D.1 p)) ∧ (∀ p, p ≤ l → PL l p (D.2 p))) : ∀ p, p ≤ l → PL l p (pAtomB T l story deep p) := by
  intro p h p' b' ls e
  unfold pAtomB at e
  have h1 := sign_le (T := T) (p := p) (l := l) (c := nI 40) h
  by_cases c1 : m_sign T p l (nI 40) = true
  · simp only [if_pos c1] at e
    have h2 := h1.2.2.2 c1
    cases deep with
    | none => cases e
    | some D =>
      simp only at e
      rcases hr : D.1 (m_sign_f6 T p l (nI 40)) with ⟨qa, qb, qc⟩ | q
      · simp only [hr] at e
        have hF := PLl ((hD D rfl).1 _ h1.2.2.1) hr
        have h3 := sign_le (T := T) (p := qa) (l := l) (c := nI 41) hF.1
        by_cases c2 : m_sign T qa l (nI 41) = true
        · simp only [if_pos c2] at e; cases e; exact ⟨h3.2.2.1, by omega⟩
        · simp only [if_neg c2] at e; cases e
      · simp only [hr] at e; cases e
  · simp only [if_neg c1] at e
    have h2 := passes_le (T := T) (p := m_sign_f6 T p l (nI 40)) (l := l) (w := 20) h1.2.2.1 (by decide)
    by_cases c2 : m_passes T (m_sign_f6 T p l (nI 40)) l 20 = true
    · simp only [if_pos c2] at e
      have h3 := h2.2.2.2 c2
      cases deep with
      | none => cases e
      | some D =>
        simp only at e
        rcases hr : D.2 (m_passes_f6 T (m_sign_f6 T p l (nI 40)) l 20) with ⟨qa, qb, qc⟩ | q
        · simp only [hr] at e; cases e
          have hF := PLl ((hD D rfl).2 _ h2.2.2.1) hr
          refine ⟨hF.1, ?_⟩
          simp only [List.length_append, List.length_cons, List.length_nil]; omega
        · simp only [hr] at e; cases e
    · simp only [if_neg c2] at e
      by_cases c3 : 0 ≤ tgT T (m_passes_f6 T (m_sign_f6 T p l (nI 40)) l 20) l story
      · simp only [if_pos c3] at e
        have h3 := tg_le (T := T) (p := m_passes_f6 T (m_sign_f6 T p l (nI 40)) l 20) (l := l) (story := story) h2.2.2.1 c3
        by_cases c4 : tgV T (m_passes_f6 T (m_sign_f6 T p l (nI 40)) l 20) l story < 0
        · simp only [if_pos c4] at e; cases e
        · simp only [if_neg c4] at e; cases e
          refine ⟨h3.2.1, ?_⟩
          simp only [List.length_cons, List.length_nil]; omega
      · simp only [if_neg c3] at e
        have h3 := let6_le (T := T) (p := m_passes_f6 T (m_sign_f6 T p l (nI 40)) l 20) (l := l) h2.2.2.1
        rcases hr : pSum T l story (m_letters_f8 T (m_passes_f6 T (m_sign_f6 T p l (nI 40)) l 20) l) with ⟨qa, qb, qc⟩ | q
        · simp only [hr] at e
          have hF := PLl (pSum_le (T := T) (story := story) (by omega)) hr
          have h4 := sign_le (T := T) (p := qa) (l := l) (c := nI 60) hF.1
          by_cases c4 : m_sign T qa l (nI 60) = true
          · simp only [if_pos c4] at e
            have h5 := h4.2.2.2 c4
            rcases hr2 : pSum T l story (m_sign_f6 T qa l (nI 60)) with ⟨ra, rb, rc⟩ | q
            · simp only [hr2] at e; cases e
              have hG := PLl (pSum_le (T := T) (story := story) h4.2.2.1) hr2
              refine ⟨hG.1, ?_⟩
              simp only [List.length_append, List.length_cons, List.length_nil]; omega
            · simp only [hr2] at e; cases e
          · simp only [if_neg c4] at e
            have h6 := sign_le (T := T) (p := m_sign_f6 T qa l (nI 60)) (l := l) (c := nI 62) h4.2.2.1
            by_cases c5 : m_sign T (m_sign_f6 T qa l (nI 60)) l (nI 62) = true
            · simp only [if_pos c5] at e
              have h5 := h6.2.2.2 c5
              rcases hr2 : pSum T l story (m_sign_f6 T (m_sign_f6 T qa l (nI 60)) l (nI 62)) with ⟨ra, rb, rc⟩ | q
              · simp only [hr2] at e; cases e
                have hG := PLl (pSum_le (T := T) (story := story) h6.2.2.1) hr2
                refine ⟨hG.1, ?_⟩
                simp only [List.length_append, List.length_cons, List.length_nil]; omega
              · simp only [hr2] at e; cases e
            · simp only [if_neg c5] at e; cases e
        · simp only [hr] at e; cases e
def pAtom (T : Nat → Int32) (l : Nat) (story : Bool) : Nat → Nat → PR
  | 0 => pAtomB T l story none
  | n + 1 => pAtomB T l story (some (pOr T l (pAll T l (pAtom T l story n)), pAtom T l story n))
def pCond (T : Nat → Int32) (l : Nat) (story : Bool) (n : Nat) : Nat → PR := pOr T l (pAll T l (pAtom T l story n))
theorem pAtom_le {T : Nat → Int32} {l : Nat} {story : Bool} : ∀ n p, p ≤ l → PL l p (pAtom T l story n p)
  | 0 => pAtomB_le (fun D h => by cases h)
  | n + 1 => pAtomB_le (fun D h => by cases h; exact ⟨pOr_le (pAll_le (pAtom_le n)), pAtom_le n⟩)
theorem pCond_le {T : Nat → Int32} {l : Nat} {story : Bool} (n : Nat) : ∀ p, p ≤ l → PL l p (pCond T l story n p) := pOr_le (pAll_le (pAtom_le n))

set_option maxHeartbeats 1000000 in
set_option maxRecDepth 100000 in
theorem c_m_all {G : UG} {adr : Nat → Nat} {h0 : Hp} {μ : Mu} (l : Nat) (h7 : μ 0 7 = nI l) (hl : l ≤ 400) (f g : Nat) (hf : 12 ≤ f) (hg : 300 ≤ g) (d : Nat) (A : Nat → PR) (hA : ∀ (p b s : Nat) (W : Nat → Int32), p ≤ l → s ≤ p → s < 400 → Con G yX6_readAtom cX6_readAtom 2 (some .boolean) f g 0 0 [.ref (adr 0)] (MS G adr h0 (ps μ p b d s W)) (Post G adr h0 μ d s W (A p)) nX) (hL : ∀ p, p ≤ l → PL l p (A p)) (p b s : Nat) (W : Nat → Int32) (hp : p ≤ l) (hsp : s ≤ p) (hs : s < 400) : Con G yX6_readAllOf cX6_readAllOf 1 (some .boolean) (f + 1) (g + 40) 0 0 [.ref (adr 0)] (MS G adr h0 (ps μ p b d s W)) (Post G adr h0 μ d s W (pAll (μ 3) l A p)) nX := by
  refine con_of2 (plainFor_of_name (by decide)) rfl ?_
  intro F R Q RF RL RC RS hQ O hnh hnm
  refine x_eq (L' := [(0, .ref (adr 0))]) ?_ rfl rfl rfl
  refine x_aload_n O 0 dX6_readAllOf_0 rfl rfl ?_
  rcases hr1 : A p with ⟨p1, b1, ls1⟩ | b1
  · refine x_cV O 0 (con_ok (hA p b s W (by omega) (by omega) (by omega)) hr1) MS.obj uc6 (lw_V q1856 q1858 qs41 q111 q1859) rfl hd_X6_readAtom rfl (by rw [RF]; exact Nat.ble_eq_true_of_le (by omega)) (by rw [RL]; exact Nat.ble_eq_true_of_le (by omega)) ⟨Nat.zero_le _, Nat.zero_le _⟩ rfl rfl dX6_readAllOf_1 ?_
    refine x_top (v' := b2i true) rfl ?_
    have hF1 := hL _ (by omega) _ _ _ hr1
    refine x_ifneB O 9 dX6_readAllOf_4 (by decide) (fun _ => ?_) (fun c => absurd rfl c)
    have LOOP9 : ∀ (n_ p_ b_ : Nat) (acc_ : List (Int32 × Int32)), l - p_ < n_ → p_ ≤ l → s + acc_.length ≤ p_ → pAll (μ 3) l A p = pLp l A (fun p => m_passes (μ 3) p l 24) (fun p => m_passes_f6 (μ 3) p l 24) (fun p => m_passes_f8 (μ 3) p l 24) (nI 16) n_ p_ acc_ → X G F R Q 1 9 [(0, .ref (adr 0))] [] (MS G adr h0 ((mc (mset (mset (mset (mset μ 0 6 (nI p_)) 0 8 (nI b_)) 0 9 (nI d)) 0 12 (nI (s + acc_.length))) 1 (em W s acc_)))) 0 0 := by
      intro n_
      induction n_ with
      | zero => intro p_ b_ acc_ h_; omega
      | succ n_ IH_ =>
        intro p_ b_ acc_ hq1_ hq2_ hq3_ hE_
        refine x_aload_n O 0 dX6_readAllOf_9 rfl rfl ?_
        refine x_ldcS O (i := 24) (tx := "and") (List.mem_of_getElem? (i := 44) rfl) dX6_readAllOf_10 ?_
        refine x_cV O 1 (c_m_passes (μ := (mc (mset (mset (mset (mset μ 0 6 (nI p_)) 0 8 (nI b_)) 0 9 (nI d)) 0 12 (nI (s + acc_.length))) 1 (em W s acc_))) p_ ((congrFun (mc_n (by decide)) 6).trans ((rd_skip (by decide)).trans ((rd_skip (by decide)).trans ((rd_skip (by decide)).trans rd_hit)))) l ((congrFun (mc_n (by decide)) 7).trans ((rd_skip (by decide)).trans ((rd_skip (by decide)).trans ((rd_skip (by decide)).trans ((rd_skip (by decide)).trans h7))))) hl (by omega) 24 (by decide)) MS.obj uc6 (lw_V q1873 q1875 qs45 q111 q1876) rfl hd_X6_passes rfl (by rw [RF]; exact Nat.ble_eq_true_of_le (by omega)) (by rw [RL]; exact Nat.ble_eq_true_of_le (by omega)) ⟨Nat.zero_le _, Nat.zero_le _⟩ rfl rfl dX6_readAllOf_12 ?_
        refine x_top (v' := b2i (m_passes (μ 3) p_ l 24)) (by rw [show (mc (mset (mset (mset (mset μ 0 6 (nI p_)) 0 8 (nI b_)) 0 9 (nI d)) 0 12 (nI (s + acc_.length))) 1 (em W s acc_)) 3 = μ 3 from ((mc_n (by decide)).trans ((mset_n (by decide)).trans ((mset_n (by decide)).trans ((mset_n (by decide)).trans (mset_n (by decide))))))]) ?_
        refine x_weak (Ω' := MS G adr h0 (mc (mset (mset (mset (mset μ 0 6 (nI (m_passes_f6 (μ 3) p_ l 24))) 0 8 (nI (m_passes_f8 (μ 3) p_ l 24))) 0 9 (nI d)) 0 12 (nI (s + acc_.length))) 1 (em W s acc_))) (fun _ m => by rw [show (mc (mset (mset (mset (mset μ 0 6 (nI p_)) 0 8 (nI b_)) 0 9 (nI d)) 0 12 (nI (s + acc_.length))) 1 (em W s acc_)) 3 = μ 3 from ((mc_n (by decide)).trans ((mset_n (by decide)).trans ((mset_n (by decide)).trans ((mset_n (by decide)).trans (mset_n (by decide))))))] at m; exact m.eq ((congrArg (fun m_ => mset m_ 0 8 _) (wc_n (by decide))).trans ((congrArg (fun m_ => mset m_ 0 8 _) (congrArg (fun m_ => mc m_ 1 _) (ff_n (by decide)))).trans ((congrArg (fun m_ => mset m_ 0 8 _) (congrArg (fun m_ => mc m_ 1 _) (congrArg (fun m_ => mset m_ 0 12 _) (ff_n (by decide))))).trans ((congrArg (fun m_ => mset m_ 0 8 _) (congrArg (fun m_ => mc m_ 1 _) (congrArg (fun m_ => mset m_ 0 12 _) (congrArg (fun m_ => mset m_ 0 9 _) (ff_n (by decide)))))).trans ((congrArg (fun m_ => mset m_ 0 8 _) (congrArg (fun m_ => mc m_ 1 _) (congrArg (fun m_ => mset m_ 0 12 _) (congrArg (fun m_ => mset m_ 0 9 _) (congrArg (fun m_ => mset m_ 0 8 _) ff_s))))).trans ((wc_n (by decide)).trans ((congrArg (fun m_ => mc m_ 1 _) (ff_n (by decide))).trans ((congrArg (fun m_ => mc m_ 1 _) (congrArg (fun m_ => mset m_ 0 12 _) (ff_n (by decide)))).trans (congrArg (fun m_ => mc m_ 1 _) (congrArg (fun m_ => mset m_ 0 12 _) (congrArg (fun m_ => mset m_ 0 9 _) ff_s)))))))))))) ?_
        have hb1 := passes_le (T := μ 3) (p := p_) (l := l) (w := 24) (by omega) (by decide)
        refine x_ifeqB O 37 dX6_readAllOf_15 (by decide) (fun c15 => ?_) (fun c15 => ?_)
        · refine x_iconst O (nI 1) dX6_readAllOf_37 (by decide) ?_
          refine x_top (v' := b2i true) (by decide) ?_
          exact x_zretQ O hQ rfl dX6_readAllOf_38 (fun h m => post_ok (p' := m_passes_f6 (μ 3) p_ l 24) (b' := m_passes_f8 (μ 3) p_ l 24) (ls := acc_) (hE_.trans (by rw [pLp_s]; simp only [if_neg c15])) (by first | exact m | (simp only [em_app, List.length_append, ← Nat.add_assoc]; exact m)))
        · have hb2 := hb1.2.2.2 c15
          refine x_aload_n O 0 dX6_readAllOf_18 rfl rfl ?_
          rcases hr19 : A (m_passes_f6 (μ 3) p_ l 24) with ⟨p2, b2, ls2⟩ | b2
          · refine x_cV O 0 (con_ok (hA (m_passes_f6 (μ 3) p_ l 24) (m_passes_f8 (μ 3) p_ l 24) (s + acc_.length) (em W s acc_) (by omega) (by omega) (by omega)) hr19) MS.obj uc6 (lw_V q1856 q1858 qs41 q111 q1859) rfl hd_X6_readAtom rfl (by rw [RF]; exact Nat.ble_eq_true_of_le (by omega)) (by rw [RL]; exact Nat.ble_eq_true_of_le (by omega)) ⟨Nat.zero_le _, Nat.zero_le _⟩ rfl rfl dX6_readAllOf_19 ?_
            refine x_top (v' := b2i true) rfl ?_
            have hF2 := hL _ (by omega) _ _ _ hr19
            refine x_ifneB O 27 dX6_readAllOf_22 (by decide) (fun _ => ?_) (fun c => absurd rfl c)
            refine x_aload_n O 0 dX6_readAllOf_27 rfl rfl ?_
            refine x_bipush O (nI 16) dX6_readAllOf_28 (by decide) ?_
            refine x_iconst O (nI 0) dX6_readAllOf_30 (by decide) ?_
            refine x_cV O 2 (c_m_emits (μ := (mc (mset (mset (mset (mset μ 0 6 (nI p2)) 0 8 (nI b2)) 0 9 (nI d)) 0 12 (nI (s + acc_.length + ls2.length))) 1 (em (em W s acc_) (s + acc_.length) ls2))) (s + acc_.length + ls2.length) ((congrFun (mc_n (by decide)) 12).trans rd_hit) (by omega) (nI 16) (nI 0)) MS.obj uc6 (lw_V q1887 q1889 qs48 q111 q1890) rfl hd_X6_emits rfl (by rw [RF]; exact Nat.ble_eq_true_of_le (by omega)) (by rw [RL]; exact Nat.ble_eq_true_of_le (by omega)) ⟨Nat.zero_le _, Nat.zero_le _⟩ rfl rfl dX6_readAllOf_31 ?_
            refine x_weak (Ω' := MS G adr h0 (mc (mset (mset (mset (mset μ 0 6 (nI p2)) 0 8 (nI b2)) 0 9 (nI d)) 0 12 (nI (m_emits_f12 (em (em W s acc_) (s + acc_.length) ls2) (s + acc_.length + ls2.length) (nI 16) (nI 0)))) 1 (m_emits_c1 (em (em W s acc_) (s + acc_.length) ls2) (s + acc_.length + ls2.length) (nI 16) (nI 0)))) (fun _ m => by rw [show (mc (mset (mset (mset (mset μ 0 6 (nI p2)) 0 8 (nI b2)) 0 9 (nI d)) 0 12 (nI (s + acc_.length + ls2.length))) 1 (em (em W s acc_) (s + acc_.length) ls2)) 1 = em (em W s acc_) (s + acc_.length) ls2 from mc_s] at m; exact m.eq ((congrArg (fun m_ => mc m_ 1 _) (wc_n (by decide))).trans ((congrArg (fun m_ => mc m_ 1 _) (congrArg (fun m_ => mc m_ 1 _) ff_s)).trans cc_s))) ?_
            refine x_weak (Ω' := MS G adr h0 ((mc (mset (mset (mset (mset μ 0 6 (nI p2)) 0 8 (nI b2)) 0 9 (nI d)) 0 12 (nI (s + acc_.length + ls2.length + 1))) 1 (m_emits_c1 (em (em W s acc_) (s + acc_.length) ls2) (s + acc_.length + ls2.length) (nI 16) (nI 0))))) (fun _ m => m) ?_
            refine x_goto O 9 dX6_readAllOf_34 (by decide) ?_
            refine x_weak (Ω' := MS G adr h0 (ps μ p2 b2 d (s + (acc_ ++ ls2 ++ [(nI 16, nI 0)]).length) (em W s (acc_ ++ ls2 ++ [(nI 16, nI 0)])))) (fun _ m => by first | exact m | (simp only [em_app, List.length_append, ← Nat.add_assoc]; exact m)) ?_
            exact IH_ p2 b2 (acc_ ++ ls2 ++ [(nI 16, nI 0)]) (by omega) (by omega) (by simp only [List.length_append, List.length_cons, List.length_nil]; omega) (hE_.trans (by rw [pLp_s]; simp only [if_pos c15, hr19]))
          · refine x_cV O 0 (con_no (hA (m_passes_f6 (μ 3) p_ l 24) (m_passes_f8 (μ 3) p_ l 24) (s + acc_.length) (em W s acc_) (by omega) (by omega) (by omega)) hr19) MS.obj uc6 (lw_V q1856 q1858 qs41 q111 q1859) rfl hd_X6_readAtom rfl (by rw [RF]; exact Nat.ble_eq_true_of_le (by omega)) (by rw [RL]; exact Nat.ble_eq_true_of_le (by omega)) ⟨Nat.zero_le _, Nat.zero_le _⟩ rfl rfl dX6_readAllOf_19 ?_
            refine x_top (v' := b2i false) rfl ?_
            refine x_ex4 (fun p2 d2 s2 W2 hW2 => ?_)
            refine x_ifneB O 27 dX6_readAllOf_22 (by decide) (fun c => absurd c (by decide)) (fun _ => ?_)
            refine x_iconst O (nI 0) dX6_readAllOf_25 (by decide) ?_
            refine x_top (v' := b2i false) (by decide) ?_
            exact x_zretQ O hQ rfl dX6_readAllOf_26 (fun h m => post_no (hE_.trans (by rw [pLp_s]; simp only [if_pos c15, hr19])) (fun j hj => by first | rfl | simp only [em_low hj, emits_low hj, hW2 j hj]) m)
    exact LOOP9 (l + 1) p1 b1 ls1 (by omega) (by omega) (by omega) (by unfold pAll pRow; simp only [hr1])
  · refine x_cV O 0 (con_no (hA p b s W (by omega) (by omega) (by omega)) hr1) MS.obj uc6 (lw_V q1856 q1858 qs41 q111 q1859) rfl hd_X6_readAtom rfl (by rw [RF]; exact Nat.ble_eq_true_of_le (by omega)) (by rw [RL]; exact Nat.ble_eq_true_of_le (by omega)) ⟨Nat.zero_le _, Nat.zero_le _⟩ rfl rfl dX6_readAllOf_1 ?_
    refine x_top (v' := b2i false) rfl ?_
    refine x_ex4 (fun p1 d1 s1 W1 hW1 => ?_)
    refine x_ifneB O 9 dX6_readAllOf_4 (by decide) (fun c => absurd c (by decide)) (fun _ => ?_)
    refine x_iconst O (nI 0) dX6_readAllOf_7 (by decide) ?_
    refine x_top (v' := b2i false) (by decide) ?_
    exact x_zretQ O hQ rfl dX6_readAllOf_8 (fun h m => post_no (by unfold pAll pRow; simp only [hr1]) (fun j hj => by first | rfl | simp only [em_low hj, emits_low hj, hW1 j hj]) m)

set_option maxHeartbeats 1000000 in
set_option maxRecDepth 100000 in
theorem c_m_or {G : UG} {adr : Nat → Nat} {h0 : Hp} {μ : Mu} (l : Nat) (h7 : μ 0 7 = nI l) (hl : l ≤ 400) (f g : Nat) (hf : 12 ≤ f) (hg : 300 ≤ g) (d : Nat) (A : Nat → PR) (hA : ∀ (p b s : Nat) (W : Nat → Int32), p ≤ l → s ≤ p → s < 400 → Con G yX6_readAllOf cX6_readAllOf 1 (some .boolean) f g 0 0 [.ref (adr 0)] (MS G adr h0 (ps μ p b d s W)) (Post G adr h0 μ d s W (A p)) nX) (hL : ∀ p, p ≤ l → PL l p (A p)) (p b s : Nat) (W : Nat → Int32) (hp : p ≤ l) (hsp : s ≤ p) (hs : s < 400) : Con G yX6_readCond cX6_readCond 1 (some .boolean) (f + 1) (g + 40) 0 0 [.ref (adr 0)] (MS G adr h0 (ps μ p b d s W)) (Post G adr h0 μ d s W (pOr (μ 3) l A p)) nX := by
  refine con_of2 (plainFor_of_name (by decide)) rfl ?_
  intro F R Q RF RL RC RS hQ O hnh hnm
  refine x_eq (L' := [(0, .ref (adr 0))]) ?_ rfl rfl rfl
  refine x_aload_n O 0 dX6_readCond_0 rfl rfl ?_
  rcases hr1 : A p with ⟨p1, b1, ls1⟩ | b1
  · refine x_cV O 0 (con_ok (hA p b s W (by omega) (by omega) (by omega)) hr1) MS.obj uc6 (lw_V q1852 q1854 qs40 q111 q1855) rfl hd_X6_readAllOf rfl (by rw [RF]; exact Nat.ble_eq_true_of_le (by omega)) (by rw [RL]; exact Nat.ble_eq_true_of_le (by omega)) ⟨Nat.zero_le _, Nat.zero_le _⟩ rfl rfl dX6_readCond_1 ?_
    refine x_top (v' := b2i true) rfl ?_
    have hF1 := hL _ (by omega) _ _ _ hr1
    refine x_ifneB O 9 dX6_readCond_4 (by decide) (fun _ => ?_) (fun c => absurd rfl c)
    have LOOP9 : ∀ (n_ p_ b_ : Nat) (acc_ : List (Int32 × Int32)), l - p_ < n_ → p_ ≤ l → s + acc_.length ≤ p_ → pOr (μ 3) l A p = pLp l A (fun p => m_passes (μ 3) p l 25) (fun p => m_passes_f6 (μ 3) p l 25) (fun p => m_passes_f8 (μ 3) p l 25) (nI 17) n_ p_ acc_ → X G F R Q 1 9 [(0, .ref (adr 0))] [] (MS G adr h0 ((mc (mset (mset (mset (mset μ 0 6 (nI p_)) 0 8 (nI b_)) 0 9 (nI d)) 0 12 (nI (s + acc_.length))) 1 (em W s acc_)))) 0 0 := by
      intro n_
      induction n_ with
      | zero => intro p_ b_ acc_ h_; omega
      | succ n_ IH_ =>
        intro p_ b_ acc_ hq1_ hq2_ hq3_ hE_
        refine x_aload_n O 0 dX6_readCond_9 rfl rfl ?_
        refine x_ldcS O (i := 25) (tx := "or") (List.mem_of_getElem? (i := 45) rfl) dX6_readCond_10 ?_
        refine x_cV O 1 (c_m_passes (μ := (mc (mset (mset (mset (mset μ 0 6 (nI p_)) 0 8 (nI b_)) 0 9 (nI d)) 0 12 (nI (s + acc_.length))) 1 (em W s acc_))) p_ ((congrFun (mc_n (by decide)) 6).trans ((rd_skip (by decide)).trans ((rd_skip (by decide)).trans ((rd_skip (by decide)).trans rd_hit)))) l ((congrFun (mc_n (by decide)) 7).trans ((rd_skip (by decide)).trans ((rd_skip (by decide)).trans ((rd_skip (by decide)).trans ((rd_skip (by decide)).trans h7))))) hl (by omega) 25 (by decide)) MS.obj uc6 (lw_V q1873 q1875 qs45 q111 q1876) rfl hd_X6_passes rfl (by rw [RF]; exact Nat.ble_eq_true_of_le (by omega)) (by rw [RL]; exact Nat.ble_eq_true_of_le (by omega)) ⟨Nat.zero_le _, Nat.zero_le _⟩ rfl rfl dX6_readCond_12 ?_
        refine x_top (v' := b2i (m_passes (μ 3) p_ l 25)) (by rw [show (mc (mset (mset (mset (mset μ 0 6 (nI p_)) 0 8 (nI b_)) 0 9 (nI d)) 0 12 (nI (s + acc_.length))) 1 (em W s acc_)) 3 = μ 3 from ((mc_n (by decide)).trans ((mset_n (by decide)).trans ((mset_n (by decide)).trans ((mset_n (by decide)).trans (mset_n (by decide))))))]) ?_
        refine x_weak (Ω' := MS G adr h0 (mc (mset (mset (mset (mset μ 0 6 (nI (m_passes_f6 (μ 3) p_ l 25))) 0 8 (nI (m_passes_f8 (μ 3) p_ l 25))) 0 9 (nI d)) 0 12 (nI (s + acc_.length))) 1 (em W s acc_))) (fun _ m => by rw [show (mc (mset (mset (mset (mset μ 0 6 (nI p_)) 0 8 (nI b_)) 0 9 (nI d)) 0 12 (nI (s + acc_.length))) 1 (em W s acc_)) 3 = μ 3 from ((mc_n (by decide)).trans ((mset_n (by decide)).trans ((mset_n (by decide)).trans ((mset_n (by decide)).trans (mset_n (by decide))))))] at m; exact m.eq ((congrArg (fun m_ => mset m_ 0 8 _) (wc_n (by decide))).trans ((congrArg (fun m_ => mset m_ 0 8 _) (congrArg (fun m_ => mc m_ 1 _) (ff_n (by decide)))).trans ((congrArg (fun m_ => mset m_ 0 8 _) (congrArg (fun m_ => mc m_ 1 _) (congrArg (fun m_ => mset m_ 0 12 _) (ff_n (by decide))))).trans ((congrArg (fun m_ => mset m_ 0 8 _) (congrArg (fun m_ => mc m_ 1 _) (congrArg (fun m_ => mset m_ 0 12 _) (congrArg (fun m_ => mset m_ 0 9 _) (ff_n (by decide)))))).trans ((congrArg (fun m_ => mset m_ 0 8 _) (congrArg (fun m_ => mc m_ 1 _) (congrArg (fun m_ => mset m_ 0 12 _) (congrArg (fun m_ => mset m_ 0 9 _) (congrArg (fun m_ => mset m_ 0 8 _) ff_s))))).trans ((wc_n (by decide)).trans ((congrArg (fun m_ => mc m_ 1 _) (ff_n (by decide))).trans ((congrArg (fun m_ => mc m_ 1 _) (congrArg (fun m_ => mset m_ 0 12 _) (ff_n (by decide)))).trans (congrArg (fun m_ => mc m_ 1 _) (congrArg (fun m_ => mset m_ 0 12 _) (congrArg (fun m_ => mset m_ 0 9 _) ff_s)))))))))))) ?_
        have hb1 := passes_le (T := μ 3) (p := p_) (l := l) (w := 25) (by omega) (by decide)
        refine x_ifeqB O 37 dX6_readCond_15 (by decide) (fun c15 => ?_) (fun c15 => ?_)
        · refine x_iconst O (nI 1) dX6_readCond_37 (by decide) ?_
          refine x_top (v' := b2i true) (by decide) ?_
          exact x_zretQ O hQ rfl dX6_readCond_38 (fun h m => post_ok (p' := m_passes_f6 (μ 3) p_ l 25) (b' := m_passes_f8 (μ 3) p_ l 25) (ls := acc_) (hE_.trans (by rw [pLp_s]; simp only [if_neg c15])) (by first | exact m | (simp only [em_app, List.length_append, ← Nat.add_assoc]; exact m)))
        · have hb2 := hb1.2.2.2 c15
          refine x_aload_n O 0 dX6_readCond_18 rfl rfl ?_
          rcases hr19 : A (m_passes_f6 (μ 3) p_ l 25) with ⟨p2, b2, ls2⟩ | b2
          · refine x_cV O 0 (con_ok (hA (m_passes_f6 (μ 3) p_ l 25) (m_passes_f8 (μ 3) p_ l 25) (s + acc_.length) (em W s acc_) (by omega) (by omega) (by omega)) hr19) MS.obj uc6 (lw_V q1852 q1854 qs40 q111 q1855) rfl hd_X6_readAllOf rfl (by rw [RF]; exact Nat.ble_eq_true_of_le (by omega)) (by rw [RL]; exact Nat.ble_eq_true_of_le (by omega)) ⟨Nat.zero_le _, Nat.zero_le _⟩ rfl rfl dX6_readCond_19 ?_
            refine x_top (v' := b2i true) rfl ?_
            have hF2 := hL _ (by omega) _ _ _ hr19
            refine x_ifneB O 27 dX6_readCond_22 (by decide) (fun _ => ?_) (fun c => absurd rfl c)
            refine x_aload_n O 0 dX6_readCond_27 rfl rfl ?_
            refine x_bipush O (nI 17) dX6_readCond_28 (by decide) ?_
            refine x_iconst O (nI 0) dX6_readCond_30 (by decide) ?_
            refine x_cV O 2 (c_m_emits (μ := (mc (mset (mset (mset (mset μ 0 6 (nI p2)) 0 8 (nI b2)) 0 9 (nI d)) 0 12 (nI (s + acc_.length + ls2.length))) 1 (em (em W s acc_) (s + acc_.length) ls2))) (s + acc_.length + ls2.length) ((congrFun (mc_n (by decide)) 12).trans rd_hit) (by omega) (nI 17) (nI 0)) MS.obj uc6 (lw_V q1887 q1889 qs48 q111 q1890) rfl hd_X6_emits rfl (by rw [RF]; exact Nat.ble_eq_true_of_le (by omega)) (by rw [RL]; exact Nat.ble_eq_true_of_le (by omega)) ⟨Nat.zero_le _, Nat.zero_le _⟩ rfl rfl dX6_readCond_31 ?_
            refine x_weak (Ω' := MS G adr h0 (mc (mset (mset (mset (mset μ 0 6 (nI p2)) 0 8 (nI b2)) 0 9 (nI d)) 0 12 (nI (m_emits_f12 (em (em W s acc_) (s + acc_.length) ls2) (s + acc_.length + ls2.length) (nI 17) (nI 0)))) 1 (m_emits_c1 (em (em W s acc_) (s + acc_.length) ls2) (s + acc_.length + ls2.length) (nI 17) (nI 0)))) (fun _ m => by rw [show (mc (mset (mset (mset (mset μ 0 6 (nI p2)) 0 8 (nI b2)) 0 9 (nI d)) 0 12 (nI (s + acc_.length + ls2.length))) 1 (em (em W s acc_) (s + acc_.length) ls2)) 1 = em (em W s acc_) (s + acc_.length) ls2 from mc_s] at m; exact m.eq ((congrArg (fun m_ => mc m_ 1 _) (wc_n (by decide))).trans ((congrArg (fun m_ => mc m_ 1 _) (congrArg (fun m_ => mc m_ 1 _) ff_s)).trans cc_s))) ?_
            refine x_weak (Ω' := MS G adr h0 ((mc (mset (mset (mset (mset μ 0 6 (nI p2)) 0 8 (nI b2)) 0 9 (nI d)) 0 12 (nI (s + acc_.length + ls2.length + 1))) 1 (m_emits_c1 (em (em W s acc_) (s + acc_.length) ls2) (s + acc_.length + ls2.length) (nI 17) (nI 0))))) (fun _ m => m) ?_
            refine x_goto O 9 dX6_readCond_34 (by decide) ?_
            refine x_weak (Ω' := MS G adr h0 (ps μ p2 b2 d (s + (acc_ ++ ls2 ++ [(nI 17, nI 0)]).length) (em W s (acc_ ++ ls2 ++ [(nI 17, nI 0)])))) (fun _ m => by first | exact m | (simp only [em_app, List.length_append, ← Nat.add_assoc]; exact m)) ?_
            exact IH_ p2 b2 (acc_ ++ ls2 ++ [(nI 17, nI 0)]) (by omega) (by omega) (by simp only [List.length_append, List.length_cons, List.length_nil]; omega) (hE_.trans (by rw [pLp_s]; simp only [if_pos c15, hr19]))
          · refine x_cV O 0 (con_no (hA (m_passes_f6 (μ 3) p_ l 25) (m_passes_f8 (μ 3) p_ l 25) (s + acc_.length) (em W s acc_) (by omega) (by omega) (by omega)) hr19) MS.obj uc6 (lw_V q1852 q1854 qs40 q111 q1855) rfl hd_X6_readAllOf rfl (by rw [RF]; exact Nat.ble_eq_true_of_le (by omega)) (by rw [RL]; exact Nat.ble_eq_true_of_le (by omega)) ⟨Nat.zero_le _, Nat.zero_le _⟩ rfl rfl dX6_readCond_19 ?_
            refine x_top (v' := b2i false) rfl ?_
            refine x_ex4 (fun p2 d2 s2 W2 hW2 => ?_)
            refine x_ifneB O 27 dX6_readCond_22 (by decide) (fun c => absurd c (by decide)) (fun _ => ?_)
            refine x_iconst O (nI 0) dX6_readCond_25 (by decide) ?_
            refine x_top (v' := b2i false) (by decide) ?_
            exact x_zretQ O hQ rfl dX6_readCond_26 (fun h m => post_no (hE_.trans (by rw [pLp_s]; simp only [if_pos c15, hr19])) (fun j hj => by first | rfl | simp only [em_low hj, emits_low hj, hW2 j hj]) m)
    exact LOOP9 (l + 1) p1 b1 ls1 (by omega) (by omega) (by omega) (by unfold pOr pRow; simp only [hr1])
  · refine x_cV O 0 (con_no (hA p b s W (by omega) (by omega) (by omega)) hr1) MS.obj uc6 (lw_V q1852 q1854 qs40 q111 q1855) rfl hd_X6_readAllOf rfl (by rw [RF]; exact Nat.ble_eq_true_of_le (by omega)) (by rw [RL]; exact Nat.ble_eq_true_of_le (by omega)) ⟨Nat.zero_le _, Nat.zero_le _⟩ rfl rfl dX6_readCond_1 ?_
    refine x_top (v' := b2i false) rfl ?_
    refine x_ex4 (fun p1 d1 s1 W1 hW1 => ?_)
    refine x_ifneB O 9 dX6_readCond_4 (by decide) (fun c => absurd c (by decide)) (fun _ => ?_)
    refine x_iconst O (nI 0) dX6_readCond_7 (by decide) ?_
    refine x_top (v' := b2i false) (by decide) ?_
    exact x_zretQ O hQ rfl dX6_readCond_8 (fun h m => post_no (by unfold pOr pRow; simp only [hr1]) (fun j hj => by first | rfl | simp only [em_low hj, emits_low hj, hW1 j hj]) m)

theorem c_m_atomN {G : UG} {adr : Nat → Nat} {h0 : Hp} {μ : Mu} (l : Nat) (h7 : μ 0 7 = nI l) (hl : l ≤ 400) (story : Bool) (h13 : μ 0 13 = b2i story) : ∀ (n d : Nat), d + n = 6 → ∀ (p b s : Nat) (W : Nat → Int32), p ≤ l → s ≤ p → s < 400 → Con G yX6_readAtom cX6_readAtom 2 (some .boolean) (13 + 3 * n) (340 + 120 * n) 0 0 [.ref (adr 0)] (MS G adr h0 (ps μ p b d s W)) (Post G adr h0 μ d s W (pAtom (μ 3) l story n p)) nX
  | 0, d, hd, p, b, s, W, hp, hsp, hs => by
    obtain rfl : d = 6 := by omega
    exact c_m_atom0 l h7 hl story h13 12 300 (by decide) (by decide) p b s W hp hsp hs
  | n + 1, d, hd, p, b, s, W, hp, hsp, hs => by
    have hA := c_m_atomN (G := G) (adr := adr) (h0 := h0) l h7 hl story h13 n (d + 1) (by omega)
    have hB := c_m_all l h7 hl (13 + 3 * n) (340 + 120 * n) (by omega) (by omega) (d + 1) _ hA (pAtom_le n)
    have hC := c_m_or l h7 hl (13 + 3 * n + 1) (340 + 120 * n + 40) (by omega) (by omega) (d + 1) _ hB (pAll_le (pAtom_le n))
    exact c_m_atomD l h7 hl story h13 (13 + 3 * n + 1 + 1) (340 + 120 * n + 40 + 40) (by omega) (by omega) d (by omega) (pOr (μ 3) l (pAll (μ 3) l (pAtom (μ 3) l story n)), pAtom (μ 3) l story n) hC (13 + 3 * n) (340 + 120 * n) (by omega) (by omega) hA (pOr_le (pAll_le (pAtom_le n))) (pAtom_le n) p b s W hp hsp hs
theorem c_m_cond {G : UG} {adr : Nat → Nat} {h0 : Hp} {μ : Mu} (l : Nat) (h7 : μ 0 7 = nI l) (hl : l ≤ 400) (story : Bool) (h13 : μ 0 13 = b2i story) (p b s : Nat) (W : Nat → Int32) (hp : p ≤ l) (hsp : s ≤ p) (hs : s < 400) : Con G yX6_readCond cX6_readCond 1 (some .boolean) 33 1140 0 0 [.ref (adr 0)] (MS G adr h0 (ps μ p b 0 s W)) (Post G adr h0 μ 0 s W (pCond (μ 3) l story 6 p)) nX := by
  have hA := c_m_atomN (adr := adr) (h0 := h0) (G := G) l h7 hl story h13 6 0 rfl
  have hB := c_m_all l h7 hl 31 1060 (by decide) (by decide) 0 _ hA (pAtom_le 6)
  exact c_m_or l h7 hl 32 1100 (by decide) (by decide) 0 _ hB (pAll_le (pAtom_le 6)) p b s W hp hsp hs
