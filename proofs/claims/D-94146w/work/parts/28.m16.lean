theorem pLine_le {T : Nat → Int32} {l n p : Nat} (h : p ≤ l) {p' b' : Nat} {sort : Int32} {ls : List (Int32 × Int32)} (e : pLine T l n p = .inl (p', b', sort, ls)) : p' ≤ l ∧ p + ls.length ≤ p' ∧ n ≠ 10 := by
  have hb := let6_le (T := T) h
  unfold pLine at e
  by_cases c : n = 10
  · rw [if_pos c] at e; cases e
  · rw [if_neg c] at e
    by_cases c2 : srt T (m_letters_f6 T p l) (m_letters_f8 T p l) < 0
    · rw [if_pos c2] at e; cases e
    · rw [if_neg c2] at e
      have hp := passes_le (T := T) (p := m_letters_f6 T p l) (l := l) (w := 19) hb.2.2 (by decide)
      by_cases c3 : m_passes T (m_letters_f6 T p l) l 19 = true
      · rw [if_pos c3] at e
        rcases hr : pCond T l false 6 (m_passes_f6 T (m_letters_f6 T p l) l 19) with ⟨qa, qb, qc⟩ | q
        · rw [hr] at e; cases e
          have hF := PLl (pCond_le 6 _ hp.2.2.1) hr
          exact ⟨hF.1, by show p + qc.length ≤ qa; omega, c⟩
        · rw [hr] at e; cases e
      · rw [if_neg c3] at e; cases e
        exact ⟨hp.2.2.1, by show p + 0 ≤ _; omega, c⟩
theorem con_okL {G : UG} {adr : Nat → Nat} {h0 : Hp} {μ : Mu} {n s : Nat} {W : Nat → Int32} {r : PRL} {Ω : Hp → Prop} {y : MethodName} {code : ByteArray} {maxL : Nat} {ret : Option FieldType} {fr lo mc ms : Nat} {av : List Value} {p' b' : Nat} {sort : Int32} {ls : List (Int32 × Int32)} (c : Con G y code maxL ret fr lo mc ms av Ω (PostL G adr h0 μ n s W r) nX) (e : r = .inl (p', b', sort, ls)) : Con G y code maxL ret fr lo mc ms av Ω (fun v h' => v = some (.int (b2i true)) ∧ MS G adr h0 (ps μ p' b' 0 (s + ls.length) (lnW W n sort s ls)) h') nX := by subst e; exact c
theorem con_noL {G : UG} {adr : Nat → Nat} {h0 : Hp} {μ : Mu} {n s : Nat} {W : Nat → Int32} {r : PRL} {Ω : Hp → Prop} {y : MethodName} {code : ByteArray} {maxL : Nat} {ret : Option FieldType} {fr lo mc ms : Nat} {av : List Value} {b' : Nat} (c : Con G y code maxL ret fr lo mc ms av Ω (PostL G adr h0 μ n s W r) nX) (e : r = .inr b') : Con G y code maxL ret fr lo mc ms av Ω (fun v h' => v = some (.int (b2i false)) ∧ ∃ (p' d' s' : Nat) (W' : Nat → Int32), (∀ j, j < 8645 → W' j = W j) ∧ MS G adr h0 (ps μ p' b' d' s' W') h') nX := by subst e; exact c
/-! whole laws: their lines -/
abbrev LN : Type := List (Int32 × List (Int32 × Int32))
def lsW : (Nat → Int32) → Nat → Nat → LN → Nat → Int32
  | W, _, _, [] => W
  | W, n, s, q :: r => lsW (lnW W n q.1 s q.2) (n + 1) (s + q.2.length) r
def lsN : Nat → LN → Nat
  | s, [] => s
  | s, q :: r => lsN (s + q.2.length) r
theorem lsN_app {q : Int32 × List (Int32 × Int32)} : ∀ (a : LN) (s : Nat), lsN s (a ++ [q]) = lsN s a + q.2.length
  | [], _ => rfl
  | x :: r, s => lsN_app r (s + x.2.length)
theorem lsW_app {q : Int32 × List (Int32 × Int32)} : ∀ (a : LN) (W : Nat → Int32) (n s : Nat), lsW W n s (a ++ [q]) = lnW (lsW W n s a) (n + a.length) q.1 (lsN s a) q.2
  | [], _, _, _ => rfl
  | x :: r, W, n, s => by
    show lsW (lnW W n x.1 s x.2) (n + 1) (s + x.2.length) (r ++ [q]) = lnW (lsW (lnW W n x.1 s x.2) (n + 1) (s + x.2.length) r) (n + (x :: r).length) q.1 (lsN (s + x.2.length) r) q.2
    rw [lsW_app r, List.length_cons, show n + 1 + r.length = n + (r.length + 1) by omega]
theorem lsW_low {j : Nat} (h : j < 8645) : ∀ (a : LN) (W : Nat → Int32) (n s : Nat), lsW W n s a j = W j
  | [], _, _, _ => rfl
  | x :: r, W, n, s => (lsW_low h r _ _ _).trans (lnW_low h)
def pLines (T : Nat → Int32) (l : Nat) : Nat → Nat → LN → LN ⊕ Nat
  | 0, _, _ => .inr 0
  | k + 1, p, acc => match pLine T l acc.length p with
    | .inl q => if m_blanks_f6 T q.1 l = l then .inl (acc ++ [(q.2.2.1, q.2.2.2)]) else if m_isAt T (m_blanks_f6 T q.1 l) l (nI 59) (nI 59) = true then pLines T l k (m_blanks_f6 T q.1 l + 1) (acc ++ [(q.2.2.1, q.2.2.2)]) else .inr (m_blanks_f8 T q.1 l)
    | .inr b => .inr b
theorem pLines_s {T : Nat → Int32} {l k p : Nat} {acc : LN} : pLines T l (k + 1) p acc = match pLine T l acc.length p with
    | .inl q => if m_blanks_f6 T q.1 l = l then .inl (acc ++ [(q.2.2.1, q.2.2.2)]) else if m_isAt T (m_blanks_f6 T q.1 l) l (nI 59) (nI 59) = true then pLines T l k (m_blanks_f6 T q.1 l + 1) (acc ++ [(q.2.2.1, q.2.2.2)]) else .inr (m_blanks_f8 T q.1 l)
    | .inr b => .inr b := rfl
def pLaw (T : Nat → Int32) (l : Nat) : LN ⊕ Nat := if m_blanks_f6 T 0 l = l then .inl [] else pLines T l (l + 1) (m_blanks_f6 T 0 l) []
def PostA (G : UG) (adr : Nat → Nat) (h0 : Hp) (μ : Mu) (W : Nat → Int32) (r : LN ⊕ Nat) (v : Option Value) (h' : Hp) : Prop := match r with
  | .inl ls => v = some (.int (nI ls.length)) ∧ ls.length ≤ 10 ∧ ∃ p' b' d' : Nat, MS G adr h0 (ps μ p' b' d' (lsN 0 ls) (lsW W 0 0 ls)) h'
  | .inr b' => v = some (.int (-1)) ∧ ∃ (p' d' s' : Nat) (W' : Nat → Int32), (∀ j, j < 8645 → W' j = W j) ∧ MS G adr h0 (ps μ p' b' d' s' W') h'
theorem post_okA {G : UG} {adr : Nat → Nat} {h0 : Hp} {μ : Mu} {W : Nat → Int32} {r : LN ⊕ Nat} {h : Hp} {p' b' d' : Nat} {ls : LN} (e : r = .inl ls) (hl : ls.length ≤ 10) (m : MS G adr h0 (ps μ p' b' d' (lsN 0 ls) (lsW W 0 0 ls)) h) : PostA G adr h0 μ W r (some (.int (nI ls.length))) h := by subst e; exact ⟨rfl, hl, p', b', d', m⟩
theorem post_noA {G : UG} {adr : Nat → Nat} {h0 : Hp} {μ : Mu} {W : Nat → Int32} {r : LN ⊕ Nat} {h : Hp} {p' b' d' s' : Nat} {W' : Nat → Int32} (e : r = .inr b') (hW : ∀ j, j < 8645 → W' j = W j) (m : MS G adr h0 (ps μ p' b' d' s' W') h) : PostA G adr h0 μ W r (some (.int (-1))) h := by subst e; exact ⟨rfl, p', d', s', W', hW, m⟩

set_option maxHeartbeats 1000000 in
set_option maxRecDepth 100000 in
theorem c_m_readAll {G : UG} {adr : Nat → Nat} {h0 : Hp} {μ : Mu} (l : Nat) (h7 : μ 0 7 = nI l) (hl : l ≤ 400) (h13 : μ 0 13 = b2i false) (b d : Nat) (W : Nat → Int32) : Con G yX6_readAll cX6_readAll 2 (some .int) 35 1182 0 0 [.ref (adr 0)] (MS G adr h0 (ps μ 0 b d 0 W)) (PostA G adr h0 μ W (pLaw (μ 3) l)) nX := by
  refine con_of2 (plainFor_of_name (by decide)) rfl ?_
  intro F R Q RF RL RC RS hQ O hnh hnm
  refine x_eq (L' := [(0, .ref (adr 0))]) ?_ rfl rfl rfl
  refine x_aload_n O 0 dX6_readAll_0 rfl rfl ?_
  refine x_cV O 0 (c_m_blanks (μ := (mc (mset (mset (mset (mset μ 0 6 (nI 0)) 0 8 (nI b)) 0 9 (nI d)) 0 12 (nI 0)) 1 W)) 0 ((congrFun (mc_n (by decide)) 6).trans ((rd_skip (by decide)).trans ((rd_skip (by decide)).trans ((rd_skip (by decide)).trans rd_hit)))) l ((congrFun (mc_n (by decide)) 7).trans ((rd_skip (by decide)).trans ((rd_skip (by decide)).trans ((rd_skip (by decide)).trans ((rd_skip (by decide)).trans h7))))) hl (Nat.zero_le _)) MS.obj uc6 (lw_V q1864 q1866 qs43 q111 q1867) rfl hd_X6_blanks rfl (by rw [RF]; rfl) (by rw [RL]; rfl) ⟨Nat.zero_le _, Nat.zero_le _⟩ rfl rfl dX6_readAll_1 ?_
  refine x_weak (Ω' := MS G adr h0 (mc (mset (mset (mset (mset μ 0 6 (nI (m_blanks_f6 (μ 3) 0 l))) 0 8 (nI (m_blanks_f8 (μ 3) 0 l))) 0 9 (nI d)) 0 12 (nI 0)) 1 W)) (fun _ m => by rw [show (mc (mset (mset (mset (mset μ 0 6 (nI 0)) 0 8 (nI b)) 0 9 (nI d)) 0 12 (nI 0)) 1 W) 3 = μ 3 from ((mc_n (by decide)).trans ((mset_n (by decide)).trans ((mset_n (by decide)).trans ((mset_n (by decide)).trans (mset_n (by decide))))))] at m; exact m.eq ((congrArg (fun m_ => mset m_ 0 8 _) (wc_n (by decide))).trans ((congrArg (fun m_ => mset m_ 0 8 _) (congrArg (fun m_ => mc m_ 1 _) (ff_n (by decide)))).trans ((congrArg (fun m_ => mset m_ 0 8 _) (congrArg (fun m_ => mc m_ 1 _) (congrArg (fun m_ => mset m_ 0 12 _) (ff_n (by decide))))).trans ((congrArg (fun m_ => mset m_ 0 8 _) (congrArg (fun m_ => mc m_ 1 _) (congrArg (fun m_ => mset m_ 0 12 _) (congrArg (fun m_ => mset m_ 0 9 _) (ff_n (by decide)))))).trans ((congrArg (fun m_ => mset m_ 0 8 _) (congrArg (fun m_ => mc m_ 1 _) (congrArg (fun m_ => mset m_ 0 12 _) (congrArg (fun m_ => mset m_ 0 9 _) (congrArg (fun m_ => mset m_ 0 8 _) ff_s))))).trans ((wc_n (by decide)).trans ((congrArg (fun m_ => mc m_ 1 _) (ff_n (by decide))).trans ((congrArg (fun m_ => mc m_ 1 _) (congrArg (fun m_ => mset m_ 0 12 _) (ff_n (by decide)))).trans (congrArg (fun m_ => mc m_ 1 _) (congrArg (fun m_ => mset m_ 0 12 _) (congrArg (fun m_ => mset m_ 0 9 _) ff_s)))))))))))) ?_
  have hb1 := bl6_le (T := μ 3) (p := 0) (l := l) (Nat.zero_le _)
  refine x_aload_n O 0 dX6_readAll_4 rfl rfl ?_
  refine x_mget O k_X6_109_6 (mg_6 _ _) dX6_readAll_5 ?_
  refine x_top (v' := nI (m_blanks_f6 (μ 3) 0 l)) ((congrFun (mc_n (by decide)) 6).trans ((rd_skip (by decide)).trans ((rd_skip (by decide)).trans ((rd_skip (by decide)).trans rd_hit)))) ?_
  refine x_aload_n O 0 dX6_readAll_8 rfl rfl ?_
  refine x_mget O k_X6_106_6 (mg_7 _ _) dX6_readAll_9 ?_
  refine x_top (v' := nI l) ((congrFun (mc_n (by decide)) 7).trans ((rd_skip (by decide)).trans ((rd_skip (by decide)).trans ((rd_skip (by decide)).trans ((rd_skip (by decide)).trans h7))))) ?_
  refine x_icmpneN O 17 (by omega) (by omega) dX6_readAll_12 (by decide) (fun c12 => ?_) (fun c12 => ?_)
  · refine x_iconst O (nI 0) dX6_readAll_17 (by decide) ?_
    refine x_istore_n O [(1, .int (nI 0)), (0, .ref (adr 0))] dX6_readAll_18 rfl rfl rfl ?_
    have LOOP19 : ∀ (k_ p_ b_ d_ : Nat) (acc_ : LN), l - p_ < k_ → p_ ≤ l → lsN 0 acc_ ≤ p_ → acc_.length ≤ 10 → pLaw (μ 3) l = pLines (μ 3) l k_ p_ acc_ → X G F R Q 2 19 [(1, .int (nI acc_.length)), (0, .ref (adr 0))] [] (MS G adr h0 ((mc (mset (mset (mset (mset μ 0 6 (nI p_)) 0 8 (nI b_)) 0 9 (nI d_)) 0 12 (nI (lsN 0 acc_))) 1 (lsW W 0 0 acc_)))) 0 0 := by
      intro k_
      induction k_ with
      | zero => intro p_ b_ d_ acc_ h_; omega
      | succ k_ IH_ =>
        intro p_ b_ d_ acc_ hq1_ hq2_ hq3_ hq4_ hE_
        refine x_aload_n O 1 dX6_readAll_19 rfl rfl ?_
        refine x_iload_n O 0 dX6_readAll_20 rfl rfl ?_
        rcases hr21 : pLine (μ 3) l acc_.length p_ with ⟨p1, b1, so1, ls1⟩ | b1
        · refine x_cV O 1 (con_okL (c_m_line (μ := μ) l h7 hl h13 acc_.length (by omega) p_ b_ d_ (lsN 0 acc_) (lsW W 0 0 acc_) (by omega) (by omega)) hr21) MS.obj uc6 (lw_V q1942 q1944 qs57 q111 q1945) rfl hd_X6_readLine rfl (by rw [RF]; rfl) (by rw [RL]; rfl) ⟨Nat.zero_le _, Nat.zero_le _⟩ rfl rfl dX6_readAll_21 ?_
          refine x_top (v' := b2i true) rfl ?_
          have hF1 := pLine_le (T := μ 3) (by omega) hr21
          refine x_ifneB O 29 dX6_readAll_24 (by decide) (fun _ => ?_) (fun c => absurd rfl c)
          refine x_aload_n O 1 dX6_readAll_29 rfl rfl ?_
          refine x_cV O 0 (c_m_blanks (μ := (mc (mset (mset (mset (mset μ 0 6 (nI p1)) 0 8 (nI b1)) 0 9 (nI 0)) 0 12 (nI (lsN 0 acc_ + ls1.length))) 1 (lnW (lsW W 0 0 acc_) acc_.length so1 (lsN 0 acc_) ls1))) p1 ((congrFun (mc_n (by decide)) 6).trans ((rd_skip (by decide)).trans ((rd_skip (by decide)).trans ((rd_skip (by decide)).trans rd_hit)))) l ((congrFun (mc_n (by decide)) 7).trans ((rd_skip (by decide)).trans ((rd_skip (by decide)).trans ((rd_skip (by decide)).trans ((rd_skip (by decide)).trans h7))))) hl (by omega)) MS.obj uc6 (lw_V q1864 q1866 qs43 q111 q1867) rfl hd_X6_blanks rfl (by rw [RF]; rfl) (by rw [RL]; rfl) ⟨Nat.zero_le _, Nat.zero_le _⟩ rfl rfl dX6_readAll_30 ?_
          refine x_weak (Ω' := MS G adr h0 (mc (mset (mset (mset (mset μ 0 6 (nI (m_blanks_f6 (μ 3) p1 l))) 0 8 (nI (m_blanks_f8 (μ 3) p1 l))) 0 9 (nI 0)) 0 12 (nI (lsN 0 acc_ + ls1.length))) 1 (lnW (lsW W 0 0 acc_) acc_.length so1 (lsN 0 acc_) ls1))) (fun _ m => by rw [show (mc (mset (mset (mset (mset μ 0 6 (nI p1)) 0 8 (nI b1)) 0 9 (nI 0)) 0 12 (nI (lsN 0 acc_ + ls1.length))) 1 (lnW (lsW W 0 0 acc_) acc_.length so1 (lsN 0 acc_) ls1)) 3 = μ 3 from ((mc_n (by decide)).trans ((mset_n (by decide)).trans ((mset_n (by decide)).trans ((mset_n (by decide)).trans (mset_n (by decide))))))] at m; exact m.eq ((congrArg (fun m_ => mset m_ 0 8 _) (wc_n (by decide))).trans ((congrArg (fun m_ => mset m_ 0 8 _) (congrArg (fun m_ => mc m_ 1 _) (ff_n (by decide)))).trans ((congrArg (fun m_ => mset m_ 0 8 _) (congrArg (fun m_ => mc m_ 1 _) (congrArg (fun m_ => mset m_ 0 12 _) (ff_n (by decide))))).trans ((congrArg (fun m_ => mset m_ 0 8 _) (congrArg (fun m_ => mc m_ 1 _) (congrArg (fun m_ => mset m_ 0 12 _) (congrArg (fun m_ => mset m_ 0 9 _) (ff_n (by decide)))))).trans ((congrArg (fun m_ => mset m_ 0 8 _) (congrArg (fun m_ => mc m_ 1 _) (congrArg (fun m_ => mset m_ 0 12 _) (congrArg (fun m_ => mset m_ 0 9 _) (congrArg (fun m_ => mset m_ 0 8 _) ff_s))))).trans ((wc_n (by decide)).trans ((congrArg (fun m_ => mc m_ 1 _) (ff_n (by decide))).trans ((congrArg (fun m_ => mc m_ 1 _) (congrArg (fun m_ => mset m_ 0 12 _) (ff_n (by decide)))).trans (congrArg (fun m_ => mc m_ 1 _) (congrArg (fun m_ => mset m_ 0 12 _) (congrArg (fun m_ => mset m_ 0 9 _) ff_s)))))))))))) ?_
          have hb30 := bl6_le (T := μ 3) (p := p1) (l := l) (by omega)
          refine x_aload_n O 1 dX6_readAll_33 rfl rfl ?_
          refine x_mget O k_X6_109_6 (mg_6 _ _) dX6_readAll_34 ?_
          refine x_top (v' := nI (m_blanks_f6 (μ 3) p1 l)) ((congrFun (mc_n (by decide)) 6).trans ((rd_skip (by decide)).trans ((rd_skip (by decide)).trans ((rd_skip (by decide)).trans rd_hit)))) ?_
          refine x_aload_n O 1 dX6_readAll_37 rfl rfl ?_
          refine x_mget O k_X6_106_6 (mg_7 _ _) dX6_readAll_38 ?_
          refine x_top (v' := nI l) ((congrFun (mc_n (by decide)) 7).trans ((rd_skip (by decide)).trans ((rd_skip (by decide)).trans ((rd_skip (by decide)).trans ((rd_skip (by decide)).trans h7))))) ?_
          refine x_icmpneN O 48 (by omega) (by omega) dX6_readAll_41 (by decide) (fun c41 => ?_) (fun c41 => ?_)
          · refine x_aload_n O 1 dX6_readAll_48 rfl rfl ?_
            refine x_bipush O (nI 59) dX6_readAll_49 (by decide) ?_
            refine x_bipush O (nI 59) dX6_readAll_51 (by decide) ?_
            refine x_cV O 2 (c_m_isAt (μ := (mc (mset (mset (mset (mset μ 0 6 (nI (m_blanks_f6 (μ 3) p1 l))) 0 8 (nI (m_blanks_f8 (μ 3) p1 l))) 0 9 (nI 0)) 0 12 (nI (lsN 0 acc_ + ls1.length))) 1 (lnW (lsW W 0 0 acc_) acc_.length so1 (lsN 0 acc_) ls1))) (m_blanks_f6 (μ 3) p1 l) ((congrFun (mc_n (by decide)) 6).trans ((rd_skip (by decide)).trans ((rd_skip (by decide)).trans ((rd_skip (by decide)).trans rd_hit)))) l ((congrFun (mc_n (by decide)) 7).trans ((rd_skip (by decide)).trans ((rd_skip (by decide)).trans ((rd_skip (by decide)).trans ((rd_skip (by decide)).trans h7))))) hl (by omega) (nI 59) (nI 59)) MS.obj uc6 (lw_V q1868 q1870 qs44 q111 q1871) rfl hd_X6_isAt rfl (by rw [RF]; rfl) (by rw [RL]; rfl) ⟨Nat.zero_le _, Nat.zero_le _⟩ rfl rfl dX6_readAll_53 ?_
            refine x_top (v' := b2i (m_isAt (μ 3) (m_blanks_f6 (μ 3) p1 l) l (nI 59) (nI 59))) (by rw [show (mc (mset (mset (mset (mset μ 0 6 (nI (m_blanks_f6 (μ 3) p1 l))) 0 8 (nI (m_blanks_f8 (μ 3) p1 l))) 0 9 (nI 0)) 0 12 (nI (lsN 0 acc_ + ls1.length))) 1 (lnW (lsW W 0 0 acc_) acc_.length so1 (lsN 0 acc_) ls1)) 3 = μ 3 from ((mc_n (by decide)).trans ((mset_n (by decide)).trans ((mset_n (by decide)).trans ((mset_n (by decide)).trans (mset_n (by decide))))))]) ?_
            refine x_ifneB O 61 dX6_readAll_56 (by decide) (fun c56 => ?_) (fun c56 => ?_)
            · have hat := isAt_lt c56
              refine x_aload_n O 1 dX6_readAll_61 rfl rfl ?_
              refine x_dup O dX6_readAll_62 rfl ?_
              refine x_mget O k_X6_109_6 (mg_6 _ _) dX6_readAll_63 ?_
              refine x_top (v' := nI (m_blanks_f6 (μ 3) p1 l)) ((congrFun (mc_n (by decide)) 6).trans ((rd_skip (by decide)).trans ((rd_skip (by decide)).trans ((rd_skip (by decide)).trans rd_hit)))) ?_
              refine x_iconst O (nI 1) dX6_readAll_66 (by decide) ?_
              refine x_iaddN O dX6_readAll_67 ?_
              refine x_mputQ O p_X6_109_6 (mp_6 _ _ _) rfl dX6_readAll_68 (μ' := (mc (mset (mset (mset (mset μ 0 6 (nI (m_blanks_f6 (μ 3) p1 l + 1))) 0 8 (nI (m_blanks_f8 (μ 3) p1 l))) 0 9 (nI 0)) 0 12 (nI (lsN 0 acc_ + ls1.length))) 1 (lnW (lsW W 0 0 acc_) acc_.length so1 (lsN 0 acc_) ls1))) ((wc_n (by decide)).trans ((congrArg (fun m_ => mc m_ 1 _) (ff_n (by decide))).trans ((congrArg (fun m_ => mc m_ 1 _) (congrArg (fun m_ => mset m_ 0 12 _) (ff_n (by decide)))).trans ((congrArg (fun m_ => mc m_ 1 _) (congrArg (fun m_ => mset m_ 0 12 _) (congrArg (fun m_ => mset m_ 0 9 _) (ff_n (by decide))))).trans (congrArg (fun m_ => mc m_ 1 _) (congrArg (fun m_ => mset m_ 0 12 _) (congrArg (fun m_ => mset m_ 0 9 _) (congrArg (fun m_ => mset m_ 0 8 _) ff_s)))))))) ?_
              refine x_iincN O 0 [(1, .int (nI (acc_.length + 1))), (0, .ref (adr 0))] dX6_readAll_71 rfl rfl rfl ?_
              refine x_goto O 19 dX6_readAll_74 (by decide) ?_
              refine x_weak (Ω' := MS G adr h0 (ps μ (m_blanks_f6 (μ 3) p1 l + 1) (m_blanks_f8 (μ 3) p1 l) 0 (lsN 0 (acc_ ++ [(so1, ls1)])) (lsW W 0 0 (acc_ ++ [(so1, ls1)])))) (fun _ m => by rw [lsN_app, lsW_app, Nat.zero_add]; exact m) ?_
              refine x_eq (L' := [(1, .int (nI (acc_ ++ [(so1, ls1)]).length)), (0, .ref (adr 0))]) ?_ rfl (by rw [List.length_append]; rfl) rfl
              exact IH_ (m_blanks_f6 (μ 3) p1 l + 1) (m_blanks_f8 (μ 3) p1 l) 0 (acc_ ++ [(so1, ls1)]) (by omega) (by omega) (by rw [lsN_app]; show lsN 0 acc_ + ls1.length ≤ _; omega) (by rw [List.length_append]; show acc_.length + 1 ≤ 10; omega) (hE_.trans (by rw [pLines_s]; simp only [hr21, if_neg c41, if_pos c56]))
            · refine x_sub [1] (L' := [(0, .ref (adr 0))]) rfl ?_
              refine x_iconst O ((-1)) dX6_readAll_59 (by decide) ?_
              exact x_iretQ O hQ rfl dX6_readAll_60 (fun h m => post_noA (hE_.trans (by rw [pLines_s]; simp only [hr21, if_neg c41, if_neg c56])) (fun j hj => by first | rfl | simp only [lsW_low hj, lnW_low hj]) m)
          · refine x_iload_n O 0 dX6_readAll_44 rfl rfl ?_
            refine x_iconst O (nI 1) dX6_readAll_45 (by decide) ?_
            refine x_iaddN O dX6_readAll_46 ?_
            refine x_top (v' := nI (acc_ ++ [(so1, ls1)]).length) (by rw [List.length_append]; rfl) ?_
            exact x_iretQ O hQ rfl dX6_readAll_47 (fun h m => post_okA (ls := (acc_ ++ [(so1, ls1)])) (hE_.trans (by rw [pLines_s]; simp only [hr21, if_pos c41])) (by rw [List.length_append]; show acc_.length + 1 ≤ 10; omega) (by rw [lsN_app, lsW_app, Nat.zero_add]; exact m))
        · refine x_cV O 1 (con_noL (c_m_line (μ := μ) l h7 hl h13 acc_.length (by omega) p_ b_ d_ (lsN 0 acc_) (lsW W 0 0 acc_) (by omega) (by omega)) hr21) MS.obj uc6 (lw_V q1942 q1944 qs57 q111 q1945) rfl hd_X6_readLine rfl (by rw [RF]; rfl) (by rw [RL]; rfl) ⟨Nat.zero_le _, Nat.zero_le _⟩ rfl rfl dX6_readAll_21 ?_
          refine x_top (v' := b2i false) rfl ?_
          refine x_ex4 (fun p1 d1 s1 W1 hW1 => ?_)
          refine x_ifneB O 29 dX6_readAll_24 (by decide) (fun c => absurd c (by decide)) (fun _ => ?_)
          refine x_sub [1] (L' := [(0, .ref (adr 0))]) rfl ?_
          refine x_iconst O ((-1)) dX6_readAll_27 (by decide) ?_
          exact x_iretQ O hQ rfl dX6_readAll_28 (fun h m => post_noA (hE_.trans (by rw [pLines_s]; simp only [hr21])) (fun j hj => by first | rfl | simp only [lsW_low hj, lnW_low hj, hW1 j hj]) m)
    exact LOOP19 (l + 1) (m_blanks_f6 (μ 3) 0 l) (m_blanks_f8 (μ 3) 0 l) d [] (by omega) (by omega) (by show 0 ≤ _; omega) (by decide) (by unfold pLaw; rw [if_neg c12])
  · refine x_iconst O (nI 0) dX6_readAll_15 (by decide) ?_
    exact x_iretQ O hQ rfl dX6_readAll_16 (fun h m => post_okA (ls := []) (by unfold pLaw; simp only [if_pos c12]) (by decide) m)
