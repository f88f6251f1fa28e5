def lnW (W : Nat → Int32) (n : Nat) (sort : Int32) (s : Nat) (ls : List (Int32 × Int32)) : Nat → Int32 := ups (em (ups (ups W (m_lineAt 9 n) sort) (m_lineAt 9 n + 1) (nI s)) s ls) (m_lineAt 9 n + 2) (nI (s + ls.length))
theorem ln_low0 {W : Nat → Int32} {n j : Nat} {v : Int32} (h : j < 8645) : ups W (m_lineAt 9 n) v j = W j := ups_n (by unfold m_lineAt m_textAt; omega)
theorem ln_low1 {W : Nat → Int32} {n j k : Nat} {v : Int32} (h : j < 8645) : ups W (m_lineAt 9 n + k) v j = W j := ups_n (by unfold m_lineAt m_textAt; omega)
theorem lnW_low {W : Nat → Int32} {n s j : Nat} {sort : Int32} {ls : List (Int32 × Int32)} (h : j < 8645) : lnW W n sort s ls j = W j := by
  unfold lnW; rw [ln_low1 h, em_low h, ln_low1 h, ln_low0 h]
def srt (T : Nat → Int32) (p b : Nat) : Int32 := if m_isWord T p b 14 = true then nI 0 else if m_isWord T p b 15 = true then nI 1 else if m_isWord T p b 16 = true then nI 2 else if m_isWord T p b 17 = true then nI 3 else if m_isWord T p b 18 = true then nI 4 else (-1)
abbrev PRL : Type := (Nat × Nat × Int32 × List (Int32 × Int32)) ⊕ Nat
def pLine (T : Nat → Int32) (l n p : Nat) : PRL :=
  if n = 10 then .inr (m_letters_f8 T p l) else if srt T (m_letters_f6 T p l) (m_letters_f8 T p l) < 0 then .inr (m_letters_f8 T p l) else
    if m_passes T (m_letters_f6 T p l) l 19 = true then (match pCond T l false 6 (m_passes_f6 T (m_letters_f6 T p l) l 19) with
      | .inl q => .inl (q.1, q.2.1, srt T (m_letters_f6 T p l) (m_letters_f8 T p l), q.2.2)
      | .inr b => .inr b)
    else .inl (m_passes_f6 T (m_letters_f6 T p l) l 19, m_passes_f8 T (m_letters_f6 T p l) l 19, srt T (m_letters_f6 T p l) (m_letters_f8 T p l), [])
def PostL (G : UG) (adr : Nat → Nat) (h0 : Hp) (μ : Mu) (n s : Nat) (W : Nat → Int32) (r : PRL) (v : Option Value) (h' : Hp) : Prop := match r with
  | .inl q => v = some (.int (b2i true)) ∧ MS G adr h0 (ps μ q.1 q.2.1 0 (s + q.2.2.2.length) (lnW W n q.2.2.1 s q.2.2.2)) h'
  | .inr b' => v = some (.int (b2i false)) ∧ ∃ (p' d' s' : Nat) (W' : Nat → Int32), (∀ j, j < 8645 → W' j = W j) ∧ MS G adr h0 (ps μ p' b' d' s' W') h'
section PL
variable {G : UG} {adr : Nat → Nat} {h0 : Hp} {μ : Mu} {n s : Nat} {W : Nat → Int32} {r : PRL}
theorem post_okL {h : Hp} {p' b' : Nat} {sort : Int32} {ls : List (Int32 × Int32)} (e : r = .inl (p', b', sort, ls)) (m : MS G adr h0 (ps μ p' b' 0 (s + ls.length) (lnW W n sort s ls)) h) : PostL G adr h0 μ n s W r (some (.int (b2i true))) h := by subst e; exact ⟨rfl, m⟩
theorem post_noL {h : Hp} {p' b' d' s' : Nat} {W' : Nat → Int32} (e : r = .inr b') (hW : ∀ j, j < 8645 → W' j = W j) (m : MS G adr h0 (ps μ p' b' d' s' W') h) : PostL G adr h0 μ n s W r (some (.int (b2i false))) h := by subst e; exact ⟨rfl, p', d', s', W', hW, m⟩
end PL
theorem srt_len {T : Nat → Int32} {p b : Nat} (h : ¬ srt T p b < 0) : b + 2 ≤ p := by
  have k : ∀ w, w < uSN → m_isWord T p b w = true → b + 2 ≤ p := fun w hw c => by have := isWord_len c; have := sN_1 w hw; omega
  unfold srt at h
  (repeat' split at h) <;> first | exact k 14 (by decide) (by assumption) | exact k 15 (by decide) (by assumption) | exact k 16 (by decide) (by assumption) | exact k 17 (by decide) (by assumption) | exact k 18 (by decide) (by assumption) | exact absurd (by decide) h

set_option maxHeartbeats 1000000 in
set_option maxRecDepth 100000 in
theorem c_m_line {G : UG} {adr : Nat → Nat} {h0 : Hp} {μ : Mu} (l : Nat) (h7 : μ 0 7 = nI l) (hl : l ≤ 400) (h13 : μ 0 13 = b2i false) (n : Nat) (hn : n ≤ 10) (p b d s : Nat) (W : Nat → Int32) (hp : p ≤ l) (hsp : s ≤ p) : Con G yX6_readLine cX6_readLine 3 (some .boolean) 34 1160 0 0 [.ref (adr 0), .int (nI n)] (MS G adr h0 (ps μ p b d s W)) (PostL G adr h0 μ n s W (pLine (μ 3) l n p)) nX := by
  refine con_of2 (plainFor_of_name (by decide)) rfl ?_
  intro F R Q RF RL RC RS hQ O hnh hnm
  refine x_eq (L' := [(0, .ref (adr 0)), (1, .int (nI n))]) ?_ rfl rfl rfl
  refine x_aload_n O 0 dX6_readLine_0 rfl rfl ?_
  refine x_cV O 0 (c_m_letters (μ := (mc (mset (mset (mset (mset μ 0 6 (nI p)) 0 8 (nI b)) 0 9 (nI d)) 0 12 (nI s)) 1 W)) p ((congrFun (mc_n (by decide)) 6).trans ((rd_skip (by decide)).trans ((rd_skip (by decide)).trans ((rd_skip (by decide)).trans rd_hit)))) l ((congrFun (mc_n (by decide)) 7).trans ((rd_skip (by decide)).trans ((rd_skip (by decide)).trans ((rd_skip (by decide)).trans ((rd_skip (by decide)).trans h7))))) hl hp) MS.obj uc6 (lw_V q1877 q1879 qs46 q111 q1880) rfl hd_X6_letters rfl (by rw [RF]; rfl) (by rw [RL]; rfl) ⟨Nat.zero_le _, Nat.zero_le _⟩ rfl rfl dX6_readLine_1 ?_
  refine x_weak (Ω' := MS G adr h0 (mc (mset (mset (mset (mset μ 0 6 (nI (m_letters_f6 (μ 3) p l))) 0 8 (nI (m_letters_f8 (μ 3) p l))) 0 9 (nI d)) 0 12 (nI s)) 1 W)) (fun _ m => by rw [show (mc (mset (mset (mset (mset μ 0 6 (nI p)) 0 8 (nI b)) 0 9 (nI d)) 0 12 (nI s)) 1 W) 3 = μ 3 from ((mc_n (by decide)).trans ((mset_n (by decide)).trans ((mset_n (by decide)).trans ((mset_n (by decide)).trans (mset_n (by decide))))))] at m; exact m.eq ((congrArg (fun m_ => mset m_ 0 8 _) (wc_n (by decide))).trans ((congrArg (fun m_ => mset m_ 0 8 _) (congrArg (fun m_ => mc m_ 1 _) (ff_n (by decide)))).trans ((congrArg (fun m_ => mset m_ 0 8 _) (congrArg (fun m_ => mc m_ 1 _) (congrArg (fun m_ => mset m_ 0 12 _) (ff_n (by decide))))).trans ((congrArg (fun m_ => mset m_ 0 8 _) (congrArg (fun m_ => mc m_ 1 _) (congrArg (fun m_ => mset m_ 0 12 _) (congrArg (fun m_ => mset m_ 0 9 _) (ff_n (by decide)))))).trans ((congrArg (fun m_ => mset m_ 0 8 _) (congrArg (fun m_ => mc m_ 1 _) (congrArg (fun m_ => mset m_ 0 12 _) (congrArg (fun m_ => mset m_ 0 9 _) (congrArg (fun m_ => mset m_ 0 8 _) ff_s))))).trans ((wc_n (by decide)).trans ((congrArg (fun m_ => mc m_ 1 _) (ff_n (by decide))).trans ((congrArg (fun m_ => mc m_ 1 _) (congrArg (fun m_ => mset m_ 0 12 _) (ff_n (by decide)))).trans (congrArg (fun m_ => mc m_ 1 _) (congrArg (fun m_ => mset m_ 0 12 _) (congrArg (fun m_ => mset m_ 0 9 _) ff_s)))))))))))) ?_
  have hb1 := let6_le (T := μ 3) hp
  refine x_iload_n O 1 dX6_readLine_4 rfl rfl ?_
  refine x_bipush O (nI 10) dX6_readLine_5 (by decide) ?_
  refine x_icmpneN O 12 (by omega) (by omega) dX6_readLine_7 (by decide) (fun c7 => ?_) (fun c7 => ?_)
  · refine x_bipush O (nI 9) dX6_readLine_12 (by decide) ?_
    refine x_iload_n O 1 dX6_readLine_14 rfl rfl ?_
    refine x_cS O 2 (c_m_lineAt 9 n) (lw_S q1842 q1843 q111 q1844) hd_X6_lineAt rfl (by rw [RF]; rfl) (by rw [RL]; rfl) ⟨Nat.zero_le _, Nat.zero_le _⟩ rfl rfl dX6_readLine_15 ?_
    refine x_top (v' := nI (m_lineAt 9 n)) rfl ?_
    refine x_istore_n O [(2, .int (nI (m_lineAt 9 n))), (0, .ref (adr 0)), (1, .int (nI n))] dX6_readLine_18 rfl rfl rfl ?_
    refine x_sub [0, 1] (L' := [(2, .int (nI (m_lineAt 9 n))), (0, .ref (adr 0))]) rfl ?_
    refine x_aload_n O 1 dX6_readLine_19 rfl rfl ?_
    refine x_mget O k_X6_13_6 (mg_1 _ _) dX6_readLine_20 ?_
    refine x_iload_n O 0 dX6_readLine_23 rfl rfl ?_
    refine x_aload_n O 1 dX6_readLine_24 rfl rfl ?_
    refine x_ldcS O (i := 14) (tx := "shoot") (List.mem_of_getElem? (i := 46) rfl) dX6_readLine_25 ?_
    refine x_cV O 1 (c_m_isWord (μ := (mc (mset (mset (mset (mset μ 0 6 (nI (m_letters_f6 (μ 3) p l))) 0 8 (nI (m_letters_f8 (μ 3) p l))) 0 9 (nI d)) 0 12 (nI s)) 1 W)) (m_letters_f6 (μ 3) p l) ((congrFun (mc_n (by decide)) 6).trans ((rd_skip (by decide)).trans ((rd_skip (by decide)).trans ((rd_skip (by decide)).trans rd_hit)))) (m_letters_f8 (μ 3) p l) ((congrFun (mc_n (by decide)) 8).trans ((rd_skip (by decide)).trans ((rd_skip (by decide)).trans rd_hit))) (by omega) (by omega) 14 (by decide)) MS.obj uc6 (lw_V q1881 q1883 qs47 q111 q1884) rfl hd_X6_isWord rfl (by rw [RF]; rfl) (by rw [RL]; rfl) ⟨Nat.zero_le _, Nat.zero_le _⟩ rfl rfl dX6_readLine_27 ?_
    refine x_top (v' := b2i (m_isWord (μ 3) (m_letters_f6 (μ 3) p l) (m_letters_f8 (μ 3) p l) 14)) (by rw [show (mc (mset (mset (mset (mset μ 0 6 (nI (m_letters_f6 (μ 3) p l))) 0 8 (nI (m_letters_f8 (μ 3) p l))) 0 9 (nI d)) 0 12 (nI s)) 1 W) 3 = μ 3 from ((mc_n (by decide)).trans ((mset_n (by decide)).trans ((mset_n (by decide)).trans ((mset_n (by decide)).trans (mset_n (by decide))))))]) ?_
    refine x_ifeqB O 37 dX6_readLine_30 (by decide) (fun c30 => ?_) (fun c30 => ?_)
    · refine x_aload_n O 1 dX6_readLine_37 rfl rfl ?_
      refine x_ldcS O (i := 15) (tx := "flee") (List.mem_of_getElem? (i := 47) rfl) dX6_readLine_38 ?_
      refine x_cV O 1 (c_m_isWord (μ := (mc (mset (mset (mset (mset μ 0 6 (nI (m_letters_f6 (μ 3) p l))) 0 8 (nI (m_letters_f8 (μ 3) p l))) 0 9 (nI d)) 0 12 (nI s)) 1 W)) (m_letters_f6 (μ 3) p l) ((congrFun (mc_n (by decide)) 6).trans ((rd_skip (by decide)).trans ((rd_skip (by decide)).trans ((rd_skip (by decide)).trans rd_hit)))) (m_letters_f8 (μ 3) p l) ((congrFun (mc_n (by decide)) 8).trans ((rd_skip (by decide)).trans ((rd_skip (by decide)).trans rd_hit))) (by omega) (by omega) 15 (by decide)) MS.obj uc6 (lw_V q1881 q1883 qs47 q111 q1884) rfl hd_X6_isWord rfl (by rw [RF]; rfl) (by rw [RL]; rfl) ⟨Nat.zero_le _, Nat.zero_le _⟩ rfl rfl dX6_readLine_40 ?_
      refine x_top (v' := b2i (m_isWord (μ 3) (m_letters_f6 (μ 3) p l) (m_letters_f8 (μ 3) p l) 15)) (by rw [show (mc (mset (mset (mset (mset μ 0 6 (nI (m_letters_f6 (μ 3) p l))) 0 8 (nI (m_letters_f8 (μ 3) p l))) 0 9 (nI d)) 0 12 (nI s)) 1 W) 3 = μ 3 from ((mc_n (by decide)).trans ((mset_n (by decide)).trans ((mset_n (by decide)).trans ((mset_n (by decide)).trans (mset_n (by decide))))))]) ?_
      refine x_ifeqB O 50 dX6_readLine_43 (by decide) (fun c43 => ?_) (fun c43 => ?_)
      · refine x_aload_n O 1 dX6_readLine_50 rfl rfl ?_
        refine x_ldcS O (i := 16) (tx := "join") (List.mem_of_getElem? (i := 48) rfl) dX6_readLine_51 ?_
        refine x_cV O 1 (c_m_isWord (μ := (mc (mset (mset (mset (mset μ 0 6 (nI (m_letters_f6 (μ 3) p l))) 0 8 (nI (m_letters_f8 (μ 3) p l))) 0 9 (nI d)) 0 12 (nI s)) 1 W)) (m_letters_f6 (μ 3) p l) ((congrFun (mc_n (by decide)) 6).trans ((rd_skip (by decide)).trans ((rd_skip (by decide)).trans ((rd_skip (by decide)).trans rd_hit)))) (m_letters_f8 (μ 3) p l) ((congrFun (mc_n (by decide)) 8).trans ((rd_skip (by decide)).trans ((rd_skip (by decide)).trans rd_hit))) (by omega) (by omega) 16 (by decide)) MS.obj uc6 (lw_V q1881 q1883 qs47 q111 q1884) rfl hd_X6_isWord rfl (by rw [RF]; rfl) (by rw [RL]; rfl) ⟨Nat.zero_le _, Nat.zero_le _⟩ rfl rfl dX6_readLine_53 ?_
        refine x_top (v' := b2i (m_isWord (μ 3) (m_letters_f6 (μ 3) p l) (m_letters_f8 (μ 3) p l) 16)) (by rw [show (mc (mset (mset (mset (mset μ 0 6 (nI (m_letters_f6 (μ 3) p l))) 0 8 (nI (m_letters_f8 (μ 3) p l))) 0 9 (nI d)) 0 12 (nI s)) 1 W) 3 = μ 3 from ((mc_n (by decide)).trans ((mset_n (by decide)).trans ((mset_n (by decide)).trans ((mset_n (by decide)).trans (mset_n (by decide))))))]) ?_
        refine x_ifeqB O 63 dX6_readLine_56 (by decide) (fun c56 => ?_) (fun c56 => ?_)
        · refine x_aload_n O 1 dX6_readLine_63 rfl rfl ?_
          refine x_ldcS O (i := 17) (tx := "hold") (List.mem_of_getElem? (i := 49) rfl) dX6_readLine_64 ?_
          refine x_cV O 1 (c_m_isWord (μ := (mc (mset (mset (mset (mset μ 0 6 (nI (m_letters_f6 (μ 3) p l))) 0 8 (nI (m_letters_f8 (μ 3) p l))) 0 9 (nI d)) 0 12 (nI s)) 1 W)) (m_letters_f6 (μ 3) p l) ((congrFun (mc_n (by decide)) 6).trans ((rd_skip (by decide)).trans ((rd_skip (by decide)).trans ((rd_skip (by decide)).trans rd_hit)))) (m_letters_f8 (μ 3) p l) ((congrFun (mc_n (by decide)) 8).trans ((rd_skip (by decide)).trans ((rd_skip (by decide)).trans rd_hit))) (by omega) (by omega) 17 (by decide)) MS.obj uc6 (lw_V q1881 q1883 qs47 q111 q1884) rfl hd_X6_isWord rfl (by rw [RF]; rfl) (by rw [RL]; rfl) ⟨Nat.zero_le _, Nat.zero_le _⟩ rfl rfl dX6_readLine_66 ?_
          refine x_top (v' := b2i (m_isWord (μ 3) (m_letters_f6 (μ 3) p l) (m_letters_f8 (μ 3) p l) 17)) (by rw [show (mc (mset (mset (mset (mset μ 0 6 (nI (m_letters_f6 (μ 3) p l))) 0 8 (nI (m_letters_f8 (μ 3) p l))) 0 9 (nI d)) 0 12 (nI s)) 1 W) 3 = μ 3 from ((mc_n (by decide)).trans ((mset_n (by decide)).trans ((mset_n (by decide)).trans ((mset_n (by decide)).trans (mset_n (by decide))))))]) ?_
          refine x_ifeqB O 76 dX6_readLine_69 (by decide) (fun c69 => ?_) (fun c69 => ?_)
          · refine x_aload_n O 1 dX6_readLine_76 rfl rfl ?_
            refine x_ldcS O (i := 18) (tx := "drop") (List.mem_of_getElem? (i := 50) rfl) dX6_readLine_77 ?_
            refine x_cV O 1 (c_m_isWord (μ := (mc (mset (mset (mset (mset μ 0 6 (nI (m_letters_f6 (μ 3) p l))) 0 8 (nI (m_letters_f8 (μ 3) p l))) 0 9 (nI d)) 0 12 (nI s)) 1 W)) (m_letters_f6 (μ 3) p l) ((congrFun (mc_n (by decide)) 6).trans ((rd_skip (by decide)).trans ((rd_skip (by decide)).trans ((rd_skip (by decide)).trans rd_hit)))) (m_letters_f8 (μ 3) p l) ((congrFun (mc_n (by decide)) 8).trans ((rd_skip (by decide)).trans ((rd_skip (by decide)).trans rd_hit))) (by omega) (by omega) 18 (by decide)) MS.obj uc6 (lw_V q1881 q1883 qs47 q111 q1884) rfl hd_X6_isWord rfl (by rw [RF]; rfl) (by rw [RL]; rfl) ⟨Nat.zero_le _, Nat.zero_le _⟩ rfl rfl dX6_readLine_79 ?_
            refine x_top (v' := b2i (m_isWord (μ 3) (m_letters_f6 (μ 3) p l) (m_letters_f8 (μ 3) p l) 18)) (by rw [show (mc (mset (mset (mset (mset μ 0 6 (nI (m_letters_f6 (μ 3) p l))) 0 8 (nI (m_letters_f8 (μ 3) p l))) 0 9 (nI d)) 0 12 (nI s)) 1 W) 3 = μ 3 from ((mc_n (by decide)).trans ((mset_n (by decide)).trans ((mset_n (by decide)).trans ((mset_n (by decide)).trans (mset_n (by decide))))))]) ?_
            refine x_ifeqB O 89 dX6_readLine_82 (by decide) (fun c82 => ?_) (fun c82 => ?_)
            · refine x_iconst O ((-1)) dX6_readLine_89 (by decide) ?_
              refine x_mastQ O 0 MS.c1 rfl rfl rfl (by unfold m_lineAt m_textAt; omega) rfl dX6_readLine_90 (μ' := (mc (mset (mset (mset (mset μ 0 6 (nI (m_letters_f6 (μ 3) p l))) 0 8 (nI (m_letters_f8 (μ 3) p l))) 0 9 (nI d)) 0 12 (nI s)) 1 (ups W (m_lineAt 9 n) ((-1))))) wc_s ?_
              refine x_aload_n O 1 dX6_readLine_91 rfl rfl ?_
              refine x_mget O k_X6_13_6 (mg_1 _ _) dX6_readLine_92 ?_
              refine x_iload_n O 0 dX6_readLine_95 rfl rfl ?_
              refine x_ialdN O MS.c1 (by unfold m_lineAt m_textAt; omega) rfl dX6_readLine_96 ?_
              refine x_top (v' := (ups W (m_lineAt 9 n) ((-1))) (m_lineAt 9 n)) (congrFun mc_s (m_lineAt 9 n)) ?_
              refine x_top (v' := (-1)) ups_s ?_
              refine x_ifge O 102 dX6_readLine_97 (by decide) (fun c97 => ?_) (fun c97 => ?_)
              · exact absurd c97 (by decide)
              · refine x_sub [1] (L' := [(0, .ref (adr 0))]) rfl ?_
                refine x_iconst O (nI 0) dX6_readLine_100 (by decide) ?_
                refine x_top (v' := b2i false) (by decide) ?_
                have hsr : srt (μ 3) (m_letters_f6 (μ 3) p l) (m_letters_f8 (μ 3) p l) = (-1) := by unfold srt; simp only [if_neg c30, if_neg c43, if_neg c56, if_neg c69, if_neg c82]
                exact x_zretQ O hQ rfl dX6_readLine_101 (fun h m => post_noL (by unfold pLine; rw [hsr]; simp only [if_pos (show (-1 : Int32) < 0 by decide), if_neg c7]) (fun j hj => by first | rfl | simp only [em_low hj, emits_low hj, ln_low1 hj, ln_low0 hj]) m)
            · have hlen := isWord_len c82
              have hl2 : 2 ≤ sN 18 := by decide +kernel
              refine x_iconst O (nI 4) dX6_readLine_85 (by decide) ?_
              refine x_goto O 90 dX6_readLine_86 (by decide) ?_
              refine x_mastQ O 0 MS.c1 rfl rfl rfl (by unfold m_lineAt m_textAt; omega) rfl dX6_readLine_90 (μ' := (mc (mset (mset (mset (mset μ 0 6 (nI (m_letters_f6 (μ 3) p l))) 0 8 (nI (m_letters_f8 (μ 3) p l))) 0 9 (nI d)) 0 12 (nI s)) 1 (ups W (m_lineAt 9 n) (nI 4)))) wc_s ?_
              refine x_aload_n O 1 dX6_readLine_91 rfl rfl ?_
              refine x_mget O k_X6_13_6 (mg_1 _ _) dX6_readLine_92 ?_
              refine x_iload_n O 0 dX6_readLine_95 rfl rfl ?_
              refine x_ialdN O MS.c1 (by unfold m_lineAt m_textAt; omega) rfl dX6_readLine_96 ?_
              refine x_top (v' := (ups W (m_lineAt 9 n) (nI 4)) (m_lineAt 9 n)) (congrFun mc_s (m_lineAt 9 n)) ?_
              refine x_top (v' := nI 4) ups_s ?_
              refine x_ifge O 102 dX6_readLine_97 (by decide) (fun c97 => ?_) (fun c97 => ?_)
              · refine x_aload_n O 1 dX6_readLine_102 rfl rfl ?_
                refine x_mget O k_X6_13_6 (mg_1 _ _) dX6_readLine_103 ?_
                refine x_iload_n O 0 dX6_readLine_106 rfl rfl ?_
                refine x_iconst O (nI 1) dX6_readLine_107 (by decide) ?_
                refine x_iaddN O dX6_readLine_108 ?_
                refine x_aload_n O 1 dX6_readLine_109 rfl rfl ?_
                refine x_mget O k_X6_112_6 (mg_12 _ _) dX6_readLine_110 ?_
                refine x_top (v' := nI s) ((congrFun (mc_n (by decide)) 12).trans rd_hit) ?_
                refine x_mastQ O 0 MS.c1 rfl rfl rfl (by unfold m_lineAt m_textAt; omega) rfl dX6_readLine_113 (μ' := (mc (mset (mset (mset (mset μ 0 6 (nI (m_letters_f6 (μ 3) p l))) 0 8 (nI (m_letters_f8 (μ 3) p l))) 0 9 (nI d)) 0 12 (nI s)) 1 (ups (ups W (m_lineAt 9 n) (nI 4)) (m_lineAt 9 n + 1) (nI s)))) wc_s ?_
                refine x_aload_n O 1 dX6_readLine_114 rfl rfl ?_
                refine x_iconst O (nI 0) dX6_readLine_115 (by decide) ?_
                refine x_mputQ O p_X6_115_6 (mp_9 _ _ _) rfl dX6_readLine_116 (μ' := (mc (mset (mset (mset (mset μ 0 6 (nI (m_letters_f6 (μ 3) p l))) 0 8 (nI (m_letters_f8 (μ 3) p l))) 0 9 (nI 0)) 0 12 (nI s)) 1 (ups (ups W (m_lineAt 9 n) (nI 4)) (m_lineAt 9 n + 1) (nI s)))) ((wc_n (by decide)).trans ((congrArg (fun m_ => mc m_ 1 _) (ff_n (by decide))).trans (congrArg (fun m_ => mc m_ 1 _) (congrArg (fun m_ => mset m_ 0 12 _) ff_s)))) ?_
                refine x_aload_n O 1 dX6_readLine_119 rfl rfl ?_
                refine x_ldcS O (i := 19) (tx := "if") (List.mem_of_getElem? (i := 51) rfl) dX6_readLine_120 ?_
                refine x_cV O 1 (c_m_passes (μ := (mc (mset (mset (mset (mset μ 0 6 (nI (m_letters_f6 (μ 3) p l))) 0 8 (nI (m_letters_f8 (μ 3) p l))) 0 9 (nI 0)) 0 12 (nI s)) 1 (ups (ups W (m_lineAt 9 n) (nI 4)) (m_lineAt 9 n + 1) (nI s)))) (m_letters_f6 (μ 3) p l) ((congrFun (mc_n (by decide)) 6).trans ((rd_skip (by decide)).trans ((rd_skip (by decide)).trans ((rd_skip (by decide)).trans rd_hit)))) l ((congrFun (mc_n (by decide)) 7).trans ((rd_skip (by decide)).trans ((rd_skip (by decide)).trans ((rd_skip (by decide)).trans ((rd_skip (by decide)).trans h7))))) hl (by omega) 19 (by decide)) MS.obj uc6 (lw_V q1873 q1875 qs45 q111 q1876) rfl hd_X6_passes rfl (by rw [RF]; rfl) (by rw [RL]; rfl) ⟨Nat.zero_le _, Nat.zero_le _⟩ rfl rfl dX6_readLine_122 ?_
                refine x_top (v' := b2i (m_passes (μ 3) (m_letters_f6 (μ 3) p l) l 19)) (by rw [show (mc (mset (mset (mset (mset μ 0 6 (nI (m_letters_f6 (μ 3) p l))) 0 8 (nI (m_letters_f8 (μ 3) p l))) 0 9 (nI 0)) 0 12 (nI s)) 1 (ups (ups W (m_lineAt 9 n) (nI 4)) (m_lineAt 9 n + 1) (nI s))) 3 = μ 3 from ((mc_n (by decide)).trans ((mset_n (by decide)).trans ((mset_n (by decide)).trans ((mset_n (by decide)).trans (mset_n (by decide))))))]) ?_
                refine x_weak (Ω' := MS G adr h0 (mc (mset (mset (mset (mset μ 0 6 (nI (m_passes_f6 (μ 3) (m_letters_f6 (μ 3) p l) l 19))) 0 8 (nI (m_passes_f8 (μ 3) (m_letters_f6 (μ 3) p l) l 19))) 0 9 (nI 0)) 0 12 (nI s)) 1 (ups (ups W (m_lineAt 9 n) (nI 4)) (m_lineAt 9 n + 1) (nI s)))) (fun _ m => by rw [show (mc (mset (mset (mset (mset μ 0 6 (nI (m_letters_f6 (μ 3) p l))) 0 8 (nI (m_letters_f8 (μ 3) p l))) 0 9 (nI 0)) 0 12 (nI s)) 1 (ups (ups W (m_lineAt 9 n) (nI 4)) (m_lineAt 9 n + 1) (nI s))) 3 = μ 3 from ((mc_n (by decide)).trans ((mset_n (by decide)).trans ((mset_n (by decide)).trans ((mset_n (by decide)).trans (mset_n (by decide))))))] at m; exact m.eq ((congrArg (fun m_ => mset m_ 0 8 _) (wc_n (by decide))).trans ((congrArg (fun m_ => mset m_ 0 8 _) (congrArg (fun m_ => mc m_ 1 _) (ff_n (by decide)))).trans ((congrArg (fun m_ => mset m_ 0 8 _) (congrArg (fun m_ => mc m_ 1 _) (congrArg (fun m_ => mset m_ 0 12 _) (ff_n (by decide))))).trans ((congrArg (fun m_ => mset m_ 0 8 _) (congrArg (fun m_ => mc m_ 1 _) (congrArg (fun m_ => mset m_ 0 12 _) (congrArg (fun m_ => mset m_ 0 9 _) (ff_n (by decide)))))).trans ((congrArg (fun m_ => mset m_ 0 8 _) (congrArg (fun m_ => mc m_ 1 _) (congrArg (fun m_ => mset m_ 0 12 _) (congrArg (fun m_ => mset m_ 0 9 _) (congrArg (fun m_ => mset m_ 0 8 _) ff_s))))).trans ((wc_n (by decide)).trans ((congrArg (fun m_ => mc m_ 1 _) (ff_n (by decide))).trans ((congrArg (fun m_ => mc m_ 1 _) (congrArg (fun m_ => mset m_ 0 12 _) (ff_n (by decide)))).trans (congrArg (fun m_ => mc m_ 1 _) (congrArg (fun m_ => mset m_ 0 12 _) (congrArg (fun m_ => mset m_ 0 9 _) ff_s)))))))))))) ?_
                have hb2 := passes_le (T := μ 3) (p := m_letters_f6 (μ 3) p l) (l := l) (w := 19) (by omega) (by decide)
                refine x_ifeqB O 137 dX6_readLine_125 (by decide) (fun c125 => ?_) (fun c125 => ?_)
                · refine x_aload_n O 1 dX6_readLine_137 rfl rfl ?_
                  refine x_mget O k_X6_13_6 (mg_1 _ _) dX6_readLine_138 ?_
                  refine x_iload_n O 0 dX6_readLine_141 rfl rfl ?_
                  refine x_iconst O (nI 2) dX6_readLine_142 (by decide) ?_
                  refine x_iaddN O dX6_readLine_143 ?_
                  refine x_aload_n O 1 dX6_readLine_144 rfl rfl ?_
                  refine x_mget O k_X6_112_6 (mg_12 _ _) dX6_readLine_145 ?_
                  refine x_top (v' := nI s) ((congrFun (mc_n (by decide)) 12).trans rd_hit) ?_
                  refine x_mastQ O 0 MS.c1 rfl rfl rfl (by unfold m_lineAt m_textAt; omega) rfl dX6_readLine_148 (μ' := (mc (mset (mset (mset (mset μ 0 6 (nI (m_passes_f6 (μ 3) (m_letters_f6 (μ 3) p l) l 19))) 0 8 (nI (m_passes_f8 (μ 3) (m_letters_f6 (μ 3) p l) l 19))) 0 9 (nI 0)) 0 12 (nI s)) 1 (ups (ups (ups W (m_lineAt 9 n) (nI 4)) (m_lineAt 9 n + 1) (nI s)) (m_lineAt 9 n + 2) (nI s)))) wc_s ?_
                  refine x_iconst O (nI 1) dX6_readLine_149 (by decide) ?_
                  refine x_top (v' := b2i true) (by decide) ?_
                  have hsr : srt (μ 3) (m_letters_f6 (μ 3) p l) (m_letters_f8 (μ 3) p l) = nI 4 := by unfold srt; simp only [if_neg c30, if_neg c43, if_neg c56, if_neg c69, if_pos c82]
                  exact x_zretQ O hQ rfl dX6_readLine_150 (fun h m => post_okL (p' := m_passes_f6 (μ 3) (m_letters_f6 (μ 3) p l) l 19) (b' := m_passes_f8 (μ 3) (m_letters_f6 (μ 3) p l) l 19) (sort := nI 4) (ls := []) (by unfold pLine; rw [hsr]; simp only [if_neg (show ¬ nI 4 < 0 by decide), if_neg c7, if_neg c125]) m)
                · refine x_aload_n O 1 dX6_readLine_128 rfl rfl ?_
                  rcases hr129 : pCond (μ 3) l false 6 (m_passes_f6 (μ 3) (m_letters_f6 (μ 3) p l) l 19) with ⟨p1, b1, ls1⟩ | b1
                  · refine x_cV O 0 (con_ok (c_m_cond (μ := μ) l h7 hl false h13 (m_passes_f6 (μ 3) (m_letters_f6 (μ 3) p l) l 19) (m_passes_f8 (μ 3) (m_letters_f6 (μ 3) p l) l 19) s (ups (ups W (m_lineAt 9 n) (nI 4)) (m_lineAt 9 n + 1) (nI s)) (by omega) (by omega) (by omega)) hr129) MS.obj uc6 (lw_V q1848 q1850 qs39 q111 q1851) rfl hd_X6_readCond rfl (by rw [RF]; rfl) (by rw [RL]; rfl) ⟨Nat.zero_le _, Nat.zero_le _⟩ rfl rfl dX6_readLine_129 ?_
                    refine x_top (v' := b2i true) rfl ?_
                    have hF1 := PLl (pCond_le (T := μ 3) (story := false) 6 _ (by omega)) hr129
                    refine x_ifneB O 137 dX6_readLine_132 (by decide) (fun _ => ?_) (fun c => absurd rfl c)
                    refine x_aload_n O 1 dX6_readLine_137 rfl rfl ?_
                    refine x_mget O k_X6_13_6 (mg_1 _ _) dX6_readLine_138 ?_
                    refine x_iload_n O 0 dX6_readLine_141 rfl rfl ?_
                    refine x_iconst O (nI 2) dX6_readLine_142 (by decide) ?_
                    refine x_iaddN O dX6_readLine_143 ?_
                    refine x_aload_n O 1 dX6_readLine_144 rfl rfl ?_
                    refine x_mget O k_X6_112_6 (mg_12 _ _) dX6_readLine_145 ?_
                    refine x_top (v' := nI (s + ls1.length)) ((congrFun (mc_n (by decide)) 12).trans rd_hit) ?_
                    refine x_mastQ O 0 MS.c1 rfl rfl rfl (by unfold m_lineAt m_textAt; omega) rfl dX6_readLine_148 (μ' := (mc (mset (mset (mset (mset μ 0 6 (nI p1)) 0 8 (nI b1)) 0 9 (nI 0)) 0 12 (nI (s + ls1.length))) 1 (ups (em (ups (ups W (m_lineAt 9 n) (nI 4)) (m_lineAt 9 n + 1) (nI s)) s ls1) (m_lineAt 9 n + 2) (nI (s + ls1.length))))) wc_s ?_
                    refine x_iconst O (nI 1) dX6_readLine_149 (by decide) ?_
                    refine x_top (v' := b2i true) (by decide) ?_
                    have hsr : srt (μ 3) (m_letters_f6 (μ 3) p l) (m_letters_f8 (μ 3) p l) = nI 4 := by unfold srt; simp only [if_neg c30, if_neg c43, if_neg c56, if_neg c69, if_pos c82]
                    exact x_zretQ O hQ rfl dX6_readLine_150 (fun h m => post_okL (p' := p1) (b' := b1) (sort := nI 4) (ls := ls1) (by unfold pLine; rw [hsr]; simp only [if_neg (show ¬ nI 4 < 0 by decide), if_neg c7, if_pos c125, hr129]) m)
                  · refine x_cV O 0 (con_no (c_m_cond (μ := μ) l h7 hl false h13 (m_passes_f6 (μ 3) (m_letters_f6 (μ 3) p l) l 19) (m_passes_f8 (μ 3) (m_letters_f6 (μ 3) p l) l 19) s (ups (ups W (m_lineAt 9 n) (nI 4)) (m_lineAt 9 n + 1) (nI s)) (by omega) (by omega) (by omega)) hr129) MS.obj uc6 (lw_V q1848 q1850 qs39 q111 q1851) rfl hd_X6_readCond rfl (by rw [RF]; rfl) (by rw [RL]; rfl) ⟨Nat.zero_le _, Nat.zero_le _⟩ rfl rfl dX6_readLine_129 ?_
                    refine x_top (v' := b2i false) rfl ?_
                    refine x_ex4 (fun p1 d1 s1 W1 hW1 => ?_)
                    refine x_ifneB O 137 dX6_readLine_132 (by decide) (fun c => absurd c (by decide)) (fun _ => ?_)
                    refine x_sub [1] (L' := [(0, .ref (adr 0))]) rfl ?_
                    refine x_iconst O (nI 0) dX6_readLine_135 (by decide) ?_
                    refine x_top (v' := b2i false) (by decide) ?_
                    have hsr : srt (μ 3) (m_letters_f6 (μ 3) p l) (m_letters_f8 (μ 3) p l) = nI 4 := by unfold srt; simp only [if_neg c30, if_neg c43, if_neg c56, if_neg c69, if_pos c82]
                    exact x_zretQ O hQ rfl dX6_readLine_136 (fun h m => post_noL (by unfold pLine; rw [hsr]; simp only [if_neg (show ¬ nI 4 < 0 by decide), if_neg c7, if_pos c125, hr129]) (fun j hj => by first | rfl | simp only [em_low hj, emits_low hj, ln_low1 hj, ln_low0 hj, hW1 j hj]) m)
              · exact absurd (by decide) c97
          · have hlen := isWord_len c69
            have hl2 : 2 ≤ sN 17 := by decide +kernel
            refine x_iconst O (nI 3) dX6_readLine_72 (by decide) ?_
            refine x_goto O 90 dX6_readLine_73 (by decide) ?_
            refine x_mastQ O 0 MS.c1 rfl rfl rfl (by unfold m_lineAt m_textAt; omega) rfl dX6_readLine_90 (μ' := (mc (mset (mset (mset (mset μ 0 6 (nI (m_letters_f6 (μ 3) p l))) 0 8 (nI (m_letters_f8 (μ 3) p l))) 0 9 (nI d)) 0 12 (nI s)) 1 (ups W (m_lineAt 9 n) (nI 3)))) wc_s ?_
            refine x_aload_n O 1 dX6_readLine_91 rfl rfl ?_
            refine x_mget O k_X6_13_6 (mg_1 _ _) dX6_readLine_92 ?_
            refine x_iload_n O 0 dX6_readLine_95 rfl rfl ?_
            refine x_ialdN O MS.c1 (by unfold m_lineAt m_textAt; omega) rfl dX6_readLine_96 ?_
            refine x_top (v' := (ups W (m_lineAt 9 n) (nI 3)) (m_lineAt 9 n)) (congrFun mc_s (m_lineAt 9 n)) ?_
            refine x_top (v' := nI 3) ups_s ?_
            refine x_ifge O 102 dX6_readLine_97 (by decide) (fun c97 => ?_) (fun c97 => ?_)
            · refine x_aload_n O 1 dX6_readLine_102 rfl rfl ?_
              refine x_mget O k_X6_13_6 (mg_1 _ _) dX6_readLine_103 ?_
              refine x_iload_n O 0 dX6_readLine_106 rfl rfl ?_
              refine x_iconst O (nI 1) dX6_readLine_107 (by decide) ?_
              refine x_iaddN O dX6_readLine_108 ?_
              refine x_aload_n O 1 dX6_readLine_109 rfl rfl ?_
              refine x_mget O k_X6_112_6 (mg_12 _ _) dX6_readLine_110 ?_
              refine x_top (v' := nI s) ((congrFun (mc_n (by decide)) 12).trans rd_hit) ?_
              refine x_mastQ O 0 MS.c1 rfl rfl rfl (by unfold m_lineAt m_textAt; omega) rfl dX6_readLine_113 (μ' := (mc (mset (mset (mset (mset μ 0 6 (nI (m_letters_f6 (μ 3) p l))) 0 8 (nI (m_letters_f8 (μ 3) p l))) 0 9 (nI d)) 0 12 (nI s)) 1 (ups (ups W (m_lineAt 9 n) (nI 3)) (m_lineAt 9 n + 1) (nI s)))) wc_s ?_
              refine x_aload_n O 1 dX6_readLine_114 rfl rfl ?_
              refine x_iconst O (nI 0) dX6_readLine_115 (by decide) ?_
              refine x_mputQ O p_X6_115_6 (mp_9 _ _ _) rfl dX6_readLine_116 (μ' := (mc (mset (mset (mset (mset μ 0 6 (nI (m_letters_f6 (μ 3) p l))) 0 8 (nI (m_letters_f8 (μ 3) p l))) 0 9 (nI 0)) 0 12 (nI s)) 1 (ups (ups W (m_lineAt 9 n) (nI 3)) (m_lineAt 9 n + 1) (nI s)))) ((wc_n (by decide)).trans ((congrArg (fun m_ => mc m_ 1 _) (ff_n (by decide))).trans (congrArg (fun m_ => mc m_ 1 _) (congrArg (fun m_ => mset m_ 0 12 _) ff_s)))) ?_
              refine x_aload_n O 1 dX6_readLine_119 rfl rfl ?_
              refine x_ldcS O (i := 19) (tx := "if") (List.mem_of_getElem? (i := 51) rfl) dX6_readLine_120 ?_
              refine x_cV O 1 (c_m_passes (μ := (mc (mset (mset (mset (mset μ 0 6 (nI (m_letters_f6 (μ 3) p l))) 0 8 (nI (m_letters_f8 (μ 3) p l))) 0 9 (nI 0)) 0 12 (nI s)) 1 (ups (ups W (m_lineAt 9 n) (nI 3)) (m_lineAt 9 n + 1) (nI s)))) (m_letters_f6 (μ 3) p l) ((congrFun (mc_n (by decide)) 6).trans ((rd_skip (by decide)).trans ((rd_skip (by decide)).trans ((rd_skip (by decide)).trans rd_hit)))) l ((congrFun (mc_n (by decide)) 7).trans ((rd_skip (by decide)).trans ((rd_skip (by decide)).trans ((rd_skip (by decide)).trans ((rd_skip (by decide)).trans h7))))) hl (by omega) 19 (by decide)) MS.obj uc6 (lw_V q1873 q1875 qs45 q111 q1876) rfl hd_X6_passes rfl (by rw [RF]; rfl) (by rw [RL]; rfl) ⟨Nat.zero_le _, Nat.zero_le _⟩ rfl rfl dX6_readLine_122 ?_
              refine x_top (v' := b2i (m_passes (μ 3) (m_letters_f6 (μ 3) p l) l 19)) (by rw [show (mc (mset (mset (mset (mset μ 0 6 (nI (m_letters_f6 (μ 3) p l))) 0 8 (nI (m_letters_f8 (μ 3) p l))) 0 9 (nI 0)) 0 12 (nI s)) 1 (ups (ups W (m_lineAt 9 n) (nI 3)) (m_lineAt 9 n + 1) (nI s))) 3 = μ 3 from ((mc_n (by decide)).trans ((mset_n (by decide)).trans ((mset_n (by decide)).trans ((mset_n (by decide)).trans (mset_n (by decide))))))]) ?_
              refine x_weak (Ω' := MS G adr h0 (mc (mset (mset (mset (mset μ 0 6 (nI (m_passes_f6 (μ 3) (m_letters_f6 (μ 3) p l) l 19))) 0 8 (nI (m_passes_f8 (μ 3) (m_letters_f6 (μ 3) p l) l 19))) 0 9 (nI 0)) 0 12 (nI s)) 1 (ups (ups W (m_lineAt 9 n) (nI 3)) (m_lineAt 9 n + 1) (nI s)))) (fun _ m => by rw [show (mc (mset (mset (mset (mset μ 0 6 (nI (m_letters_f6 (μ 3) p l))) 0 8 (nI (m_letters_f8 (μ 3) p l))) 0 9 (nI 0)) 0 12 (nI s)) 1 (ups (ups W (m_lineAt 9 n) (nI 3)) (m_lineAt 9 n + 1) (nI s))) 3 = μ 3 from ((mc_n (by decide)).trans ((mset_n (by decide)).trans ((mset_n (by decide)).trans ((mset_n (by decide)).trans (mset_n (by decide))))))] at m; exact m.eq ((congrArg (fun m_ => mset m_ 0 8 _) (wc_n (by decide))).trans ((congrArg (fun m_ => mset m_ 0 8 _) (congrArg (fun m_ => mc m_ 1 _) (ff_n (by decide)))).trans ((congrArg (fun m_ => mset m_ 0 8 _) (congrArg (fun m_ => mc m_ 1 _) (congrArg (fun m_ => mset m_ 0 12 _) (ff_n (by decide))))).trans ((congrArg (fun m_ => mset m_ 0 8 _) (congrArg (fun m_ => mc m_ 1 _) (congrArg (fun m_ => mset m_ 0 12 _) (congrArg (fun m_ => mset m_ 0 9 _) (ff_n (by decide)))))).trans ((congrArg (fun m_ => mset m_ 0 8 _) (congrArg (fun m_ => mc m_ 1 _) (congrArg (fun m_ => mset m_ 0 12 _) (congrArg (fun m_ => mset m_ 0 9 _) (congrArg (fun m_ => mset m_ 0 8 _) ff_s))))).trans ((wc_n (by decide)).trans ((congrArg (fun m_ => mc m_ 1 _) (ff_n (by decide))).trans ((congrArg (fun m_ => mc m_ 1 _) (congrArg (fun m_ => mset m_ 0 12 _) (ff_n (by decide)))).trans (congrArg (fun m_ => mc m_ 1 _) (congrArg (fun m_ => mset m_ 0 12 _) (congrArg (fun m_ => mset m_ 0 9 _) ff_s)))))))))))) ?_
              have hb2 := passes_le (T := μ 3) (p := m_letters_f6 (μ 3) p l) (l := l) (w := 19) (by omega) (by decide)
              refine x_ifeqB O 137 dX6_readLine_125 (by decide) (fun c125 => ?_) (fun c125 => ?_)
              · refine x_aload_n O 1 dX6_readLine_137 rfl rfl ?_
                refine x_mget O k_X6_13_6 (mg_1 _ _) dX6_readLine_138 ?_
                refine x_iload_n O 0 dX6_readLine_141 rfl rfl ?_
                refine x_iconst O (nI 2) dX6_readLine_142 (by decide) ?_
                refine x_iaddN O dX6_readLine_143 ?_
                refine x_aload_n O 1 dX6_readLine_144 rfl rfl ?_
                refine x_mget O k_X6_112_6 (mg_12 _ _) dX6_readLine_145 ?_
                refine x_top (v' := nI s) ((congrFun (mc_n (by decide)) 12).trans rd_hit) ?_
                refine x_mastQ O 0 MS.c1 rfl rfl rfl (by unfold m_lineAt m_textAt; omega) rfl dX6_readLine_148 (μ' := (mc (mset (mset (mset (mset μ 0 6 (nI (m_passes_f6 (μ 3) (m_letters_f6 (μ 3) p l) l 19))) 0 8 (nI (m_passes_f8 (μ 3) (m_letters_f6 (μ 3) p l) l 19))) 0 9 (nI 0)) 0 12 (nI s)) 1 (ups (ups (ups W (m_lineAt 9 n) (nI 3)) (m_lineAt 9 n + 1) (nI s)) (m_lineAt 9 n + 2) (nI s)))) wc_s ?_
                refine x_iconst O (nI 1) dX6_readLine_149 (by decide) ?_
                refine x_top (v' := b2i true) (by decide) ?_
                have hsr : srt (μ 3) (m_letters_f6 (μ 3) p l) (m_letters_f8 (μ 3) p l) = nI 3 := by unfold srt; simp only [if_neg c30, if_neg c43, if_neg c56, if_pos c69]
                exact x_zretQ O hQ rfl dX6_readLine_150 (fun h m => post_okL (p' := m_passes_f6 (μ 3) (m_letters_f6 (μ 3) p l) l 19) (b' := m_passes_f8 (μ 3) (m_letters_f6 (μ 3) p l) l 19) (sort := nI 3) (ls := []) (by unfold pLine; rw [hsr]; simp only [if_neg (show ¬ nI 3 < 0 by decide), if_neg c7, if_neg c125]) m)
              · refine x_aload_n O 1 dX6_readLine_128 rfl rfl ?_
                rcases hr129 : pCond (μ 3) l false 6 (m_passes_f6 (μ 3) (m_letters_f6 (μ 3) p l) l 19) with ⟨p2, b2, ls2⟩ | b2
                · refine x_cV O 0 (con_ok (c_m_cond (μ := μ) l h7 hl false h13 (m_passes_f6 (μ 3) (m_letters_f6 (μ 3) p l) l 19) (m_passes_f8 (μ 3) (m_letters_f6 (μ 3) p l) l 19) s (ups (ups W (m_lineAt 9 n) (nI 3)) (m_lineAt 9 n + 1) (nI s)) (by omega) (by omega) (by omega)) hr129) MS.obj uc6 (lw_V q1848 q1850 qs39 q111 q1851) rfl hd_X6_readCond rfl (by rw [RF]; rfl) (by rw [RL]; rfl) ⟨Nat.zero_le _, Nat.zero_le _⟩ rfl rfl dX6_readLine_129 ?_
                  refine x_top (v' := b2i true) rfl ?_
                  have hF2 := PLl (pCond_le (T := μ 3) (story := false) 6 _ (by omega)) hr129
                  refine x_ifneB O 137 dX6_readLine_132 (by decide) (fun _ => ?_) (fun c => absurd rfl c)
                  refine x_aload_n O 1 dX6_readLine_137 rfl rfl ?_
                  refine x_mget O k_X6_13_6 (mg_1 _ _) dX6_readLine_138 ?_
                  refine x_iload_n O 0 dX6_readLine_141 rfl rfl ?_
                  refine x_iconst O (nI 2) dX6_readLine_142 (by decide) ?_
                  refine x_iaddN O dX6_readLine_143 ?_
                  refine x_aload_n O 1 dX6_readLine_144 rfl rfl ?_
                  refine x_mget O k_X6_112_6 (mg_12 _ _) dX6_readLine_145 ?_
                  refine x_top (v' := nI (s + ls2.length)) ((congrFun (mc_n (by decide)) 12).trans rd_hit) ?_
                  refine x_mastQ O 0 MS.c1 rfl rfl rfl (by unfold m_lineAt m_textAt; omega) rfl dX6_readLine_148 (μ' := (mc (mset (mset (mset (mset μ 0 6 (nI p2)) 0 8 (nI b2)) 0 9 (nI 0)) 0 12 (nI (s + ls2.length))) 1 (ups (em (ups (ups W (m_lineAt 9 n) (nI 3)) (m_lineAt 9 n + 1) (nI s)) s ls2) (m_lineAt 9 n + 2) (nI (s + ls2.length))))) wc_s ?_
                  refine x_iconst O (nI 1) dX6_readLine_149 (by decide) ?_
                  refine x_top (v' := b2i true) (by decide) ?_
                  have hsr : srt (μ 3) (m_letters_f6 (μ 3) p l) (m_letters_f8 (μ 3) p l) = nI 3 := by unfold srt; simp only [if_neg c30, if_neg c43, if_neg c56, if_pos c69]
                  exact x_zretQ O hQ rfl dX6_readLine_150 (fun h m => post_okL (p' := p2) (b' := b2) (sort := nI 3) (ls := ls2) (by unfold pLine; rw [hsr]; simp only [if_neg (show ¬ nI 3 < 0 by decide), if_neg c7, if_pos c125, hr129]) m)
                · refine x_cV O 0 (con_no (c_m_cond (μ := μ) l h7 hl false h13 (m_passes_f6 (μ 3) (m_letters_f6 (μ 3) p l) l 19) (m_passes_f8 (μ 3) (m_letters_f6 (μ 3) p l) l 19) s (ups (ups W (m_lineAt 9 n) (nI 3)) (m_lineAt 9 n + 1) (nI s)) (by omega) (by omega) (by omega)) hr129) MS.obj uc6 (lw_V q1848 q1850 qs39 q111 q1851) rfl hd_X6_readCond rfl (by rw [RF]; rfl) (by rw [RL]; rfl) ⟨Nat.zero_le _, Nat.zero_le _⟩ rfl rfl dX6_readLine_129 ?_
                  refine x_top (v' := b2i false) rfl ?_
                  refine x_ex4 (fun p2 d2 s2 W2 hW2 => ?_)
                  refine x_ifneB O 137 dX6_readLine_132 (by decide) (fun c => absurd c (by decide)) (fun _ => ?_)
                  refine x_sub [1] (L' := [(0, .ref (adr 0))]) rfl ?_
                  refine x_iconst O (nI 0) dX6_readLine_135 (by decide) ?_
                  refine x_top (v' := b2i false) (by decide) ?_
                  have hsr : srt (μ 3) (m_letters_f6 (μ 3) p l) (m_letters_f8 (μ 3) p l) = nI 3 := by unfold srt; simp only [if_neg c30, if_neg c43, if_neg c56, if_pos c69]
                  exact x_zretQ O hQ rfl dX6_readLine_136 (fun h m => post_noL (by unfold pLine; rw [hsr]; simp only [if_neg (show ¬ nI 3 < 0 by decide), if_neg c7, if_pos c125, hr129]) (fun j hj => by first | rfl | simp only [em_low hj, emits_low hj, ln_low1 hj, ln_low0 hj, hW2 j hj]) m)
            · exact absurd (by decide) c97
        · have hlen := isWord_len c56
          have hl2 : 2 ≤ sN 16 := by decide +kernel
          refine x_iconst O (nI 2) dX6_readLine_59 (by decide) ?_
          refine x_goto O 90 dX6_readLine_60 (by decide) ?_
          refine x_mastQ O 0 MS.c1 rfl rfl rfl (by unfold m_lineAt m_textAt; omega) rfl dX6_readLine_90 (μ' := (mc (mset (mset (mset (mset μ 0 6 (nI (m_letters_f6 (μ 3) p l))) 0 8 (nI (m_letters_f8 (μ 3) p l))) 0 9 (nI d)) 0 12 (nI s)) 1 (ups W (m_lineAt 9 n) (nI 2)))) wc_s ?_
          refine x_aload_n O 1 dX6_readLine_91 rfl rfl ?_
          refine x_mget O k_X6_13_6 (mg_1 _ _) dX6_readLine_92 ?_
          refine x_iload_n O 0 dX6_readLine_95 rfl rfl ?_
          refine x_ialdN O MS.c1 (by unfold m_lineAt m_textAt; omega) rfl dX6_readLine_96 ?_
          refine x_top (v' := (ups W (m_lineAt 9 n) (nI 2)) (m_lineAt 9 n)) (congrFun mc_s (m_lineAt 9 n)) ?_
          refine x_top (v' := nI 2) ups_s ?_
          refine x_ifge O 102 dX6_readLine_97 (by decide) (fun c97 => ?_) (fun c97 => ?_)
          · refine x_aload_n O 1 dX6_readLine_102 rfl rfl ?_
            refine x_mget O k_X6_13_6 (mg_1 _ _) dX6_readLine_103 ?_
            refine x_iload_n O 0 dX6_readLine_106 rfl rfl ?_
            refine x_iconst O (nI 1) dX6_readLine_107 (by decide) ?_
            refine x_iaddN O dX6_readLine_108 ?_
            refine x_aload_n O 1 dX6_readLine_109 rfl rfl ?_
            refine x_mget O k_X6_112_6 (mg_12 _ _) dX6_readLine_110 ?_
            refine x_top (v' := nI s) ((congrFun (mc_n (by decide)) 12).trans rd_hit) ?_
            refine x_mastQ O 0 MS.c1 rfl rfl rfl (by unfold m_lineAt m_textAt; omega) rfl dX6_readLine_113 (μ' := (mc (mset (mset (mset (mset μ 0 6 (nI (m_letters_f6 (μ 3) p l))) 0 8 (nI (m_letters_f8 (μ 3) p l))) 0 9 (nI d)) 0 12 (nI s)) 1 (ups (ups W (m_lineAt 9 n) (nI 2)) (m_lineAt 9 n + 1) (nI s)))) wc_s ?_
            refine x_aload_n O 1 dX6_readLine_114 rfl rfl ?_
            refine x_iconst O (nI 0) dX6_readLine_115 (by decide) ?_
            refine x_mputQ O p_X6_115_6 (mp_9 _ _ _) rfl dX6_readLine_116 (μ' := (mc (mset (mset (mset (mset μ 0 6 (nI (m_letters_f6 (μ 3) p l))) 0 8 (nI (m_letters_f8 (μ 3) p l))) 0 9 (nI 0)) 0 12 (nI s)) 1 (ups (ups W (m_lineAt 9 n) (nI 2)) (m_lineAt 9 n + 1) (nI s)))) ((wc_n (by decide)).trans ((congrArg (fun m_ => mc m_ 1 _) (ff_n (by decide))).trans (congrArg (fun m_ => mc m_ 1 _) (congrArg (fun m_ => mset m_ 0 12 _) ff_s)))) ?_
            refine x_aload_n O 1 dX6_readLine_119 rfl rfl ?_
            refine x_ldcS O (i := 19) (tx := "if") (List.mem_of_getElem? (i := 51) rfl) dX6_readLine_120 ?_
            refine x_cV O 1 (c_m_passes (μ := (mc (mset (mset (mset (mset μ 0 6 (nI (m_letters_f6 (μ 3) p l))) 0 8 (nI (m_letters_f8 (μ 3) p l))) 0 9 (nI 0)) 0 12 (nI s)) 1 (ups (ups W (m_lineAt 9 n) (nI 2)) (m_lineAt 9 n + 1) (nI s)))) (m_letters_f6 (μ 3) p l) ((congrFun (mc_n (by decide)) 6).trans ((rd_skip (by decide)).trans ((rd_skip (by decide)).trans ((rd_skip (by decide)).trans rd_hit)))) l ((congrFun (mc_n (by decide)) 7).trans ((rd_skip (by decide)).trans ((rd_skip (by decide)).trans ((rd_skip (by decide)).trans ((rd_skip (by decide)).trans h7))))) hl (by omega) 19 (by decide)) MS.obj uc6 (lw_V q1873 q1875 qs45 q111 q1876) rfl hd_X6_passes rfl (by rw [RF]; rfl) (by rw [RL]; rfl) ⟨Nat.zero_le _, Nat.zero_le _⟩ rfl rfl dX6_readLine_122 ?_
            refine x_top (v' := b2i (m_passes (μ 3) (m_letters_f6 (μ 3) p l) l 19)) (by rw [show (mc (mset (mset (mset (mset μ 0 6 (nI (m_letters_f6 (μ 3) p l))) 0 8 (nI (m_letters_f8 (μ 3) p l))) 0 9 (nI 0)) 0 12 (nI s)) 1 (ups (ups W (m_lineAt 9 n) (nI 2)) (m_lineAt 9 n + 1) (nI s))) 3 = μ 3 from ((mc_n (by decide)).trans ((mset_n (by decide)).trans ((mset_n (by decide)).trans ((mset_n (by decide)).trans (mset_n (by decide))))))]) ?_
            refine x_weak (Ω' := MS G adr h0 (mc (mset (mset (mset (mset μ 0 6 (nI (m_passes_f6 (μ 3) (m_letters_f6 (μ 3) p l) l 19))) 0 8 (nI (m_passes_f8 (μ 3) (m_letters_f6 (μ 3) p l) l 19))) 0 9 (nI 0)) 0 12 (nI s)) 1 (ups (ups W (m_lineAt 9 n) (nI 2)) (m_lineAt 9 n + 1) (nI s)))) (fun _ m => by rw [show (mc (mset (mset (mset (mset μ 0 6 (nI (m_letters_f6 (μ 3) p l))) 0 8 (nI (m_letters_f8 (μ 3) p l))) 0 9 (nI 0)) 0 12 (nI s)) 1 (ups (ups W (m_lineAt 9 n) (nI 2)) (m_lineAt 9 n + 1) (nI s))) 3 = μ 3 from ((mc_n (by decide)).trans ((mset_n (by decide)).trans ((mset_n (by decide)).trans ((mset_n (by decide)).trans (mset_n (by decide))))))] at m; exact m.eq ((congrArg (fun m_ => mset m_ 0 8 _) (wc_n (by decide))).trans ((congrArg (fun m_ => mset m_ 0 8 _) (congrArg (fun m_ => mc m_ 1 _) (ff_n (by decide)))).trans ((congrArg (fun m_ => mset m_ 0 8 _) (congrArg (fun m_ => mc m_ 1 _) (congrArg (fun m_ => mset m_ 0 12 _) (ff_n (by decide))))).trans ((congrArg (fun m_ => mset m_ 0 8 _) (congrArg (fun m_ => mc m_ 1 _) (congrArg (fun m_ => mset m_ 0 12 _) (congrArg (fun m_ => mset m_ 0 9 _) (ff_n (by decide)))))).trans ((congrArg (fun m_ => mset m_ 0 8 _) (congrArg (fun m_ => mc m_ 1 _) (congrArg (fun m_ => mset m_ 0 12 _) (congrArg (fun m_ => mset m_ 0 9 _) (congrArg (fun m_ => mset m_ 0 8 _) ff_s))))).trans ((wc_n (by decide)).trans ((congrArg (fun m_ => mc m_ 1 _) (ff_n (by decide))).trans ((congrArg (fun m_ => mc m_ 1 _) (congrArg (fun m_ => mset m_ 0 12 _) (ff_n (by decide)))).trans (congrArg (fun m_ => mc m_ 1 _) (congrArg (fun m_ => mset m_ 0 12 _) (congrArg (fun m_ => mset m_ 0 9 _) ff_s)))))))))))) ?_
            have hb2 := passes_le (T := μ 3) (p := m_letters_f6 (μ 3) p l) (l := l) (w := 19) (by omega) (by decide)
            refine x_ifeqB O 137 dX6_readLine_125 (by decide) (fun c125 => ?_) (fun c125 => ?_)
            · refine x_aload_n O 1 dX6_readLine_137 rfl rfl ?_
              refine x_mget O k_X6_13_6 (mg_1 _ _) dX6_readLine_138 ?_
              refine x_iload_n O 0 dX6_readLine_141 rfl rfl ?_
              refine x_iconst O (nI 2) dX6_readLine_142 (by decide) ?_
              refine x_iaddN O dX6_readLine_143 ?_
              refine x_aload_n O 1 dX6_readLine_144 rfl rfl ?_
              refine x_mget O k_X6_112_6 (mg_12 _ _) dX6_readLine_145 ?_
              refine x_top (v' := nI s) ((congrFun (mc_n (by decide)) 12).trans rd_hit) ?_
              refine x_mastQ O 0 MS.c1 rfl rfl rfl (by unfold m_lineAt m_textAt; omega) rfl dX6_readLine_148 (μ' := (mc (mset (mset (mset (mset μ 0 6 (nI (m_passes_f6 (μ 3) (m_letters_f6 (μ 3) p l) l 19))) 0 8 (nI (m_passes_f8 (μ 3) (m_letters_f6 (μ 3) p l) l 19))) 0 9 (nI 0)) 0 12 (nI s)) 1 (ups (ups (ups W (m_lineAt 9 n) (nI 2)) (m_lineAt 9 n + 1) (nI s)) (m_lineAt 9 n + 2) (nI s)))) wc_s ?_
              refine x_iconst O (nI 1) dX6_readLine_149 (by decide) ?_
              refine x_top (v' := b2i true) (by decide) ?_
              have hsr : srt (μ 3) (m_letters_f6 (μ 3) p l) (m_letters_f8 (μ 3) p l) = nI 2 := by unfold srt; simp only [if_neg c30, if_neg c43, if_pos c56]
              exact x_zretQ O hQ rfl dX6_readLine_150 (fun h m => post_okL (p' := m_passes_f6 (μ 3) (m_letters_f6 (μ 3) p l) l 19) (b' := m_passes_f8 (μ 3) (m_letters_f6 (μ 3) p l) l 19) (sort := nI 2) (ls := []) (by unfold pLine; rw [hsr]; simp only [if_neg (show ¬ nI 2 < 0 by decide), if_neg c7, if_neg c125]) m)
            · refine x_aload_n O 1 dX6_readLine_128 rfl rfl ?_
              rcases hr129 : pCond (μ 3) l false 6 (m_passes_f6 (μ 3) (m_letters_f6 (μ 3) p l) l 19) with ⟨p3, b3, ls3⟩ | b3
              · refine x_cV O 0 (con_ok (c_m_cond (μ := μ) l h7 hl false h13 (m_passes_f6 (μ 3) (m_letters_f6 (μ 3) p l) l 19) (m_passes_f8 (μ 3) (m_letters_f6 (μ 3) p l) l 19) s (ups (ups W (m_lineAt 9 n) (nI 2)) (m_lineAt 9 n + 1) (nI s)) (by omega) (by omega) (by omega)) hr129) MS.obj uc6 (lw_V q1848 q1850 qs39 q111 q1851) rfl hd_X6_readCond rfl (by rw [RF]; rfl) (by rw [RL]; rfl) ⟨Nat.zero_le _, Nat.zero_le _⟩ rfl rfl dX6_readLine_129 ?_
                refine x_top (v' := b2i true) rfl ?_
                have hF3 := PLl (pCond_le (T := μ 3) (story := false) 6 _ (by omega)) hr129
                refine x_ifneB O 137 dX6_readLine_132 (by decide) (fun _ => ?_) (fun c => absurd rfl c)
                refine x_aload_n O 1 dX6_readLine_137 rfl rfl ?_
                refine x_mget O k_X6_13_6 (mg_1 _ _) dX6_readLine_138 ?_
                refine x_iload_n O 0 dX6_readLine_141 rfl rfl ?_
                refine x_iconst O (nI 2) dX6_readLine_142 (by decide) ?_
                refine x_iaddN O dX6_readLine_143 ?_
                refine x_aload_n O 1 dX6_readLine_144 rfl rfl ?_
                refine x_mget O k_X6_112_6 (mg_12 _ _) dX6_readLine_145 ?_
                refine x_top (v' := nI (s + ls3.length)) ((congrFun (mc_n (by decide)) 12).trans rd_hit) ?_
                refine x_mastQ O 0 MS.c1 rfl rfl rfl (by unfold m_lineAt m_textAt; omega) rfl dX6_readLine_148 (μ' := (mc (mset (mset (mset (mset μ 0 6 (nI p3)) 0 8 (nI b3)) 0 9 (nI 0)) 0 12 (nI (s + ls3.length))) 1 (ups (em (ups (ups W (m_lineAt 9 n) (nI 2)) (m_lineAt 9 n + 1) (nI s)) s ls3) (m_lineAt 9 n + 2) (nI (s + ls3.length))))) wc_s ?_
                refine x_iconst O (nI 1) dX6_readLine_149 (by decide) ?_
                refine x_top (v' := b2i true) (by decide) ?_
                have hsr : srt (μ 3) (m_letters_f6 (μ 3) p l) (m_letters_f8 (μ 3) p l) = nI 2 := by unfold srt; simp only [if_neg c30, if_neg c43, if_pos c56]
                exact x_zretQ O hQ rfl dX6_readLine_150 (fun h m => post_okL (p' := p3) (b' := b3) (sort := nI 2) (ls := ls3) (by unfold pLine; rw [hsr]; simp only [if_neg (show ¬ nI 2 < 0 by decide), if_neg c7, if_pos c125, hr129]) m)
              · refine x_cV O 0 (con_no (c_m_cond (μ := μ) l h7 hl false h13 (m_passes_f6 (μ 3) (m_letters_f6 (μ 3) p l) l 19) (m_passes_f8 (μ 3) (m_letters_f6 (μ 3) p l) l 19) s (ups (ups W (m_lineAt 9 n) (nI 2)) (m_lineAt 9 n + 1) (nI s)) (by omega) (by omega) (by omega)) hr129) MS.obj uc6 (lw_V q1848 q1850 qs39 q111 q1851) rfl hd_X6_readCond rfl (by rw [RF]; rfl) (by rw [RL]; rfl) ⟨Nat.zero_le _, Nat.zero_le _⟩ rfl rfl dX6_readLine_129 ?_
                refine x_top (v' := b2i false) rfl ?_
                refine x_ex4 (fun p3 d3 s3 W3 hW3 => ?_)
                refine x_ifneB O 137 dX6_readLine_132 (by decide) (fun c => absurd c (by decide)) (fun _ => ?_)
                refine x_sub [1] (L' := [(0, .ref (adr 0))]) rfl ?_
                refine x_iconst O (nI 0) dX6_readLine_135 (by decide) ?_
                refine x_top (v' := b2i false) (by decide) ?_
                have hsr : srt (μ 3) (m_letters_f6 (μ 3) p l) (m_letters_f8 (μ 3) p l) = nI 2 := by unfold srt; simp only [if_neg c30, if_neg c43, if_pos c56]
                exact x_zretQ O hQ rfl dX6_readLine_136 (fun h m => post_noL (by unfold pLine; rw [hsr]; simp only [if_neg (show ¬ nI 2 < 0 by decide), if_neg c7, if_pos c125, hr129]) (fun j hj => by first | rfl | simp only [em_low hj, emits_low hj, ln_low1 hj, ln_low0 hj, hW3 j hj]) m)
          · exact absurd (by decide) c97
      · have hlen := isWord_len c43
        have hl2 : 2 ≤ sN 15 := by decide +kernel
        refine x_iconst O (nI 1) dX6_readLine_46 (by decide) ?_
        refine x_goto O 90 dX6_readLine_47 (by decide) ?_
        refine x_mastQ O 0 MS.c1 rfl rfl rfl (by unfold m_lineAt m_textAt; omega) rfl dX6_readLine_90 (μ' := (mc (mset (mset (mset (mset μ 0 6 (nI (m_letters_f6 (μ 3) p l))) 0 8 (nI (m_letters_f8 (μ 3) p l))) 0 9 (nI d)) 0 12 (nI s)) 1 (ups W (m_lineAt 9 n) (nI 1)))) wc_s ?_
        refine x_aload_n O 1 dX6_readLine_91 rfl rfl ?_
        refine x_mget O k_X6_13_6 (mg_1 _ _) dX6_readLine_92 ?_
        refine x_iload_n O 0 dX6_readLine_95 rfl rfl ?_
        refine x_ialdN O MS.c1 (by unfold m_lineAt m_textAt; omega) rfl dX6_readLine_96 ?_
        refine x_top (v' := (ups W (m_lineAt 9 n) (nI 1)) (m_lineAt 9 n)) (congrFun mc_s (m_lineAt 9 n)) ?_
        refine x_top (v' := nI 1) ups_s ?_
        refine x_ifge O 102 dX6_readLine_97 (by decide) (fun c97 => ?_) (fun c97 => ?_)
        · refine x_aload_n O 1 dX6_readLine_102 rfl rfl ?_
          refine x_mget O k_X6_13_6 (mg_1 _ _) dX6_readLine_103 ?_
          refine x_iload_n O 0 dX6_readLine_106 rfl rfl ?_
          refine x_iconst O (nI 1) dX6_readLine_107 (by decide) ?_
          refine x_iaddN O dX6_readLine_108 ?_
          refine x_aload_n O 1 dX6_readLine_109 rfl rfl ?_
          refine x_mget O k_X6_112_6 (mg_12 _ _) dX6_readLine_110 ?_
          refine x_top (v' := nI s) ((congrFun (mc_n (by decide)) 12).trans rd_hit) ?_
          refine x_mastQ O 0 MS.c1 rfl rfl rfl (by unfold m_lineAt m_textAt; omega) rfl dX6_readLine_113 (μ' := (mc (mset (mset (mset (mset μ 0 6 (nI (m_letters_f6 (μ 3) p l))) 0 8 (nI (m_letters_f8 (μ 3) p l))) 0 9 (nI d)) 0 12 (nI s)) 1 (ups (ups W (m_lineAt 9 n) (nI 1)) (m_lineAt 9 n + 1) (nI s)))) wc_s ?_
          refine x_aload_n O 1 dX6_readLine_114 rfl rfl ?_
          refine x_iconst O (nI 0) dX6_readLine_115 (by decide) ?_
          refine x_mputQ O p_X6_115_6 (mp_9 _ _ _) rfl dX6_readLine_116 (μ' := (mc (mset (mset (mset (mset μ 0 6 (nI (m_letters_f6 (μ 3) p l))) 0 8 (nI (m_letters_f8 (μ 3) p l))) 0 9 (nI 0)) 0 12 (nI s)) 1 (ups (ups W (m_lineAt 9 n) (nI 1)) (m_lineAt 9 n + 1) (nI s)))) ((wc_n (by decide)).trans ((congrArg (fun m_ => mc m_ 1 _) (ff_n (by decide))).trans (congrArg (fun m_ => mc m_ 1 _) (congrArg (fun m_ => mset m_ 0 12 _) ff_s)))) ?_
          refine x_aload_n O 1 dX6_readLine_119 rfl rfl ?_
          refine x_ldcS O (i := 19) (tx := "if") (List.mem_of_getElem? (i := 51) rfl) dX6_readLine_120 ?_
          refine x_cV O 1 (c_m_passes (μ := (mc (mset (mset (mset (mset μ 0 6 (nI (m_letters_f6 (μ 3) p l))) 0 8 (nI (m_letters_f8 (μ 3) p l))) 0 9 (nI 0)) 0 12 (nI s)) 1 (ups (ups W (m_lineAt 9 n) (nI 1)) (m_lineAt 9 n + 1) (nI s)))) (m_letters_f6 (μ 3) p l) ((congrFun (mc_n (by decide)) 6).trans ((rd_skip (by decide)).trans ((rd_skip (by decide)).trans ((rd_skip (by decide)).trans rd_hit)))) l ((congrFun (mc_n (by decide)) 7).trans ((rd_skip (by decide)).trans ((rd_skip (by decide)).trans ((rd_skip (by decide)).trans ((rd_skip (by decide)).trans h7))))) hl (by omega) 19 (by decide)) MS.obj uc6 (lw_V q1873 q1875 qs45 q111 q1876) rfl hd_X6_passes rfl (by rw [RF]; rfl) (by rw [RL]; rfl) ⟨Nat.zero_le _, Nat.zero_le _⟩ rfl rfl dX6_readLine_122 ?_
          refine x_top (v' := b2i (m_passes (μ 3) (m_letters_f6 (μ 3) p l) l 19)) (by rw [show (mc (mset (mset (mset (mset μ 0 6 (nI (m_letters_f6 (μ 3) p l))) 0 8 (nI (m_letters_f8 (μ 3) p l))) 0 9 (nI 0)) 0 12 (nI s)) 1 (ups (ups W (m_lineAt 9 n) (nI 1)) (m_lineAt 9 n + 1) (nI s))) 3 = μ 3 from ((mc_n (by decide)).trans ((mset_n (by decide)).trans ((mset_n (by decide)).trans ((mset_n (by decide)).trans (mset_n (by decide))))))]) ?_
          refine x_weak (Ω' := MS G adr h0 (mc (mset (mset (mset (mset μ 0 6 (nI (m_passes_f6 (μ 3) (m_letters_f6 (μ 3) p l) l 19))) 0 8 (nI (m_passes_f8 (μ 3) (m_letters_f6 (μ 3) p l) l 19))) 0 9 (nI 0)) 0 12 (nI s)) 1 (ups (ups W (m_lineAt 9 n) (nI 1)) (m_lineAt 9 n + 1) (nI s)))) (fun _ m => by rw [show (mc (mset (mset (mset (mset μ 0 6 (nI (m_letters_f6 (μ 3) p l))) 0 8 (nI (m_letters_f8 (μ 3) p l))) 0 9 (nI 0)) 0 12 (nI s)) 1 (ups (ups W (m_lineAt 9 n) (nI 1)) (m_lineAt 9 n + 1) (nI s))) 3 = μ 3 from ((mc_n (by decide)).trans ((mset_n (by decide)).trans ((mset_n (by decide)).trans ((mset_n (by decide)).trans (mset_n (by decide))))))] at m; exact m.eq ((congrArg (fun m_ => mset m_ 0 8 _) (wc_n (by decide))).trans ((congrArg (fun m_ => mset m_ 0 8 _) (congrArg (fun m_ => mc m_ 1 _) (ff_n (by decide)))).trans ((congrArg (fun m_ => mset m_ 0 8 _) (congrArg (fun m_ => mc m_ 1 _) (congrArg (fun m_ => mset m_ 0 12 _) (ff_n (by decide))))).trans ((congrArg (fun m_ => mset m_ 0 8 _) (congrArg (fun m_ => mc m_ 1 _) (congrArg (fun m_ => mset m_ 0 12 _) (congrArg (fun m_ => mset m_ 0 9 _) (ff_n (by decide)))))).trans ((congrArg (fun m_ => mset m_ 0 8 _) (congrArg (fun m_ => mc m_ 1 _) (congrArg (fun m_ => mset m_ 0 12 _) (congrArg (fun m_ => mset m_ 0 9 _) (congrArg (fun m_ => mset m_ 0 8 _) ff_s))))).trans ((wc_n (by decide)).trans ((congrArg (fun m_ => mc m_ 1 _) (ff_n (by decide))).trans ((congrArg (fun m_ => mc m_ 1 _) (congrArg (fun m_ => mset m_ 0 12 _) (ff_n (by decide)))).trans (congrArg (fun m_ => mc m_ 1 _) (congrArg (fun m_ => mset m_ 0 12 _) (congrArg (fun m_ => mset m_ 0 9 _) ff_s)))))))))))) ?_
          have hb2 := passes_le (T := μ 3) (p := m_letters_f6 (μ 3) p l) (l := l) (w := 19) (by omega) (by decide)
          refine x_ifeqB O 137 dX6_readLine_125 (by decide) (fun c125 => ?_) (fun c125 => ?_)
          · refine x_aload_n O 1 dX6_readLine_137 rfl rfl ?_
            refine x_mget O k_X6_13_6 (mg_1 _ _) dX6_readLine_138 ?_
            refine x_iload_n O 0 dX6_readLine_141 rfl rfl ?_
            refine x_iconst O (nI 2) dX6_readLine_142 (by decide) ?_
            refine x_iaddN O dX6_readLine_143 ?_
            refine x_aload_n O 1 dX6_readLine_144 rfl rfl ?_
            refine x_mget O k_X6_112_6 (mg_12 _ _) dX6_readLine_145 ?_
            refine x_top (v' := nI s) ((congrFun (mc_n (by decide)) 12).trans rd_hit) ?_
            refine x_mastQ O 0 MS.c1 rfl rfl rfl (by unfold m_lineAt m_textAt; omega) rfl dX6_readLine_148 (μ' := (mc (mset (mset (mset (mset μ 0 6 (nI (m_passes_f6 (μ 3) (m_letters_f6 (μ 3) p l) l 19))) 0 8 (nI (m_passes_f8 (μ 3) (m_letters_f6 (μ 3) p l) l 19))) 0 9 (nI 0)) 0 12 (nI s)) 1 (ups (ups (ups W (m_lineAt 9 n) (nI 1)) (m_lineAt 9 n + 1) (nI s)) (m_lineAt 9 n + 2) (nI s)))) wc_s ?_
            refine x_iconst O (nI 1) dX6_readLine_149 (by decide) ?_
            refine x_top (v' := b2i true) (by decide) ?_
            have hsr : srt (μ 3) (m_letters_f6 (μ 3) p l) (m_letters_f8 (μ 3) p l) = nI 1 := by unfold srt; simp only [if_neg c30, if_pos c43]
            exact x_zretQ O hQ rfl dX6_readLine_150 (fun h m => post_okL (p' := m_passes_f6 (μ 3) (m_letters_f6 (μ 3) p l) l 19) (b' := m_passes_f8 (μ 3) (m_letters_f6 (μ 3) p l) l 19) (sort := nI 1) (ls := []) (by unfold pLine; rw [hsr]; simp only [if_neg (show ¬ nI 1 < 0 by decide), if_neg c7, if_neg c125]) m)
          · refine x_aload_n O 1 dX6_readLine_128 rfl rfl ?_
            rcases hr129 : pCond (μ 3) l false 6 (m_passes_f6 (μ 3) (m_letters_f6 (μ 3) p l) l 19) with ⟨p4, b4, ls4⟩ | b4
            · refine x_cV O 0 (con_ok (c_m_cond (μ := μ) l h7 hl false h13 (m_passes_f6 (μ 3) (m_letters_f6 (μ 3) p l) l 19) (m_passes_f8 (μ 3) (m_letters_f6 (μ 3) p l) l 19) s (ups (ups W (m_lineAt 9 n) (nI 1)) (m_lineAt 9 n + 1) (nI s)) (by omega) (by omega) (by omega)) hr129) MS.obj uc6 (lw_V q1848 q1850 qs39 q111 q1851) rfl hd_X6_readCond rfl (by rw [RF]; rfl) (by rw [RL]; rfl) ⟨Nat.zero_le _, Nat.zero_le _⟩ rfl rfl dX6_readLine_129 ?_
              refine x_top (v' := b2i true) rfl ?_
              have hF4 := PLl (pCond_le (T := μ 3) (story := false) 6 _ (by omega)) hr129
              refine x_ifneB O 137 dX6_readLine_132 (by decide) (fun _ => ?_) (fun c => absurd rfl c)
              refine x_aload_n O 1 dX6_readLine_137 rfl rfl ?_
              refine x_mget O k_X6_13_6 (mg_1 _ _) dX6_readLine_138 ?_
              refine x_iload_n O 0 dX6_readLine_141 rfl rfl ?_
              refine x_iconst O (nI 2) dX6_readLine_142 (by decide) ?_
              refine x_iaddN O dX6_readLine_143 ?_
              refine x_aload_n O 1 dX6_readLine_144 rfl rfl ?_
              refine x_mget O k_X6_112_6 (mg_12 _ _) dX6_readLine_145 ?_
              refine x_top (v' := nI (s + ls4.length)) ((congrFun (mc_n (by decide)) 12).trans rd_hit) ?_
              refine x_mastQ O 0 MS.c1 rfl rfl rfl (by unfold m_lineAt m_textAt; omega) rfl dX6_readLine_148 (μ' := (mc (mset (mset (mset (mset μ 0 6 (nI p4)) 0 8 (nI b4)) 0 9 (nI 0)) 0 12 (nI (s + ls4.length))) 1 (ups (em (ups (ups W (m_lineAt 9 n) (nI 1)) (m_lineAt 9 n + 1) (nI s)) s ls4) (m_lineAt 9 n + 2) (nI (s + ls4.length))))) wc_s ?_
              refine x_iconst O (nI 1) dX6_readLine_149 (by decide) ?_
              refine x_top (v' := b2i true) (by decide) ?_
              have hsr : srt (μ 3) (m_letters_f6 (μ 3) p l) (m_letters_f8 (μ 3) p l) = nI 1 := by unfold srt; simp only [if_neg c30, if_pos c43]
              exact x_zretQ O hQ rfl dX6_readLine_150 (fun h m => post_okL (p' := p4) (b' := b4) (sort := nI 1) (ls := ls4) (by unfold pLine; rw [hsr]; simp only [if_neg (show ¬ nI 1 < 0 by decide), if_neg c7, if_pos c125, hr129]) m)
            · refine x_cV O 0 (con_no (c_m_cond (μ := μ) l h7 hl false h13 (m_passes_f6 (μ 3) (m_letters_f6 (μ 3) p l) l 19) (m_passes_f8 (μ 3) (m_letters_f6 (μ 3) p l) l 19) s (ups (ups W (m_lineAt 9 n) (nI 1)) (m_lineAt 9 n + 1) (nI s)) (by omega) (by omega) (by omega)) hr129) MS.obj uc6 (lw_V q1848 q1850 qs39 q111 q1851) rfl hd_X6_readCond rfl (by rw [RF]; rfl) (by rw [RL]; rfl) ⟨Nat.zero_le _, Nat.zero_le _⟩ rfl rfl dX6_readLine_129 ?_
              refine x_top (v' := b2i false) rfl ?_
              refine x_ex4 (fun p4 d4 s4 W4 hW4 => ?_)
              refine x_ifneB O 137 dX6_readLine_132 (by decide) (fun c => absurd c (by decide)) (fun _ => ?_)
              refine x_sub [1] (L' := [(0, .ref (adr 0))]) rfl ?_
              refine x_iconst O (nI 0) dX6_readLine_135 (by decide) ?_
              refine x_top (v' := b2i false) (by decide) ?_
              have hsr : srt (μ 3) (m_letters_f6 (μ 3) p l) (m_letters_f8 (μ 3) p l) = nI 1 := by unfold srt; simp only [if_neg c30, if_pos c43]
              exact x_zretQ O hQ rfl dX6_readLine_136 (fun h m => post_noL (by unfold pLine; rw [hsr]; simp only [if_neg (show ¬ nI 1 < 0 by decide), if_neg c7, if_pos c125, hr129]) (fun j hj => by first | rfl | simp only [em_low hj, emits_low hj, ln_low1 hj, ln_low0 hj, hW4 j hj]) m)
        · exact absurd (by decide) c97
    · have hlen := isWord_len c30
      have hl2 : 2 ≤ sN 14 := by decide +kernel
      refine x_iconst O (nI 0) dX6_readLine_33 (by decide) ?_
      refine x_goto O 90 dX6_readLine_34 (by decide) ?_
      refine x_mastQ O 0 MS.c1 rfl rfl rfl (by unfold m_lineAt m_textAt; omega) rfl dX6_readLine_90 (μ' := (mc (mset (mset (mset (mset μ 0 6 (nI (m_letters_f6 (μ 3) p l))) 0 8 (nI (m_letters_f8 (μ 3) p l))) 0 9 (nI d)) 0 12 (nI s)) 1 (ups W (m_lineAt 9 n) (nI 0)))) wc_s ?_
      refine x_aload_n O 1 dX6_readLine_91 rfl rfl ?_
      refine x_mget O k_X6_13_6 (mg_1 _ _) dX6_readLine_92 ?_
      refine x_iload_n O 0 dX6_readLine_95 rfl rfl ?_
      refine x_ialdN O MS.c1 (by unfold m_lineAt m_textAt; omega) rfl dX6_readLine_96 ?_
      refine x_top (v' := (ups W (m_lineAt 9 n) (nI 0)) (m_lineAt 9 n)) (congrFun mc_s (m_lineAt 9 n)) ?_
      refine x_top (v' := nI 0) ups_s ?_
      refine x_ifge O 102 dX6_readLine_97 (by decide) (fun c97 => ?_) (fun c97 => ?_)
      · refine x_aload_n O 1 dX6_readLine_102 rfl rfl ?_
        refine x_mget O k_X6_13_6 (mg_1 _ _) dX6_readLine_103 ?_
        refine x_iload_n O 0 dX6_readLine_106 rfl rfl ?_
        refine x_iconst O (nI 1) dX6_readLine_107 (by decide) ?_
        refine x_iaddN O dX6_readLine_108 ?_
        refine x_aload_n O 1 dX6_readLine_109 rfl rfl ?_
        refine x_mget O k_X6_112_6 (mg_12 _ _) dX6_readLine_110 ?_
        refine x_top (v' := nI s) ((congrFun (mc_n (by decide)) 12).trans rd_hit) ?_
        refine x_mastQ O 0 MS.c1 rfl rfl rfl (by unfold m_lineAt m_textAt; omega) rfl dX6_readLine_113 (μ' := (mc (mset (mset (mset (mset μ 0 6 (nI (m_letters_f6 (μ 3) p l))) 0 8 (nI (m_letters_f8 (μ 3) p l))) 0 9 (nI d)) 0 12 (nI s)) 1 (ups (ups W (m_lineAt 9 n) (nI 0)) (m_lineAt 9 n + 1) (nI s)))) wc_s ?_
        refine x_aload_n O 1 dX6_readLine_114 rfl rfl ?_
        refine x_iconst O (nI 0) dX6_readLine_115 (by decide) ?_
        refine x_mputQ O p_X6_115_6 (mp_9 _ _ _) rfl dX6_readLine_116 (μ' := (mc (mset (mset (mset (mset μ 0 6 (nI (m_letters_f6 (μ 3) p l))) 0 8 (nI (m_letters_f8 (μ 3) p l))) 0 9 (nI 0)) 0 12 (nI s)) 1 (ups (ups W (m_lineAt 9 n) (nI 0)) (m_lineAt 9 n + 1) (nI s)))) ((wc_n (by decide)).trans ((congrArg (fun m_ => mc m_ 1 _) (ff_n (by decide))).trans (congrArg (fun m_ => mc m_ 1 _) (congrArg (fun m_ => mset m_ 0 12 _) ff_s)))) ?_
        refine x_aload_n O 1 dX6_readLine_119 rfl rfl ?_
        refine x_ldcS O (i := 19) (tx := "if") (List.mem_of_getElem? (i := 51) rfl) dX6_readLine_120 ?_
        refine x_cV O 1 (c_m_passes (μ := (mc (mset (mset (mset (mset μ 0 6 (nI (m_letters_f6 (μ 3) p l))) 0 8 (nI (m_letters_f8 (μ 3) p l))) 0 9 (nI 0)) 0 12 (nI s)) 1 (ups (ups W (m_lineAt 9 n) (nI 0)) (m_lineAt 9 n + 1) (nI s)))) (m_letters_f6 (μ 3) p l) ((congrFun (mc_n (by decide)) 6).trans ((rd_skip (by decide)).trans ((rd_skip (by decide)).trans ((rd_skip (by decide)).trans rd_hit)))) l ((congrFun (mc_n (by decide)) 7).trans ((rd_skip (by decide)).trans ((rd_skip (by decide)).trans ((rd_skip (by decide)).trans ((rd_skip (by decide)).trans h7))))) hl (by omega) 19 (by decide)) MS.obj uc6 (lw_V q1873 q1875 qs45 q111 q1876) rfl hd_X6_passes rfl (by rw [RF]; rfl) (by rw [RL]; rfl) ⟨Nat.zero_le _, Nat.zero_le _⟩ rfl rfl dX6_readLine_122 ?_
        refine x_top (v' := b2i (m_passes (μ 3) (m_letters_f6 (μ 3) p l) l 19)) (by rw [show (mc (mset (mset (mset (mset μ 0 6 (nI (m_letters_f6 (μ 3) p l))) 0 8 (nI (m_letters_f8 (μ 3) p l))) 0 9 (nI 0)) 0 12 (nI s)) 1 (ups (ups W (m_lineAt 9 n) (nI 0)) (m_lineAt 9 n + 1) (nI s))) 3 = μ 3 from ((mc_n (by decide)).trans ((mset_n (by decide)).trans ((mset_n (by decide)).trans ((mset_n (by decide)).trans (mset_n (by decide))))))]) ?_
        refine x_weak (Ω' := MS G adr h0 (mc (mset (mset (mset (mset μ 0 6 (nI (m_passes_f6 (μ 3) (m_letters_f6 (μ 3) p l) l 19))) 0 8 (nI (m_passes_f8 (μ 3) (m_letters_f6 (μ 3) p l) l 19))) 0 9 (nI 0)) 0 12 (nI s)) 1 (ups (ups W (m_lineAt 9 n) (nI 0)) (m_lineAt 9 n + 1) (nI s)))) (fun _ m => by rw [show (mc (mset (mset (mset (mset μ 0 6 (nI (m_letters_f6 (μ 3) p l))) 0 8 (nI (m_letters_f8 (μ 3) p l))) 0 9 (nI 0)) 0 12 (nI s)) 1 (ups (ups W (m_lineAt 9 n) (nI 0)) (m_lineAt 9 n + 1) (nI s))) 3 = μ 3 from ((mc_n (by decide)).trans ((mset_n (by decide)).trans ((mset_n (by decide)).trans ((mset_n (by decide)).trans (mset_n (by decide))))))] at m; exact m.eq ((congrArg (fun m_ => mset m_ 0 8 _) (wc_n (by decide))).trans ((congrArg (fun m_ => mset m_ 0 8 _) (congrArg (fun m_ => mc m_ 1 _) (ff_n (by decide)))).trans ((congrArg (fun m_ => mset m_ 0 8 _) (congrArg (fun m_ => mc m_ 1 _) (congrArg (fun m_ => mset m_ 0 12 _) (ff_n (by decide))))).trans ((congrArg (fun m_ => mset m_ 0 8 _) (congrArg (fun m_ => mc m_ 1 _) (congrArg (fun m_ => mset m_ 0 12 _) (congrArg (fun m_ => mset m_ 0 9 _) (ff_n (by decide)))))).trans ((congrArg (fun m_ => mset m_ 0 8 _) (congrArg (fun m_ => mc m_ 1 _) (congrArg (fun m_ => mset m_ 0 12 _) (congrArg (fun m_ => mset m_ 0 9 _) (congrArg (fun m_ => mset m_ 0 8 _) ff_s))))).trans ((wc_n (by decide)).trans ((congrArg (fun m_ => mc m_ 1 _) (ff_n (by decide))).trans ((congrArg (fun m_ => mc m_ 1 _) (congrArg (fun m_ => mset m_ 0 12 _) (ff_n (by decide)))).trans (congrArg (fun m_ => mc m_ 1 _) (congrArg (fun m_ => mset m_ 0 12 _) (congrArg (fun m_ => mset m_ 0 9 _) ff_s)))))))))))) ?_
        have hb2 := passes_le (T := μ 3) (p := m_letters_f6 (μ 3) p l) (l := l) (w := 19) (by omega) (by decide)
        refine x_ifeqB O 137 dX6_readLine_125 (by decide) (fun c125 => ?_) (fun c125 => ?_)
        · refine x_aload_n O 1 dX6_readLine_137 rfl rfl ?_
          refine x_mget O k_X6_13_6 (mg_1 _ _) dX6_readLine_138 ?_
          refine x_iload_n O 0 dX6_readLine_141 rfl rfl ?_
          refine x_iconst O (nI 2) dX6_readLine_142 (by decide) ?_
          refine x_iaddN O dX6_readLine_143 ?_
          refine x_aload_n O 1 dX6_readLine_144 rfl rfl ?_
          refine x_mget O k_X6_112_6 (mg_12 _ _) dX6_readLine_145 ?_
          refine x_top (v' := nI s) ((congrFun (mc_n (by decide)) 12).trans rd_hit) ?_
          refine x_mastQ O 0 MS.c1 rfl rfl rfl (by unfold m_lineAt m_textAt; omega) rfl dX6_readLine_148 (μ' := (mc (mset (mset (mset (mset μ 0 6 (nI (m_passes_f6 (μ 3) (m_letters_f6 (μ 3) p l) l 19))) 0 8 (nI (m_passes_f8 (μ 3) (m_letters_f6 (μ 3) p l) l 19))) 0 9 (nI 0)) 0 12 (nI s)) 1 (ups (ups (ups W (m_lineAt 9 n) (nI 0)) (m_lineAt 9 n + 1) (nI s)) (m_lineAt 9 n + 2) (nI s)))) wc_s ?_
          refine x_iconst O (nI 1) dX6_readLine_149 (by decide) ?_
          refine x_top (v' := b2i true) (by decide) ?_
          have hsr : srt (μ 3) (m_letters_f6 (μ 3) p l) (m_letters_f8 (μ 3) p l) = nI 0 := by unfold srt; simp only [if_pos c30]
          exact x_zretQ O hQ rfl dX6_readLine_150 (fun h m => post_okL (p' := m_passes_f6 (μ 3) (m_letters_f6 (μ 3) p l) l 19) (b' := m_passes_f8 (μ 3) (m_letters_f6 (μ 3) p l) l 19) (sort := nI 0) (ls := []) (by unfold pLine; rw [hsr]; simp only [if_neg (show ¬ nI 0 < 0 by decide), if_neg c7, if_neg c125]) m)
        · refine x_aload_n O 1 dX6_readLine_128 rfl rfl ?_
          rcases hr129 : pCond (μ 3) l false 6 (m_passes_f6 (μ 3) (m_letters_f6 (μ 3) p l) l 19) with ⟨p5, b5, ls5⟩ | b5
          · refine x_cV O 0 (con_ok (c_m_cond (μ := μ) l h7 hl false h13 (m_passes_f6 (μ 3) (m_letters_f6 (μ 3) p l) l 19) (m_passes_f8 (μ 3) (m_letters_f6 (μ 3) p l) l 19) s (ups (ups W (m_lineAt 9 n) (nI 0)) (m_lineAt 9 n + 1) (nI s)) (by omega) (by omega) (by omega)) hr129) MS.obj uc6 (lw_V q1848 q1850 qs39 q111 q1851) rfl hd_X6_readCond rfl (by rw [RF]; rfl) (by rw [RL]; rfl) ⟨Nat.zero_le _, Nat.zero_le _⟩ rfl rfl dX6_readLine_129 ?_
            refine x_top (v' := b2i true) rfl ?_
            have hF5 := PLl (pCond_le (T := μ 3) (story := false) 6 _ (by omega)) hr129
            refine x_ifneB O 137 dX6_readLine_132 (by decide) (fun _ => ?_) (fun c => absurd rfl c)
            refine x_aload_n O 1 dX6_readLine_137 rfl rfl ?_
            refine x_mget O k_X6_13_6 (mg_1 _ _) dX6_readLine_138 ?_
            refine x_iload_n O 0 dX6_readLine_141 rfl rfl ?_
            refine x_iconst O (nI 2) dX6_readLine_142 (by decide) ?_
            refine x_iaddN O dX6_readLine_143 ?_
            refine x_aload_n O 1 dX6_readLine_144 rfl rfl ?_
            refine x_mget O k_X6_112_6 (mg_12 _ _) dX6_readLine_145 ?_
            refine x_top (v' := nI (s + ls5.length)) ((congrFun (mc_n (by decide)) 12).trans rd_hit) ?_
            refine x_mastQ O 0 MS.c1 rfl rfl rfl (by unfold m_lineAt m_textAt; omega) rfl dX6_readLine_148 (μ' := (mc (mset (mset (mset (mset μ 0 6 (nI p5)) 0 8 (nI b5)) 0 9 (nI 0)) 0 12 (nI (s + ls5.length))) 1 (ups (em (ups (ups W (m_lineAt 9 n) (nI 0)) (m_lineAt 9 n + 1) (nI s)) s ls5) (m_lineAt 9 n + 2) (nI (s + ls5.length))))) wc_s ?_
            refine x_iconst O (nI 1) dX6_readLine_149 (by decide) ?_
            refine x_top (v' := b2i true) (by decide) ?_
            have hsr : srt (μ 3) (m_letters_f6 (μ 3) p l) (m_letters_f8 (μ 3) p l) = nI 0 := by unfold srt; simp only [if_pos c30]
            exact x_zretQ O hQ rfl dX6_readLine_150 (fun h m => post_okL (p' := p5) (b' := b5) (sort := nI 0) (ls := ls5) (by unfold pLine; rw [hsr]; simp only [if_neg (show ¬ nI 0 < 0 by decide), if_neg c7, if_pos c125, hr129]) m)
          · refine x_cV O 0 (con_no (c_m_cond (μ := μ) l h7 hl false h13 (m_passes_f6 (μ 3) (m_letters_f6 (μ 3) p l) l 19) (m_passes_f8 (μ 3) (m_letters_f6 (μ 3) p l) l 19) s (ups (ups W (m_lineAt 9 n) (nI 0)) (m_lineAt 9 n + 1) (nI s)) (by omega) (by omega) (by omega)) hr129) MS.obj uc6 (lw_V q1848 q1850 qs39 q111 q1851) rfl hd_X6_readCond rfl (by rw [RF]; rfl) (by rw [RL]; rfl) ⟨Nat.zero_le _, Nat.zero_le _⟩ rfl rfl dX6_readLine_129 ?_
            refine x_top (v' := b2i false) rfl ?_
            refine x_ex4 (fun p5 d5 s5 W5 hW5 => ?_)
            refine x_ifneB O 137 dX6_readLine_132 (by decide) (fun c => absurd c (by decide)) (fun _ => ?_)
            refine x_sub [1] (L' := [(0, .ref (adr 0))]) rfl ?_
            refine x_iconst O (nI 0) dX6_readLine_135 (by decide) ?_
            refine x_top (v' := b2i false) (by decide) ?_
            have hsr : srt (μ 3) (m_letters_f6 (μ 3) p l) (m_letters_f8 (μ 3) p l) = nI 0 := by unfold srt; simp only [if_pos c30]
            exact x_zretQ O hQ rfl dX6_readLine_136 (fun h m => post_noL (by unfold pLine; rw [hsr]; simp only [if_neg (show ¬ nI 0 < 0 by decide), if_neg c7, if_pos c125, hr129]) (fun j hj => by first | rfl | simp only [em_low hj, emits_low hj, ln_low1 hj, ln_low0 hj, hW5 j hj]) m)
      · exact absurd (by decide) c97
  · refine x_sub [0] (L' := [(0, .ref (adr 0))]) rfl ?_
    refine x_iconst O (nI 0) dX6_readLine_10 (by decide) ?_
    refine x_top (v' := b2i false) (by decide) ?_
    exact x_zretQ O hQ rfl dX6_readLine_11 (fun h m => post_noL (by unfold pLine; simp only [if_pos c7]) (fun j hj => by first | rfl | simp only [em_low hj, emits_low hj, ln_low1 hj, ln_low0 hj]) m)
