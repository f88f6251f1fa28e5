def tgT (T : Nat → Int32) (p l : Nat) (story : Bool) : Int32 := (if story = true then (if m_isWord T (m_letters_f6 T p l) (m_letters_f8 T p l) 23 = true then nI 9 else (-1)) else (if m_isWord T (m_letters_f6 T p l) (m_letters_f8 T p l) 21 = true then nI 7 else (if m_isWord T (m_letters_f6 T p l) (m_letters_f8 T p l) 22 = true then nI 8 else (-1))))
def tgV (T : Nat → Int32) (p l : Nat) (story : Bool) : Int32 := if tgT T p l story = nI 9 then m_number T (m_letters_f6 T p l) l else nI 0
def tgE (T : Nat → Int32) (p l : Nat) (story : Bool) : Nat := if tgT T p l story = nI 9 then m_number_f6 T (m_letters_f6 T p l) l else m_letters_f6 T p l
def tgB (T : Nat → Int32) (p l : Nat) (story : Bool) : Nat := if tgT T p l story = nI 9 then m_number_f8 T (m_letters_f6 T p l) l else m_letters_f8 T p l
theorem readTag_t (W T : Nat → Int32) (p l : Nat) (story : Bool) (st : Nat) (h : 0 ≤ tgT T p l story) : m_readTag W T p l story st = true ∧ m_readTag_f6 W T p l story st = tgE T p l story ∧ m_readTag_f8 W T p l story st = tgB T p l story ∧ m_readTag_f12 W T p l story st = st + 1 ∧ m_readTag_c1 W T p l story st = m_emits_c1 W st (tgT T p l story) (tgV T p l story) :=
  ⟨if_pos h, if_pos h, if_pos h, if_pos h, if_pos h⟩
theorem readTag_f (W T : Nat → Int32) (p l : Nat) (story : Bool) (st : Nat) (h : ¬ 0 ≤ tgT T p l story) : m_readTag W T p l story st = false ∧ m_readTag_f6 W T p l story st = m_letters_f8 T p l ∧ m_readTag_f8 W T p l story st = m_letters_f8 T p l ∧ m_readTag_f12 W T p l story st = st ∧ m_readTag_c1 W T p l story st = W :=
  ⟨if_neg h, if_neg h, if_neg h, if_neg h, if_neg h⟩
theorem emits_rd {W : Nat → Int32} {s : Nat} {a b : Int32} : m_emits_c1 W s a b (m_textAt 9 + 31 + 2 * (s + 1) - 1) = b := by
  unfold m_emits_c1
  rw [show m_textAt 9 + 31 + 2 * (s + 1) - 1 = m_textAt 9 + 31 + 2 * s + 1 by omega]
  exact ups_s
theorem tg_le {T : Nat → Int32} {p l : Nat} {story : Bool} (h : p ≤ l) (h0 : 0 ≤ tgT T p l story) : p ≤ tgB T p l story ∧ tgE T p l story ≤ l ∧ p + 1 ≤ tgE T p l story := by
  have hb := let6_le (T := T) h
  have k : ∀ w, w < uSN → m_isWord T (m_letters_f6 T p l) (m_letters_f8 T p l) w = true → m_letters_f8 T p l + 1 ≤ m_letters_f6 T p l := fun w hw c => by have := isWord_len c; have := sN_1 w hw; omega
  have h1 : m_letters_f8 T p l + 1 ≤ m_letters_f6 T p l := by
    unfold tgT at h0
    (repeat' split at h0) <;> first | exact k 23 (by decide) (by assumption) | exact k 21 (by decide) (by assumption) | exact k 22 (by decide) (by assumption) | exact absurd h0 (by decide)
  have hn := number_le (T := T) (p := m_letters_f6 T p l) (l := l) (by omega)
  unfold tgB tgE
  split <;> omega
def pAtomB (T : Nat → Int32) (l : Nat) (story : Bool) (deep : Option ((Nat → PR) × (Nat → PR))) (p : Nat) : PR :=
  if m_sign T p l (nI 40) = true then
    (match deep with
      | none => .inr (m_sign_f8 T p l (nI 40))
      | some D => (match D.1 (m_sign_f6 T p l (nI 40)) with
        | .inl q => if m_sign T q.1 l (nI 41) = true then .inl (m_sign_f6 T q.1 l (nI 41), m_sign_f8 T q.1 l (nI 41), q.2.2) else .inr (m_sign_f8 T q.1 l (nI 41))
        | .inr b => .inr b))
  else if m_passes T (m_sign_f6 T p l (nI 40)) l 20 = true then
    (match deep with
      | none => .inr (m_passes_f8 T (m_sign_f6 T p l (nI 40)) l 20)
      | some D => (match D.2 (m_passes_f6 T (m_sign_f6 T p l (nI 40)) l 20) with
        | .inl q => .inl (q.1, q.2.1, q.2.2 ++ [(nI 15, nI 0)])
        | .inr b => .inr b))
  else if 0 ≤ tgT T (m_passes_f6 T (m_sign_f6 T p l (nI 40)) l 20) l story then
    (if tgV T (m_passes_f6 T (m_sign_f6 T p l (nI 40)) l 20) l story < 0 then .inr (tgB T (m_passes_f6 T (m_sign_f6 T p l (nI 40)) l 20) l story) else .inl (tgE T (m_passes_f6 T (m_sign_f6 T p l (nI 40)) l 20) l story, tgB T (m_passes_f6 T (m_sign_f6 T p l (nI 40)) l 20) l story, [(tgT T (m_passes_f6 T (m_sign_f6 T p l (nI 40)) l 20) l story, tgV T (m_passes_f6 T (m_sign_f6 T p l (nI 40)) l 20) l story)]))
  else (match pSum T l story (m_letters_f8 T (m_passes_f6 T (m_sign_f6 T p l (nI 40)) l 20) l) with
    | .inl q => if m_sign T q.1 l (nI 60) = true then (match pSum T l story (m_sign_f6 T q.1 l (nI 60)) with
          | .inl r => .inl (r.1, r.2.1, q.2.2 ++ r.2.2 ++ [(nI 13, nI 0)])
          | .inr b => .inr b)
        else if m_sign T (m_sign_f6 T q.1 l (nI 60)) l (nI 62) = true then (match pSum T l story (m_sign_f6 T (m_sign_f6 T q.1 l (nI 60)) l (nI 62)) with
          | .inl r => .inl (r.1, r.2.1, q.2.2 ++ r.2.2 ++ [(nI 14, nI 0)])
          | .inr b => .inr b)
        else .inr (m_sign_f8 T (m_sign_f6 T q.1 l (nI 60)) l (nI 62))
    | .inr b => .inr b)

set_option maxHeartbeats 1000000 in
set_option maxRecDepth 100000 in
theorem c_m_atom0 {G : UG} {adr : Nat → Nat} {h0 : Hp} {μ : Mu} (l : Nat) (h7 : μ 0 7 = nI l) (hl : l ≤ 400) (story : Bool) (h13 : μ 0 13 = b2i story) (f g : Nat) (hf : 12 ≤ f) (hg : 300 ≤ g) (p b s : Nat) (W : Nat → Int32) (hp : p ≤ l) (hsp : s ≤ p) (hs : s < 400) : Con G yX6_readAtom cX6_readAtom 2 (some .boolean) (f + 1) (g + 40) 0 0 [.ref (adr 0)] (MS G adr h0 (ps μ p b 6 s W)) (Post G adr h0 μ 6 s W (pAtomB (μ 3) l story none p)) nX := by
  refine con_of2 (plainFor_of_name (by decide)) rfl ?_
  intro F R Q RF RL RC RS hQ O hnh hnm
  refine x_eq (L' := [(0, .ref (adr 0))]) ?_ rfl rfl rfl
  refine x_aload_n O 0 dX6_readAtom_0 rfl rfl ?_
  refine x_bipush O (nI 40) dX6_readAtom_1 (by decide) ?_
  refine x_cV O 1 (c_m_sign (μ := (mc (mset (mset (mset (mset μ 0 6 (nI p)) 0 8 (nI b)) 0 9 (nI 6)) 0 12 (nI s)) 1 W)) p ((congrFun (mc_n (by decide)) 6).trans ((rd_skip (by decide)).trans ((rd_skip (by decide)).trans ((rd_skip (by decide)).trans rd_hit)))) l ((congrFun (mc_n (by decide)) 7).trans ((rd_skip (by decide)).trans ((rd_skip (by decide)).trans ((rd_skip (by decide)).trans ((rd_skip (by decide)).trans h7))))) hl hp (nI 40)) MS.obj uc6 (lw_V q1860 q1862 qs42 q111 q1863) rfl hd_X6_sign rfl (by rw [RF]; exact Nat.ble_eq_true_of_le (by omega)) (by rw [RL]; exact Nat.ble_eq_true_of_le (by omega)) ⟨Nat.zero_le _, Nat.zero_le _⟩ rfl rfl dX6_readAtom_3 ?_
  refine x_top (v' := b2i (m_sign (μ 3) p l (nI 40))) (by rw [show (mc (mset (mset (mset (mset μ 0 6 (nI p)) 0 8 (nI b)) 0 9 (nI 6)) 0 12 (nI s)) 1 W) 3 = μ 3 from ((mc_n (by decide)).trans ((mset_n (by decide)).trans ((mset_n (by decide)).trans ((mset_n (by decide)).trans (mset_n (by decide))))))]) ?_
  refine x_weak (Ω' := MS G adr h0 (mc (mset (mset (mset (mset μ 0 6 (nI (m_sign_f6 (μ 3) p l (nI 40)))) 0 8 (nI (m_sign_f8 (μ 3) p l (nI 40)))) 0 9 (nI 6)) 0 12 (nI s)) 1 W)) (fun _ m => by rw [show (mc (mset (mset (mset (mset μ 0 6 (nI p)) 0 8 (nI b)) 0 9 (nI 6)) 0 12 (nI s)) 1 W) 3 = μ 3 from ((mc_n (by decide)).trans ((mset_n (by decide)).trans ((mset_n (by decide)).trans ((mset_n (by decide)).trans (mset_n (by decide))))))] at m; exact m.eq ((congrArg (fun m_ => mset m_ 0 8 _) (wc_n (by decide))).trans ((congrArg (fun m_ => mset m_ 0 8 _) (congrArg (fun m_ => mc m_ 1 _) (ff_n (by decide)))).trans ((congrArg (fun m_ => mset m_ 0 8 _) (congrArg (fun m_ => mc m_ 1 _) (congrArg (fun m_ => mset m_ 0 12 _) (ff_n (by decide))))).trans ((congrArg (fun m_ => mset m_ 0 8 _) (congrArg (fun m_ => mc m_ 1 _) (congrArg (fun m_ => mset m_ 0 12 _) (congrArg (fun m_ => mset m_ 0 9 _) (ff_n (by decide)))))).trans ((congrArg (fun m_ => mset m_ 0 8 _) (congrArg (fun m_ => mc m_ 1 _) (congrArg (fun m_ => mset m_ 0 12 _) (congrArg (fun m_ => mset m_ 0 9 _) (congrArg (fun m_ => mset m_ 0 8 _) ff_s))))).trans ((wc_n (by decide)).trans ((congrArg (fun m_ => mc m_ 1 _) (ff_n (by decide))).trans ((congrArg (fun m_ => mc m_ 1 _) (congrArg (fun m_ => mset m_ 0 12 _) (ff_n (by decide)))).trans (congrArg (fun m_ => mc m_ 1 _) (congrArg (fun m_ => mset m_ 0 12 _) (congrArg (fun m_ => mset m_ 0 9 _) ff_s)))))))))))) ?_
  have hs3 := sign_le (T := μ 3) (p := p) (l := l) (c := nI 40) (by omega)
  have hb1 := sign_le (T := μ 3) (p := p) (l := l) (c := nI 40) hp
  refine x_ifeqB O 56 dX6_readAtom_6 (by decide) (fun c6 => ?_) (fun c6 => ?_)
  · refine x_aload_n O 0 dX6_readAtom_56 rfl rfl ?_
    refine x_ldcS O (i := 20) (tx := "not") (List.mem_of_getElem? (i := 26) rfl) dX6_readAtom_57 ?_
    refine x_cV O 1 (c_m_passes (μ := (mc (mset (mset (mset (mset μ 0 6 (nI (m_sign_f6 (μ 3) p l (nI 40)))) 0 8 (nI (m_sign_f8 (μ 3) p l (nI 40)))) 0 9 (nI 6)) 0 12 (nI s)) 1 W)) (m_sign_f6 (μ 3) p l (nI 40)) ((congrFun (mc_n (by decide)) 6).trans ((rd_skip (by decide)).trans ((rd_skip (by decide)).trans ((rd_skip (by decide)).trans rd_hit)))) l ((congrFun (mc_n (by decide)) 7).trans ((rd_skip (by decide)).trans ((rd_skip (by decide)).trans ((rd_skip (by decide)).trans ((rd_skip (by decide)).trans h7))))) hl (by omega) 20 (by decide)) MS.obj uc6 (lw_V q1873 q1875 qs45 q111 q1876) rfl hd_X6_passes rfl (by rw [RF]; exact Nat.ble_eq_true_of_le (by omega)) (by rw [RL]; exact Nat.ble_eq_true_of_le (by omega)) ⟨Nat.zero_le _, Nat.zero_le _⟩ rfl rfl dX6_readAtom_59 ?_
    refine x_top (v' := b2i (m_passes (μ 3) (m_sign_f6 (μ 3) p l (nI 40)) l 20)) (by rw [show (mc (mset (mset (mset (mset μ 0 6 (nI (m_sign_f6 (μ 3) p l (nI 40)))) 0 8 (nI (m_sign_f8 (μ 3) p l (nI 40)))) 0 9 (nI 6)) 0 12 (nI s)) 1 W) 3 = μ 3 from ((mc_n (by decide)).trans ((mset_n (by decide)).trans ((mset_n (by decide)).trans ((mset_n (by decide)).trans (mset_n (by decide))))))]) ?_
    refine x_weak (Ω' := MS G adr h0 (mc (mset (mset (mset (mset μ 0 6 (nI (m_passes_f6 (μ 3) (m_sign_f6 (μ 3) p l (nI 40)) l 20))) 0 8 (nI (m_passes_f8 (μ 3) (m_sign_f6 (μ 3) p l (nI 40)) l 20))) 0 9 (nI 6)) 0 12 (nI s)) 1 W)) (fun _ m => by rw [show (mc (mset (mset (mset (mset μ 0 6 (nI (m_sign_f6 (μ 3) p l (nI 40)))) 0 8 (nI (m_sign_f8 (μ 3) p l (nI 40)))) 0 9 (nI 6)) 0 12 (nI s)) 1 W) 3 = μ 3 from ((mc_n (by decide)).trans ((mset_n (by decide)).trans ((mset_n (by decide)).trans ((mset_n (by decide)).trans (mset_n (by decide))))))] at m; exact m.eq ((congrArg (fun m_ => mset m_ 0 8 _) (wc_n (by decide))).trans ((congrArg (fun m_ => mset m_ 0 8 _) (congrArg (fun m_ => mc m_ 1 _) (ff_n (by decide)))).trans ((congrArg (fun m_ => mset m_ 0 8 _) (congrArg (fun m_ => mc m_ 1 _) (congrArg (fun m_ => mset m_ 0 12 _) (ff_n (by decide))))).trans ((congrArg (fun m_ => mset m_ 0 8 _) (congrArg (fun m_ => mc m_ 1 _) (congrArg (fun m_ => mset m_ 0 12 _) (congrArg (fun m_ => mset m_ 0 9 _) (ff_n (by decide)))))).trans ((congrArg (fun m_ => mset m_ 0 8 _) (congrArg (fun m_ => mc m_ 1 _) (congrArg (fun m_ => mset m_ 0 12 _) (congrArg (fun m_ => mset m_ 0 9 _) (congrArg (fun m_ => mset m_ 0 8 _) ff_s))))).trans ((wc_n (by decide)).trans ((congrArg (fun m_ => mc m_ 1 _) (ff_n (by decide))).trans ((congrArg (fun m_ => mc m_ 1 _) (congrArg (fun m_ => mset m_ 0 12 _) (ff_n (by decide)))).trans (congrArg (fun m_ => mc m_ 1 _) (congrArg (fun m_ => mset m_ 0 12 _) (congrArg (fun m_ => mset m_ 0 9 _) ff_s)))))))))))) ?_
    have hb2 := passes_le (T := μ 3) (p := (m_sign_f6 (μ 3) p l (nI 40))) (l := l) (w := 20) (by omega) (by decide)
    refine x_ifeqB O 114 dX6_readAtom_62 (by decide) (fun c62 => ?_) (fun c62 => ?_)
    · refine x_aload_n O 0 dX6_readAtom_114 rfl rfl ?_
      refine x_cV O 0 (c_m_readTag (μ := (mc (mset (mset (mset (mset μ 0 6 (nI (m_passes_f6 (μ 3) (m_sign_f6 (μ 3) p l (nI 40)) l 20))) 0 8 (nI (m_passes_f8 (μ 3) (m_sign_f6 (μ 3) p l (nI 40)) l 20))) 0 9 (nI 6)) 0 12 (nI s)) 1 W)) (m_passes_f6 (μ 3) (m_sign_f6 (μ 3) p l (nI 40)) l 20) ((congrFun (mc_n (by decide)) 6).trans ((rd_skip (by decide)).trans ((rd_skip (by decide)).trans ((rd_skip (by decide)).trans rd_hit)))) l ((congrFun (mc_n (by decide)) 7).trans ((rd_skip (by decide)).trans ((rd_skip (by decide)).trans ((rd_skip (by decide)).trans ((rd_skip (by decide)).trans h7))))) story ((congrFun (mc_n (by decide)) 13).trans ((rd_skip (by decide)).trans ((rd_skip (by decide)).trans ((rd_skip (by decide)).trans ((rd_skip (by decide)).trans h13))))) s ((congrFun (mc_n (by decide)) 12).trans rd_hit) hl (by omega) (by omega)) MS.obj uc6 (lw_V q1891 q1893 qs49 q111 q1894) rfl hd_X6_readTag rfl (by rw [RF]; exact Nat.ble_eq_true_of_le (by omega)) (by rw [RL]; exact Nat.ble_eq_true_of_le (by omega)) ⟨Nat.zero_le _, Nat.zero_le _⟩ rfl rfl dX6_readAtom_115 ?_
      refine x_top (v' := b2i (m_readTag W (μ 3) (m_passes_f6 (μ 3) (m_sign_f6 (μ 3) p l (nI 40)) l 20) l story s)) (by rw [show (mc (mset (mset (mset (mset μ 0 6 (nI (m_passes_f6 (μ 3) (m_sign_f6 (μ 3) p l (nI 40)) l 20))) 0 8 (nI (m_passes_f8 (μ 3) (m_sign_f6 (μ 3) p l (nI 40)) l 20))) 0 9 (nI 6)) 0 12 (nI s)) 1 W) 1 = W from mc_s, show (mc (mset (mset (mset (mset μ 0 6 (nI (m_passes_f6 (μ 3) (m_sign_f6 (μ 3) p l (nI 40)) l 20))) 0 8 (nI (m_passes_f8 (μ 3) (m_sign_f6 (μ 3) p l (nI 40)) l 20))) 0 9 (nI 6)) 0 12 (nI s)) 1 W) 3 = μ 3 from ((mc_n (by decide)).trans ((mset_n (by decide)).trans ((mset_n (by decide)).trans ((mset_n (by decide)).trans (mset_n (by decide))))))]) ?_
      refine x_weak (Ω' := MS G adr h0 (mc (mset (mset (mset (mset μ 0 6 (nI (m_readTag_f6 W (μ 3) (m_passes_f6 (μ 3) (m_sign_f6 (μ 3) p l (nI 40)) l 20) l story s))) 0 8 (nI (m_readTag_f8 W (μ 3) (m_passes_f6 (μ 3) (m_sign_f6 (μ 3) p l (nI 40)) l 20) l story s))) 0 9 (nI 6)) 0 12 (nI (m_readTag_f12 W (μ 3) (m_passes_f6 (μ 3) (m_sign_f6 (μ 3) p l (nI 40)) l 20) l story s))) 1 (m_readTag_c1 W (μ 3) (m_passes_f6 (μ 3) (m_sign_f6 (μ 3) p l (nI 40)) l 20) l story s))) (fun _ m => by rw [show (mc (mset (mset (mset (mset μ 0 6 (nI (m_passes_f6 (μ 3) (m_sign_f6 (μ 3) p l (nI 40)) l 20))) 0 8 (nI (m_passes_f8 (μ 3) (m_sign_f6 (μ 3) p l (nI 40)) l 20))) 0 9 (nI 6)) 0 12 (nI s)) 1 W) 1 = W from mc_s, show (mc (mset (mset (mset (mset μ 0 6 (nI (m_passes_f6 (μ 3) (m_sign_f6 (μ 3) p l (nI 40)) l 20))) 0 8 (nI (m_passes_f8 (μ 3) (m_sign_f6 (μ 3) p l (nI 40)) l 20))) 0 9 (nI 6)) 0 12 (nI s)) 1 W) 3 = μ 3 from ((mc_n (by decide)).trans ((mset_n (by decide)).trans ((mset_n (by decide)).trans ((mset_n (by decide)).trans (mset_n (by decide))))))] at m; exact m.eq ((congrArg (fun m_ => mc m_ 1 _) (congrArg (fun m_ => mset m_ 0 12 _) (congrArg (fun m_ => mset m_ 0 8 _) (wc_n (by decide))))).trans ((congrArg (fun m_ => mc m_ 1 _) (congrArg (fun m_ => mset m_ 0 12 _) (congrArg (fun m_ => mset m_ 0 8 _) (congrArg (fun m_ => mc m_ 1 _) (ff_n (by decide)))))).trans ((congrArg (fun m_ => mc m_ 1 _) (congrArg (fun m_ => mset m_ 0 12 _) (congrArg (fun m_ => mset m_ 0 8 _) (congrArg (fun m_ => mc m_ 1 _) (congrArg (fun m_ => mset m_ 0 12 _) (ff_n (by decide))))))).trans ((congrArg (fun m_ => mc m_ 1 _) (congrArg (fun m_ => mset m_ 0 12 _) (congrArg (fun m_ => mset m_ 0 8 _) (congrArg (fun m_ => mc m_ 1 _) (congrArg (fun m_ => mset m_ 0 12 _) (congrArg (fun m_ => mset m_ 0 9 _) (ff_n (by decide)))))))).trans ((congrArg (fun m_ => mc m_ 1 _) (congrArg (fun m_ => mset m_ 0 12 _) (congrArg (fun m_ => mset m_ 0 8 _) (congrArg (fun m_ => mc m_ 1 _) (congrArg (fun m_ => mset m_ 0 12 _) (congrArg (fun m_ => mset m_ 0 9 _) (congrArg (fun m_ => mset m_ 0 8 _) ff_s))))))).trans ((congrArg (fun m_ => mc m_ 1 _) (congrArg (fun m_ => mset m_ 0 12 _) (wc_n (by decide)))).trans ((congrArg (fun m_ => mc m_ 1 _) (congrArg (fun m_ => mset m_ 0 12 _) (congrArg (fun m_ => mc m_ 1 _) (ff_n (by decide))))).trans ((congrArg (fun m_ => mc m_ 1 _) (congrArg (fun m_ => mset m_ 0 12 _) (congrArg (fun m_ => mc m_ 1 _) (congrArg (fun m_ => mset m_ 0 12 _) (ff_n (by decide)))))).trans ((congrArg (fun m_ => mc m_ 1 _) (congrArg (fun m_ => mset m_ 0 12 _) (congrArg (fun m_ => mc m_ 1 _) (congrArg (fun m_ => mset m_ 0 12 _) (congrArg (fun m_ => mset m_ 0 9 _) ff_s))))).trans ((congrArg (fun m_ => mc m_ 1 _) (wc_n (by decide))).trans ((congrArg (fun m_ => mc m_ 1 _) (congrArg (fun m_ => mc m_ 1 _) ff_s)).trans cc_s)))))))))))) ?_
      refine x_dc (0 ≤ tgT (μ 3) (m_passes_f6 (μ 3) (m_sign_f6 (μ 3) p l (nI 40)) l 20) l story) (fun c115 => ?_) (fun c115 => ?_)
      · have e115 := readTag_t W (μ 3) (m_passes_f6 (μ 3) (m_sign_f6 (μ 3) p l (nI 40)) l 20) l story s c115
        refine x_top (v' := b2i true) (by rw [e115.1]) ?_
        refine x_weak (Ω' := MS G adr h0 ((mc (mset (mset (mset (mset μ 0 6 (nI (tgE (μ 3) (m_passes_f6 (μ 3) (m_sign_f6 (μ 3) p l (nI 40)) l 20) l story))) 0 8 (nI (tgB (μ 3) (m_passes_f6 (μ 3) (m_sign_f6 (μ 3) p l (nI 40)) l 20) l story))) 0 9 (nI 6)) 0 12 (nI (s + 1))) 1 (m_emits_c1 W s (tgT (μ 3) (m_passes_f6 (μ 3) (m_sign_f6 (μ 3) p l (nI 40)) l 20) l story) (tgV (μ 3) (m_passes_f6 (μ 3) (m_sign_f6 (μ 3) p l (nI 40)) l 20) l story))))) (fun _ m => by rw [e115.2.1, e115.2.2.1, e115.2.2.2.1, e115.2.2.2.2] at m; exact m) ?_
        have hb5 := tg_le (T := μ 3) (p := (m_passes_f6 (μ 3) (m_sign_f6 (μ 3) p l (nI 40)) l 20)) (l := l) (story := story) (by omega) c115
        refine x_ifeqB O 152 dX6_readAtom_118 (by decide) (fun c => absurd rfl c) (fun _ => ?_)
        refine x_aload_n O 0 dX6_readAtom_121 rfl rfl ?_
        refine x_mget O k_X6_13_6 (mg_1 _ _) dX6_readAtom_122 ?_
        refine x_bipush O (nI 9) dX6_readAtom_125 (by decide) ?_
        refine x_cS O 1 (c_m_textAt 9) (lw_S q1845 q1846 q111 q1847) hd_X6_textAt rfl (by rw [RF]; exact Nat.ble_eq_true_of_le (by omega)) (by rw [RL]; exact Nat.ble_eq_true_of_le (by omega)) ⟨Nat.zero_le _, Nat.zero_le _⟩ rfl rfl dX6_readAtom_127 ?_
        refine x_top (v' := nI (m_textAt 9)) rfl ?_
        refine x_bipush O (nI 31) dX6_readAtom_130 (by decide) ?_
        refine x_iaddN O dX6_readAtom_132 ?_
        refine x_iconst O (nI 2) dX6_readAtom_133 (by decide) ?_
        refine x_aload_n O 0 dX6_readAtom_134 rfl rfl ?_
        refine x_mget O k_X6_112_6 (mg_12 _ _) dX6_readAtom_135 ?_
        refine x_top (v' := nI (s + 1)) ((congrFun (mc_n (by decide)) 12).trans rd_hit) ?_
        refine x_imulN O dX6_readAtom_138 ?_
        refine x_iaddN O dX6_readAtom_139 ?_
        refine x_iconst O (nI 1) dX6_readAtom_140 (by decide) ?_
        refine x_isubN O (by unfold m_textAt; omega) dX6_readAtom_141 ?_
        refine x_ialdN O MS.c1 (by unfold m_textAt; omega) rfl dX6_readAtom_142 ?_
        refine x_top (v' := (m_emits_c1 W s (tgT (μ 3) (m_passes_f6 (μ 3) (m_sign_f6 (μ 3) p l (nI 40)) l 20) l story) (tgV (μ 3) (m_passes_f6 (μ 3) (m_sign_f6 (μ 3) p l (nI 40)) l 20) l story)) (m_textAt 9 + 31 + (2 * (s + 1)) - 1)) (congrFun mc_s (m_textAt 9 + 31 + (2 * (s + 1)) - 1)) ?_
        refine x_top (v' := tgV (μ 3) (m_passes_f6 (μ 3) (m_sign_f6 (μ 3) p l (nI 40)) l 20) l story) (emits_rd) ?_
        refine x_iflt O 150 dX6_readAtom_143 (by decide) (fun c143 => ?_) (fun c143 => ?_)
        · refine x_iconst O (nI 0) dX6_readAtom_150 (by decide) ?_
          refine x_top (v' := b2i false) (by decide) ?_
          exact x_zretQ O hQ rfl dX6_readAtom_151 (fun h m => post_no (by unfold pAtomB; simp only [if_neg c6, if_neg c62, if_pos c115, if_pos c143]) (fun j hj => by first | rfl | simp only [em_low hj, emits_low hj]) m)
        · refine x_iconst O (nI 1) dX6_readAtom_146 (by decide) ?_
          refine x_goto O 151 dX6_readAtom_147 (by decide) ?_
          refine x_top (v' := b2i true) (by decide) ?_
          exact x_zretQ O hQ rfl dX6_readAtom_151 (fun h m => post_ok (p' := tgE (μ 3) (m_passes_f6 (μ 3) (m_sign_f6 (μ 3) p l (nI 40)) l 20) l story) (b' := tgB (μ 3) (m_passes_f6 (μ 3) (m_sign_f6 (μ 3) p l (nI 40)) l 20) l story) (ls := [(tgT (μ 3) (m_passes_f6 (μ 3) (m_sign_f6 (μ 3) p l (nI 40)) l 20) l story, tgV (μ 3) (m_passes_f6 (μ 3) (m_sign_f6 (μ 3) p l (nI 40)) l 20) l story)]) (by unfold pAtomB; simp only [if_neg c6, if_neg c62, if_pos c115, if_neg c143]) (by first | exact m | (simp only [em_app, List.length_append, ← Nat.add_assoc]; exact m)))
      · have e115 := readTag_f W (μ 3) (m_passes_f6 (μ 3) (m_sign_f6 (μ 3) p l (nI 40)) l 20) l story s c115
        refine x_top (v' := b2i false) (by rw [e115.1]) ?_
        refine x_weak (Ω' := MS G adr h0 ((mc (mset (mset (mset (mset μ 0 6 (nI (m_letters_f8 (μ 3) (m_passes_f6 (μ 3) (m_sign_f6 (μ 3) p l (nI 40)) l 20) l))) 0 8 (nI (m_letters_f8 (μ 3) (m_passes_f6 (μ 3) (m_sign_f6 (μ 3) p l (nI 40)) l 20) l))) 0 9 (nI 6)) 0 12 (nI s)) 1 W))) (fun _ m => by rw [e115.2.1, e115.2.2.1, e115.2.2.2.1, e115.2.2.2.2] at m; exact m) ?_
        have hb5 := let6_le (T := μ 3) (p := (m_passes_f6 (μ 3) (m_sign_f6 (μ 3) p l (nI 40)) l 20)) (l := l) (by omega)
        refine x_ifeqB O 152 dX6_readAtom_118 (by decide) (fun _ => ?_) (fun c => absurd c (by decide))
        refine x_aload_n O 0 dX6_readAtom_152 rfl rfl ?_
        rcases hr153 : pSum (μ 3) l story (m_letters_f8 (μ 3) (m_passes_f6 (μ 3) (m_sign_f6 (μ 3) p l (nI 40)) l 20) l) with ⟨p1, b1, ls1⟩ | b1
        · refine x_cV O 0 (con_ok (c_m_readSum (μ := μ) l h7 hl story h13 (m_letters_f8 (μ 3) (m_passes_f6 (μ 3) (m_sign_f6 (μ 3) p l (nI 40)) l 20) l) (m_letters_f8 (μ 3) (m_passes_f6 (μ 3) (m_sign_f6 (μ 3) p l (nI 40)) l 20) l) 6 s W (by omega) (by omega) (by omega)) hr153) MS.obj uc6 (lw_V q1902 q1904 qs51 q111 q1905) rfl hd_X6_readSum rfl (by rw [RF]; exact Nat.ble_eq_true_of_le (by omega)) (by rw [RL]; exact Nat.ble_eq_true_of_le (by omega)) ⟨Nat.zero_le _, Nat.zero_le _⟩ rfl rfl dX6_readAtom_153 ?_
          refine x_top (v' := b2i true) rfl ?_
          have hF1 := pSum_le (T := μ 3) (story := story) (by first | exact hp | omega) _ _ _ hr153
          refine x_ifneB O 161 dX6_readAtom_156 (by decide) (fun _ => ?_) (fun c => absurd rfl c)
          refine x_aload_n O 0 dX6_readAtom_161 rfl rfl ?_
          refine x_bipush O (nI 60) dX6_readAtom_162 (by decide) ?_
          refine x_cV O 1 (c_m_sign (μ := (mc (mset (mset (mset (mset μ 0 6 (nI p1)) 0 8 (nI b1)) 0 9 (nI 6)) 0 12 (nI (s + ls1.length))) 1 (em W s ls1))) p1 ((congrFun (mc_n (by decide)) 6).trans ((rd_skip (by decide)).trans ((rd_skip (by decide)).trans ((rd_skip (by decide)).trans rd_hit)))) l ((congrFun (mc_n (by decide)) 7).trans ((rd_skip (by decide)).trans ((rd_skip (by decide)).trans ((rd_skip (by decide)).trans ((rd_skip (by decide)).trans h7))))) hl (by omega) (nI 60)) MS.obj uc6 (lw_V q1860 q1862 qs42 q111 q1863) rfl hd_X6_sign rfl (by rw [RF]; exact Nat.ble_eq_true_of_le (by omega)) (by rw [RL]; exact Nat.ble_eq_true_of_le (by omega)) ⟨Nat.zero_le _, Nat.zero_le _⟩ rfl rfl dX6_readAtom_164 ?_
          refine x_top (v' := b2i (m_sign (μ 3) p1 l (nI 60))) (by rw [show (mc (mset (mset (mset (mset μ 0 6 (nI p1)) 0 8 (nI b1)) 0 9 (nI 6)) 0 12 (nI (s + ls1.length))) 1 (em W s ls1)) 3 = μ 3 from ((mc_n (by decide)).trans ((mset_n (by decide)).trans ((mset_n (by decide)).trans ((mset_n (by decide)).trans (mset_n (by decide))))))]) ?_
          refine x_weak (Ω' := MS G adr h0 (mc (mset (mset (mset (mset μ 0 6 (nI (m_sign_f6 (μ 3) p1 l (nI 60)))) 0 8 (nI (m_sign_f8 (μ 3) p1 l (nI 60)))) 0 9 (nI 6)) 0 12 (nI (s + ls1.length))) 1 (em W s ls1))) (fun _ m => by rw [show (mc (mset (mset (mset (mset μ 0 6 (nI p1)) 0 8 (nI b1)) 0 9 (nI 6)) 0 12 (nI (s + ls1.length))) 1 (em W s ls1)) 3 = μ 3 from ((mc_n (by decide)).trans ((mset_n (by decide)).trans ((mset_n (by decide)).trans ((mset_n (by decide)).trans (mset_n (by decide))))))] at m; exact m.eq ((congrArg (fun m_ => mset m_ 0 8 _) (wc_n (by decide))).trans ((congrArg (fun m_ => mset m_ 0 8 _) (congrArg (fun m_ => mc m_ 1 _) (ff_n (by decide)))).trans ((congrArg (fun m_ => mset m_ 0 8 _) (congrArg (fun m_ => mc m_ 1 _) (congrArg (fun m_ => mset m_ 0 12 _) (ff_n (by decide))))).trans ((congrArg (fun m_ => mset m_ 0 8 _) (congrArg (fun m_ => mc m_ 1 _) (congrArg (fun m_ => mset m_ 0 12 _) (congrArg (fun m_ => mset m_ 0 9 _) (ff_n (by decide)))))).trans ((congrArg (fun m_ => mset m_ 0 8 _) (congrArg (fun m_ => mc m_ 1 _) (congrArg (fun m_ => mset m_ 0 12 _) (congrArg (fun m_ => mset m_ 0 9 _) (congrArg (fun m_ => mset m_ 0 8 _) ff_s))))).trans ((wc_n (by decide)).trans ((congrArg (fun m_ => mc m_ 1 _) (ff_n (by decide))).trans ((congrArg (fun m_ => mc m_ 1 _) (congrArg (fun m_ => mset m_ 0 12 _) (ff_n (by decide)))).trans (congrArg (fun m_ => mc m_ 1 _) (congrArg (fun m_ => mset m_ 0 12 _) (congrArg (fun m_ => mset m_ 0 9 _) ff_s)))))))))))) ?_
          have hs164 := sign_le (T := μ 3) (p := p1) (l := l) (c := nI 60) (by omega)
          refine x_istore_n O [(1, .int (b2i (m_sign (μ 3) p1 l (nI 60)))), (0, .ref (adr 0))] dX6_readAtom_167 rfl rfl rfl ?_
          refine x_iload_n O 0 dX6_readAtom_168 rfl rfl ?_
          refine x_ifneB O 181 dX6_readAtom_169 (by decide) (fun c169 => ?_) (fun c169 => ?_)
          · have ht169 := hs164.2.2.2 c169
            refine x_aload_n O 1 dX6_readAtom_181 rfl rfl ?_
            rcases hr182 : pSum (μ 3) l story (m_sign_f6 (μ 3) p1 l (nI 60)) with ⟨p2, b2, ls2⟩ | b2
            · refine x_cV O 0 (con_ok (c_m_readSum (μ := μ) l h7 hl story h13 (m_sign_f6 (μ 3) p1 l (nI 60)) (m_sign_f8 (μ 3) p1 l (nI 60)) 6 (s + ls1.length) (em W s ls1) (by omega) (by omega) (by omega)) hr182) MS.obj uc6 (lw_V q1902 q1904 qs51 q111 q1905) rfl hd_X6_readSum rfl (by rw [RF]; exact Nat.ble_eq_true_of_le (by omega)) (by rw [RL]; exact Nat.ble_eq_true_of_le (by omega)) ⟨Nat.zero_le _, Nat.zero_le _⟩ rfl rfl dX6_readAtom_182 ?_
              refine x_top (v' := b2i true) rfl ?_
              have hF2 := pSum_le (T := μ 3) (story := story) (by first | exact hp | omega) _ _ _ hr182
              refine x_ifneB O 190 dX6_readAtom_185 (by decide) (fun _ => ?_) (fun c => absurd rfl c)
              refine x_aload_n O 1 dX6_readAtom_190 rfl rfl ?_
              refine x_iload_n O 0 dX6_readAtom_191 rfl rfl ?_
              refine x_ifeqB O 200 dX6_readAtom_192 (by decide) (fun c192 => ?_) (fun c192 => ?_)
              · exact absurd c169 c192
              · refine x_sub [1] (L' := [(0, .ref (adr 0))]) rfl ?_
                refine x_bipush O (nI 13) dX6_readAtom_195 (by decide) ?_
                refine x_goto O 202 dX6_readAtom_197 (by decide) ?_
                refine x_iconst O (nI 0) dX6_readAtom_202 (by decide) ?_
                refine x_cV O 2 (c_m_emits (μ := (mc (mset (mset (mset (mset μ 0 6 (nI p2)) 0 8 (nI b2)) 0 9 (nI 6)) 0 12 (nI (s + ls1.length + ls2.length))) 1 (em (em W s ls1) (s + ls1.length) ls2))) (s + ls1.length + ls2.length) ((congrFun (mc_n (by decide)) 12).trans rd_hit) (by omega) (nI 13) (nI 0)) MS.obj uc6 (lw_V q1887 q1889 qs48 q111 q1890) rfl hd_X6_emits rfl (by rw [RF]; exact Nat.ble_eq_true_of_le (by omega)) (by rw [RL]; exact Nat.ble_eq_true_of_le (by omega)) ⟨Nat.zero_le _, Nat.zero_le _⟩ rfl rfl dX6_readAtom_203 ?_
                refine x_weak (Ω' := MS G adr h0 (mc (mset (mset (mset (mset μ 0 6 (nI p2)) 0 8 (nI b2)) 0 9 (nI 6)) 0 12 (nI (m_emits_f12 (em (em W s ls1) (s + ls1.length) ls2) (s + ls1.length + ls2.length) (nI 13) (nI 0)))) 1 (m_emits_c1 (em (em W s ls1) (s + ls1.length) ls2) (s + ls1.length + ls2.length) (nI 13) (nI 0)))) (fun _ m => by rw [show (mc (mset (mset (mset (mset μ 0 6 (nI p2)) 0 8 (nI b2)) 0 9 (nI 6)) 0 12 (nI (s + ls1.length + ls2.length))) 1 (em (em W s ls1) (s + ls1.length) ls2)) 1 = em (em W s ls1) (s + ls1.length) ls2 from mc_s] at m; exact m.eq ((congrArg (fun m_ => mc m_ 1 _) (wc_n (by decide))).trans ((congrArg (fun m_ => mc m_ 1 _) (congrArg (fun m_ => mc m_ 1 _) ff_s)).trans cc_s))) ?_
                refine x_weak (Ω' := MS G adr h0 ((mc (mset (mset (mset (mset μ 0 6 (nI p2)) 0 8 (nI b2)) 0 9 (nI 6)) 0 12 (nI (s + ls1.length + ls2.length + 1))) 1 (m_emits_c1 (em (em W s ls1) (s + ls1.length) ls2) (s + ls1.length + ls2.length) (nI 13) (nI 0))))) (fun _ m => m) ?_
                refine x_iconst O (nI 1) dX6_readAtom_206 (by decide) ?_
                refine x_top (v' := b2i true) (by decide) ?_
                exact x_zretQ O hQ rfl dX6_readAtom_207 (fun h m => post_ok (p' := p2) (b' := b2) (ls := ls1 ++ ls2 ++ [(nI 13, nI 0)]) (by unfold pAtomB; simp only [if_neg c6, if_neg c62, if_neg c115, hr153, if_pos c169, hr182, if_pos c192]) (by first | exact m | (simp only [em_app, List.length_append, ← Nat.add_assoc]; exact m)))
            · refine x_cV O 0 (con_no (c_m_readSum (μ := μ) l h7 hl story h13 (m_sign_f6 (μ 3) p1 l (nI 60)) (m_sign_f8 (μ 3) p1 l (nI 60)) 6 (s + ls1.length) (em W s ls1) (by omega) (by omega) (by omega)) hr182) MS.obj uc6 (lw_V q1902 q1904 qs51 q111 q1905) rfl hd_X6_readSum rfl (by rw [RF]; exact Nat.ble_eq_true_of_le (by omega)) (by rw [RL]; exact Nat.ble_eq_true_of_le (by omega)) ⟨Nat.zero_le _, Nat.zero_le _⟩ rfl rfl dX6_readAtom_182 ?_
              refine x_top (v' := b2i false) rfl ?_
              refine x_ex4 (fun p2 d2 s2 W2 hW2 => ?_)
              refine x_ifneB O 190 dX6_readAtom_185 (by decide) (fun c => absurd c (by decide)) (fun _ => ?_)
              refine x_sub [1] (L' := [(0, .ref (adr 0))]) rfl ?_
              refine x_iconst O (nI 0) dX6_readAtom_188 (by decide) ?_
              refine x_top (v' := b2i false) (by decide) ?_
              exact x_zretQ O hQ rfl dX6_readAtom_189 (fun h m => post_no (by unfold pAtomB; simp only [if_neg c6, if_neg c62, if_neg c115, hr153, if_pos c169, hr182]) (fun j hj => by first | rfl | simp only [em_low hj, emits_low hj, hW2 j hj]) m)
          · refine x_aload_n O 1 dX6_readAtom_172 rfl rfl ?_
            refine x_bipush O (nI 62) dX6_readAtom_173 (by decide) ?_
            refine x_cV O 1 (c_m_sign (μ := (mc (mset (mset (mset (mset μ 0 6 (nI (m_sign_f6 (μ 3) p1 l (nI 60)))) 0 8 (nI (m_sign_f8 (μ 3) p1 l (nI 60)))) 0 9 (nI 6)) 0 12 (nI (s + ls1.length))) 1 (em W s ls1))) (m_sign_f6 (μ 3) p1 l (nI 60)) ((congrFun (mc_n (by decide)) 6).trans ((rd_skip (by decide)).trans ((rd_skip (by decide)).trans ((rd_skip (by decide)).trans rd_hit)))) l ((congrFun (mc_n (by decide)) 7).trans ((rd_skip (by decide)).trans ((rd_skip (by decide)).trans ((rd_skip (by decide)).trans ((rd_skip (by decide)).trans h7))))) hl (by omega) (nI 62)) MS.obj uc6 (lw_V q1860 q1862 qs42 q111 q1863) rfl hd_X6_sign rfl (by rw [RF]; exact Nat.ble_eq_true_of_le (by omega)) (by rw [RL]; exact Nat.ble_eq_true_of_le (by omega)) ⟨Nat.zero_le _, Nat.zero_le _⟩ rfl rfl dX6_readAtom_175 ?_
            refine x_top (v' := b2i (m_sign (μ 3) (m_sign_f6 (μ 3) p1 l (nI 60)) l (nI 62))) (by rw [show (mc (mset (mset (mset (mset μ 0 6 (nI (m_sign_f6 (μ 3) p1 l (nI 60)))) 0 8 (nI (m_sign_f8 (μ 3) p1 l (nI 60)))) 0 9 (nI 6)) 0 12 (nI (s + ls1.length))) 1 (em W s ls1)) 3 = μ 3 from ((mc_n (by decide)).trans ((mset_n (by decide)).trans ((mset_n (by decide)).trans ((mset_n (by decide)).trans (mset_n (by decide))))))]) ?_
            refine x_weak (Ω' := MS G adr h0 (mc (mset (mset (mset (mset μ 0 6 (nI (m_sign_f6 (μ 3) (m_sign_f6 (μ 3) p1 l (nI 60)) l (nI 62)))) 0 8 (nI (m_sign_f8 (μ 3) (m_sign_f6 (μ 3) p1 l (nI 60)) l (nI 62)))) 0 9 (nI 6)) 0 12 (nI (s + ls1.length))) 1 (em W s ls1))) (fun _ m => by rw [show (mc (mset (mset (mset (mset μ 0 6 (nI (m_sign_f6 (μ 3) p1 l (nI 60)))) 0 8 (nI (m_sign_f8 (μ 3) p1 l (nI 60)))) 0 9 (nI 6)) 0 12 (nI (s + ls1.length))) 1 (em W s ls1)) 3 = μ 3 from ((mc_n (by decide)).trans ((mset_n (by decide)).trans ((mset_n (by decide)).trans ((mset_n (by decide)).trans (mset_n (by decide))))))] at m; exact m.eq ((congrArg (fun m_ => mset m_ 0 8 _) (wc_n (by decide))).trans ((congrArg (fun m_ => mset m_ 0 8 _) (congrArg (fun m_ => mc m_ 1 _) (ff_n (by decide)))).trans ((congrArg (fun m_ => mset m_ 0 8 _) (congrArg (fun m_ => mc m_ 1 _) (congrArg (fun m_ => mset m_ 0 12 _) (ff_n (by decide))))).trans ((congrArg (fun m_ => mset m_ 0 8 _) (congrArg (fun m_ => mc m_ 1 _) (congrArg (fun m_ => mset m_ 0 12 _) (congrArg (fun m_ => mset m_ 0 9 _) (ff_n (by decide)))))).trans ((congrArg (fun m_ => mset m_ 0 8 _) (congrArg (fun m_ => mc m_ 1 _) (congrArg (fun m_ => mset m_ 0 12 _) (congrArg (fun m_ => mset m_ 0 9 _) (congrArg (fun m_ => mset m_ 0 8 _) ff_s))))).trans ((wc_n (by decide)).trans ((congrArg (fun m_ => mc m_ 1 _) (ff_n (by decide))).trans ((congrArg (fun m_ => mc m_ 1 _) (congrArg (fun m_ => mset m_ 0 12 _) (ff_n (by decide)))).trans (congrArg (fun m_ => mc m_ 1 _) (congrArg (fun m_ => mset m_ 0 12 _) (congrArg (fun m_ => mset m_ 0 9 _) ff_s)))))))))))) ?_
            have hs175 := sign_le (T := μ 3) (p := m_sign_f6 (μ 3) p1 l (nI 60)) (l := l) (c := nI 62) (by omega)
            refine x_ifeqB O 188 dX6_readAtom_178 (by decide) (fun c178 => ?_) (fun c178 => ?_)
            · refine x_sub [1] (L' := [(0, .ref (adr 0))]) rfl ?_
              refine x_iconst O (nI 0) dX6_readAtom_188 (by decide) ?_
              refine x_top (v' := b2i false) (by decide) ?_
              exact x_zretQ O hQ rfl dX6_readAtom_189 (fun h m => post_no (by unfold pAtomB; simp only [if_neg c6, if_neg c62, if_neg c115, hr153, if_neg c169, if_neg c178]) (fun j hj => by first | rfl | simp only [em_low hj, emits_low hj]) m)
            · have ht178 := hs175.2.2.2 c178
              refine x_aload_n O 1 dX6_readAtom_181 rfl rfl ?_
              rcases hr182 : pSum (μ 3) l story (m_sign_f6 (μ 3) (m_sign_f6 (μ 3) p1 l (nI 60)) l (nI 62)) with ⟨p3, b3, ls3⟩ | b3
              · refine x_cV O 0 (con_ok (c_m_readSum (μ := μ) l h7 hl story h13 (m_sign_f6 (μ 3) (m_sign_f6 (μ 3) p1 l (nI 60)) l (nI 62)) (m_sign_f8 (μ 3) (m_sign_f6 (μ 3) p1 l (nI 60)) l (nI 62)) 6 (s + ls1.length) (em W s ls1) (by omega) (by omega) (by omega)) hr182) MS.obj uc6 (lw_V q1902 q1904 qs51 q111 q1905) rfl hd_X6_readSum rfl (by rw [RF]; exact Nat.ble_eq_true_of_le (by omega)) (by rw [RL]; exact Nat.ble_eq_true_of_le (by omega)) ⟨Nat.zero_le _, Nat.zero_le _⟩ rfl rfl dX6_readAtom_182 ?_
                refine x_top (v' := b2i true) rfl ?_
                have hF3 := pSum_le (T := μ 3) (story := story) (by first | exact hp | omega) _ _ _ hr182
                refine x_ifneB O 190 dX6_readAtom_185 (by decide) (fun _ => ?_) (fun c => absurd rfl c)
                refine x_aload_n O 1 dX6_readAtom_190 rfl rfl ?_
                refine x_iload_n O 0 dX6_readAtom_191 rfl rfl ?_
                refine x_ifeqB O 200 dX6_readAtom_192 (by decide) (fun c192 => ?_) (fun c192 => ?_)
                · refine x_sub [1] (L' := [(0, .ref (adr 0))]) rfl ?_
                  refine x_bipush O (nI 14) dX6_readAtom_200 (by decide) ?_
                  refine x_iconst O (nI 0) dX6_readAtom_202 (by decide) ?_
                  refine x_cV O 2 (c_m_emits (μ := (mc (mset (mset (mset (mset μ 0 6 (nI p3)) 0 8 (nI b3)) 0 9 (nI 6)) 0 12 (nI (s + ls1.length + ls3.length))) 1 (em (em W s ls1) (s + ls1.length) ls3))) (s + ls1.length + ls3.length) ((congrFun (mc_n (by decide)) 12).trans rd_hit) (by omega) (nI 14) (nI 0)) MS.obj uc6 (lw_V q1887 q1889 qs48 q111 q1890) rfl hd_X6_emits rfl (by rw [RF]; exact Nat.ble_eq_true_of_le (by omega)) (by rw [RL]; exact Nat.ble_eq_true_of_le (by omega)) ⟨Nat.zero_le _, Nat.zero_le _⟩ rfl rfl dX6_readAtom_203 ?_
                  refine x_weak (Ω' := MS G adr h0 (mc (mset (mset (mset (mset μ 0 6 (nI p3)) 0 8 (nI b3)) 0 9 (nI 6)) 0 12 (nI (m_emits_f12 (em (em W s ls1) (s + ls1.length) ls3) (s + ls1.length + ls3.length) (nI 14) (nI 0)))) 1 (m_emits_c1 (em (em W s ls1) (s + ls1.length) ls3) (s + ls1.length + ls3.length) (nI 14) (nI 0)))) (fun _ m => by rw [show (mc (mset (mset (mset (mset μ 0 6 (nI p3)) 0 8 (nI b3)) 0 9 (nI 6)) 0 12 (nI (s + ls1.length + ls3.length))) 1 (em (em W s ls1) (s + ls1.length) ls3)) 1 = em (em W s ls1) (s + ls1.length) ls3 from mc_s] at m; exact m.eq ((congrArg (fun m_ => mc m_ 1 _) (wc_n (by decide))).trans ((congrArg (fun m_ => mc m_ 1 _) (congrArg (fun m_ => mc m_ 1 _) ff_s)).trans cc_s))) ?_
                  refine x_weak (Ω' := MS G adr h0 ((mc (mset (mset (mset (mset μ 0 6 (nI p3)) 0 8 (nI b3)) 0 9 (nI 6)) 0 12 (nI (s + ls1.length + ls3.length + 1))) 1 (m_emits_c1 (em (em W s ls1) (s + ls1.length) ls3) (s + ls1.length + ls3.length) (nI 14) (nI 0))))) (fun _ m => m) ?_
                  refine x_iconst O (nI 1) dX6_readAtom_206 (by decide) ?_
                  refine x_top (v' := b2i true) (by decide) ?_
                  exact x_zretQ O hQ rfl dX6_readAtom_207 (fun h m => post_ok (p' := p3) (b' := b3) (ls := ls1 ++ ls3 ++ [(nI 14, nI 0)]) (by unfold pAtomB; simp only [if_neg c6, if_neg c62, if_neg c115, hr153, if_neg c169, if_pos c178, hr182, if_neg c192]) (by first | exact m | (simp only [em_app, List.length_append, ← Nat.add_assoc]; exact m)))
                · exact absurd c192 c169
              · refine x_cV O 0 (con_no (c_m_readSum (μ := μ) l h7 hl story h13 (m_sign_f6 (μ 3) (m_sign_f6 (μ 3) p1 l (nI 60)) l (nI 62)) (m_sign_f8 (μ 3) (m_sign_f6 (μ 3) p1 l (nI 60)) l (nI 62)) 6 (s + ls1.length) (em W s ls1) (by omega) (by omega) (by omega)) hr182) MS.obj uc6 (lw_V q1902 q1904 qs51 q111 q1905) rfl hd_X6_readSum rfl (by rw [RF]; exact Nat.ble_eq_true_of_le (by omega)) (by rw [RL]; exact Nat.ble_eq_true_of_le (by omega)) ⟨Nat.zero_le _, Nat.zero_le _⟩ rfl rfl dX6_readAtom_182 ?_
                refine x_top (v' := b2i false) rfl ?_
                refine x_ex4 (fun p3 d3 s3 W3 hW3 => ?_)
                refine x_ifneB O 190 dX6_readAtom_185 (by decide) (fun c => absurd c (by decide)) (fun _ => ?_)
                refine x_sub [1] (L' := [(0, .ref (adr 0))]) rfl ?_
                refine x_iconst O (nI 0) dX6_readAtom_188 (by decide) ?_
                refine x_top (v' := b2i false) (by decide) ?_
                exact x_zretQ O hQ rfl dX6_readAtom_189 (fun h m => post_no (by unfold pAtomB; simp only [if_neg c6, if_neg c62, if_neg c115, hr153, if_neg c169, if_pos c178, hr182]) (fun j hj => by first | rfl | simp only [em_low hj, emits_low hj, hW3 j hj]) m)
        · refine x_cV O 0 (con_no (c_m_readSum (μ := μ) l h7 hl story h13 (m_letters_f8 (μ 3) (m_passes_f6 (μ 3) (m_sign_f6 (μ 3) p l (nI 40)) l 20) l) (m_letters_f8 (μ 3) (m_passes_f6 (μ 3) (m_sign_f6 (μ 3) p l (nI 40)) l 20) l) 6 s W (by omega) (by omega) (by omega)) hr153) MS.obj uc6 (lw_V q1902 q1904 qs51 q111 q1905) rfl hd_X6_readSum rfl (by rw [RF]; exact Nat.ble_eq_true_of_le (by omega)) (by rw [RL]; exact Nat.ble_eq_true_of_le (by omega)) ⟨Nat.zero_le _, Nat.zero_le _⟩ rfl rfl dX6_readAtom_153 ?_
          refine x_top (v' := b2i false) rfl ?_
          refine x_ex4 (fun p1 d1 s1 W1 hW1 => ?_)
          refine x_ifneB O 161 dX6_readAtom_156 (by decide) (fun c => absurd c (by decide)) (fun _ => ?_)
          refine x_iconst O (nI 0) dX6_readAtom_159 (by decide) ?_
          refine x_top (v' := b2i false) (by decide) ?_
          exact x_zretQ O hQ rfl dX6_readAtom_160 (fun h m => post_no (by unfold pAtomB; simp only [if_neg c6, if_neg c62, if_neg c115, hr153]) (fun j hj => by first | rfl | simp only [em_low hj, emits_low hj, hW1 j hj]) m)
    · have hb4 := hb2.2.2.2 c62
      refine x_aload_n O 0 dX6_readAtom_65 rfl rfl ?_
      refine x_mget O k_X6_115_6 (mg_9 _ _) dX6_readAtom_66 ?_
      refine x_top (v' := nI 6) ((congrFun (mc_n (by decide)) 9).trans ((rd_skip (by decide)).trans rd_hit)) ?_
      refine x_bipush O (nI 6) dX6_readAtom_69 (by decide) ?_
      refine x_icmpneN O 76 (by omega) (by omega) dX6_readAtom_71 (by decide) (fun c71 => ?_) (fun c71 => ?_)
      · exact absurd rfl c71
      · refine x_iconst O (nI 0) dX6_readAtom_74 (by decide) ?_
        refine x_top (v' := b2i false) (by decide) ?_
        exact x_zretQ O hQ rfl dX6_readAtom_75 (fun h m => post_no (by unfold pAtomB; simp only [if_neg c6, if_pos c62, if_pos c71]) (fun j hj => by first | rfl | simp only [em_low hj, emits_low hj]) m)
  · have ht6 := hs3.2.2.2 c6
    have hb3 := hb1.2.2.2 c6
    refine x_aload_n O 0 dX6_readAtom_9 rfl rfl ?_
    refine x_mget O k_X6_115_6 (mg_9 _ _) dX6_readAtom_10 ?_
    refine x_top (v' := nI 6) ((congrFun (mc_n (by decide)) 9).trans ((rd_skip (by decide)).trans rd_hit)) ?_
    refine x_bipush O (nI 6) dX6_readAtom_13 (by decide) ?_
    refine x_icmpneN O 20 (by omega) (by omega) dX6_readAtom_15 (by decide) (fun c15 => ?_) (fun c15 => ?_)
    · exact absurd rfl c15
    · refine x_iconst O (nI 0) dX6_readAtom_18 (by decide) ?_
      refine x_top (v' := b2i false) (by decide) ?_
      exact x_zretQ O hQ rfl dX6_readAtom_19 (fun h m => post_no (by unfold pAtomB; simp only [if_pos c6, if_pos c15]) (fun j hj => by first | rfl | simp only [em_low hj, emits_low hj]) m)

set_option maxHeartbeats 1000000 in
set_option maxRecDepth 100000 in
theorem c_m_atomD {G : UG} {adr : Nat → Nat} {h0 : Hp} {μ : Mu} (l : Nat) (h7 : μ 0 7 = nI l) (hl : l ≤ 400) (story : Bool) (h13 : μ 0 13 = b2i story) (f g : Nat) (hf : 12 ≤ f) (hg : 300 ≤ g) (d : Nat) (hd : d < 6) (D : (Nat → PR) × (Nat → PR)) (hC : ∀ (p b s : Nat) (W : Nat → Int32), p ≤ l → s ≤ p → s < 400 → Con G yX6_readCond cX6_readCond 1 (some .boolean) f g 0 0 [.ref (adr 0)] (MS G adr h0 (ps μ p b (d + 1) s W)) (Post G adr h0 μ (d + 1) s W (D.1 p)) nX) (fa ga : Nat) (hfa : fa ≤ f) (hga : ga ≤ g) (hA : ∀ (p b s : Nat) (W : Nat → Int32), p ≤ l → s ≤ p → s < 400 → Con G yX6_readAtom cX6_readAtom 2 (some .boolean) fa ga 0 0 [.ref (adr 0)] (MS G adr h0 (ps μ p b (d + 1) s W)) (Post G adr h0 μ (d + 1) s W (D.2 p)) nX) (hD1 : ∀ p, p ≤ l → PL l p (D.1 p)) (hD2 : ∀ p, p ≤ l → PL l p (D.2 p)) (p b s : Nat) (W : Nat → Int32) (hp : p ≤ l) (hsp : s ≤ p) (hs : s < 400) : Con G yX6_readAtom cX6_readAtom 2 (some .boolean) (f + 1) (g + 40) 0 0 [.ref (adr 0)] (MS G adr h0 (ps μ p b d s W)) (Post G adr h0 μ d s W (pAtomB (μ 3) l story (some D) p)) nX := by
  refine con_of2 (plainFor_of_name (by decide)) rfl ?_
  intro F R Q RF RL RC RS hQ O hnh hnm
  refine x_eq (L' := [(0, .ref (adr 0))]) ?_ rfl rfl rfl
  refine x_aload_n O 0 dX6_readAtom_0 rfl rfl ?_
  refine x_bipush O (nI 40) dX6_readAtom_1 (by decide) ?_
  refine x_cV O 1 (c_m_sign (μ := (mc (mset (mset (mset (mset μ 0 6 (nI p)) 0 8 (nI b)) 0 9 (nI d)) 0 12 (nI s)) 1 W)) p ((congrFun (mc_n (by decide)) 6).trans ((rd_skip (by decide)).trans ((rd_skip (by decide)).trans ((rd_skip (by decide)).trans rd_hit)))) l ((congrFun (mc_n (by decide)) 7).trans ((rd_skip (by decide)).trans ((rd_skip (by decide)).trans ((rd_skip (by decide)).trans ((rd_skip (by decide)).trans h7))))) hl hp (nI 40)) MS.obj uc6 (lw_V q1860 q1862 qs42 q111 q1863) rfl hd_X6_sign rfl (by rw [RF]; exact Nat.ble_eq_true_of_le (by omega)) (by rw [RL]; exact Nat.ble_eq_true_of_le (by omega)) ⟨Nat.zero_le _, Nat.zero_le _⟩ rfl rfl dX6_readAtom_3 ?_
  refine x_top (v' := b2i (m_sign (μ 3) p l (nI 40))) (by rw [show (mc (mset (mset (mset (mset μ 0 6 (nI p)) 0 8 (nI b)) 0 9 (nI d)) 0 12 (nI s)) 1 W) 3 = μ 3 from ((mc_n (by decide)).trans ((mset_n (by decide)).trans ((mset_n (by decide)).trans ((mset_n (by decide)).trans (mset_n (by decide))))))]) ?_
  refine x_weak (Ω' := MS G adr h0 (mc (mset (mset (mset (mset μ 0 6 (nI (m_sign_f6 (μ 3) p l (nI 40)))) 0 8 (nI (m_sign_f8 (μ 3) p l (nI 40)))) 0 9 (nI d)) 0 12 (nI s)) 1 W)) (fun _ m => by rw [show (mc (mset (mset (mset (mset μ 0 6 (nI p)) 0 8 (nI b)) 0 9 (nI d)) 0 12 (nI s)) 1 W) 3 = μ 3 from ((mc_n (by decide)).trans ((mset_n (by decide)).trans ((mset_n (by decide)).trans ((mset_n (by decide)).trans (mset_n (by decide))))))] at m; exact m.eq ((congrArg (fun m_ => mset m_ 0 8 _) (wc_n (by decide))).trans ((congrArg (fun m_ => mset m_ 0 8 _) (congrArg (fun m_ => mc m_ 1 _) (ff_n (by decide)))).trans ((congrArg (fun m_ => mset m_ 0 8 _) (congrArg (fun m_ => mc m_ 1 _) (congrArg (fun m_ => mset m_ 0 12 _) (ff_n (by decide))))).trans ((congrArg (fun m_ => mset m_ 0 8 _) (congrArg (fun m_ => mc m_ 1 _) (congrArg (fun m_ => mset m_ 0 12 _) (congrArg (fun m_ => mset m_ 0 9 _) (ff_n (by decide)))))).trans ((congrArg (fun m_ => mset m_ 0 8 _) (congrArg (fun m_ => mc m_ 1 _) (congrArg (fun m_ => mset m_ 0 12 _) (congrArg (fun m_ => mset m_ 0 9 _) (congrArg (fun m_ => mset m_ 0 8 _) ff_s))))).trans ((wc_n (by decide)).trans ((congrArg (fun m_ => mc m_ 1 _) (ff_n (by decide))).trans ((congrArg (fun m_ => mc m_ 1 _) (congrArg (fun m_ => mset m_ 0 12 _) (ff_n (by decide)))).trans (congrArg (fun m_ => mc m_ 1 _) (congrArg (fun m_ => mset m_ 0 12 _) (congrArg (fun m_ => mset m_ 0 9 _) ff_s)))))))))))) ?_
  have hs3 := sign_le (T := μ 3) (p := p) (l := l) (c := nI 40) (by omega)
  have hb1 := sign_le (T := μ 3) (p := p) (l := l) (c := nI 40) hp
  refine x_ifeqB O 56 dX6_readAtom_6 (by decide) (fun c6 => ?_) (fun c6 => ?_)
  · refine x_aload_n O 0 dX6_readAtom_56 rfl rfl ?_
    refine x_ldcS O (i := 20) (tx := "not") (List.mem_of_getElem? (i := 26) rfl) dX6_readAtom_57 ?_
    refine x_cV O 1 (c_m_passes (μ := (mc (mset (mset (mset (mset μ 0 6 (nI (m_sign_f6 (μ 3) p l (nI 40)))) 0 8 (nI (m_sign_f8 (μ 3) p l (nI 40)))) 0 9 (nI d)) 0 12 (nI s)) 1 W)) (m_sign_f6 (μ 3) p l (nI 40)) ((congrFun (mc_n (by decide)) 6).trans ((rd_skip (by decide)).trans ((rd_skip (by decide)).trans ((rd_skip (by decide)).trans rd_hit)))) l ((congrFun (mc_n (by decide)) 7).trans ((rd_skip (by decide)).trans ((rd_skip (by decide)).trans ((rd_skip (by decide)).trans ((rd_skip (by decide)).trans h7))))) hl (by omega) 20 (by decide)) MS.obj uc6 (lw_V q1873 q1875 qs45 q111 q1876) rfl hd_X6_passes rfl (by rw [RF]; exact Nat.ble_eq_true_of_le (by omega)) (by rw [RL]; exact Nat.ble_eq_true_of_le (by omega)) ⟨Nat.zero_le _, Nat.zero_le _⟩ rfl rfl dX6_readAtom_59 ?_
    refine x_top (v' := b2i (m_passes (μ 3) (m_sign_f6 (μ 3) p l (nI 40)) l 20)) (by rw [show (mc (mset (mset (mset (mset μ 0 6 (nI (m_sign_f6 (μ 3) p l (nI 40)))) 0 8 (nI (m_sign_f8 (μ 3) p l (nI 40)))) 0 9 (nI d)) 0 12 (nI s)) 1 W) 3 = μ 3 from ((mc_n (by decide)).trans ((mset_n (by decide)).trans ((mset_n (by decide)).trans ((mset_n (by decide)).trans (mset_n (by decide))))))]) ?_
    refine x_weak (Ω' := MS G adr h0 (mc (mset (mset (mset (mset μ 0 6 (nI (m_passes_f6 (μ 3) (m_sign_f6 (μ 3) p l (nI 40)) l 20))) 0 8 (nI (m_passes_f8 (μ 3) (m_sign_f6 (μ 3) p l (nI 40)) l 20))) 0 9 (nI d)) 0 12 (nI s)) 1 W)) (fun _ m => by rw [show (mc (mset (mset (mset (mset μ 0 6 (nI (m_sign_f6 (μ 3) p l (nI 40)))) 0 8 (nI (m_sign_f8 (μ 3) p l (nI 40)))) 0 9 (nI d)) 0 12 (nI s)) 1 W) 3 = μ 3 from ((mc_n (by decide)).trans ((mset_n (by decide)).trans ((mset_n (by decide)).trans ((mset_n (by decide)).trans (mset_n (by decide))))))] at m; exact m.eq ((congrArg (fun m_ => mset m_ 0 8 _) (wc_n (by decide))).trans ((congrArg (fun m_ => mset m_ 0 8 _) (congrArg (fun m_ => mc m_ 1 _) (ff_n (by decide)))).trans ((congrArg (fun m_ => mset m_ 0 8 _) (congrArg (fun m_ => mc m_ 1 _) (congrArg (fun m_ => mset m_ 0 12 _) (ff_n (by decide))))).trans ((congrArg (fun m_ => mset m_ 0 8 _) (congrArg (fun m_ => mc m_ 1 _) (congrArg (fun m_ => mset m_ 0 12 _) (congrArg (fun m_ => mset m_ 0 9 _) (ff_n (by decide)))))).trans ((congrArg (fun m_ => mset m_ 0 8 _) (congrArg (fun m_ => mc m_ 1 _) (congrArg (fun m_ => mset m_ 0 12 _) (congrArg (fun m_ => mset m_ 0 9 _) (congrArg (fun m_ => mset m_ 0 8 _) ff_s))))).trans ((wc_n (by decide)).trans ((congrArg (fun m_ => mc m_ 1 _) (ff_n (by decide))).trans ((congrArg (fun m_ => mc m_ 1 _) (congrArg (fun m_ => mset m_ 0 12 _) (ff_n (by decide)))).trans (congrArg (fun m_ => mc m_ 1 _) (congrArg (fun m_ => mset m_ 0 12 _) (congrArg (fun m_ => mset m_ 0 9 _) ff_s)))))))))))) ?_
    have hb2 := passes_le (T := μ 3) (p := (m_sign_f6 (μ 3) p l (nI 40))) (l := l) (w := 20) (by omega) (by decide)
    refine x_ifeqB O 114 dX6_readAtom_62 (by decide) (fun c62 => ?_) (fun c62 => ?_)
    · refine x_aload_n O 0 dX6_readAtom_114 rfl rfl ?_
      refine x_cV O 0 (c_m_readTag (μ := (mc (mset (mset (mset (mset μ 0 6 (nI (m_passes_f6 (μ 3) (m_sign_f6 (μ 3) p l (nI 40)) l 20))) 0 8 (nI (m_passes_f8 (μ 3) (m_sign_f6 (μ 3) p l (nI 40)) l 20))) 0 9 (nI d)) 0 12 (nI s)) 1 W)) (m_passes_f6 (μ 3) (m_sign_f6 (μ 3) p l (nI 40)) l 20) ((congrFun (mc_n (by decide)) 6).trans ((rd_skip (by decide)).trans ((rd_skip (by decide)).trans ((rd_skip (by decide)).trans rd_hit)))) l ((congrFun (mc_n (by decide)) 7).trans ((rd_skip (by decide)).trans ((rd_skip (by decide)).trans ((rd_skip (by decide)).trans ((rd_skip (by decide)).trans h7))))) story ((congrFun (mc_n (by decide)) 13).trans ((rd_skip (by decide)).trans ((rd_skip (by decide)).trans ((rd_skip (by decide)).trans ((rd_skip (by decide)).trans h13))))) s ((congrFun (mc_n (by decide)) 12).trans rd_hit) hl (by omega) (by omega)) MS.obj uc6 (lw_V q1891 q1893 qs49 q111 q1894) rfl hd_X6_readTag rfl (by rw [RF]; exact Nat.ble_eq_true_of_le (by omega)) (by rw [RL]; exact Nat.ble_eq_true_of_le (by omega)) ⟨Nat.zero_le _, Nat.zero_le _⟩ rfl rfl dX6_readAtom_115 ?_
      refine x_top (v' := b2i (m_readTag W (μ 3) (m_passes_f6 (μ 3) (m_sign_f6 (μ 3) p l (nI 40)) l 20) l story s)) (by rw [show (mc (mset (mset (mset (mset μ 0 6 (nI (m_passes_f6 (μ 3) (m_sign_f6 (μ 3) p l (nI 40)) l 20))) 0 8 (nI (m_passes_f8 (μ 3) (m_sign_f6 (μ 3) p l (nI 40)) l 20))) 0 9 (nI d)) 0 12 (nI s)) 1 W) 1 = W from mc_s, show (mc (mset (mset (mset (mset μ 0 6 (nI (m_passes_f6 (μ 3) (m_sign_f6 (μ 3) p l (nI 40)) l 20))) 0 8 (nI (m_passes_f8 (μ 3) (m_sign_f6 (μ 3) p l (nI 40)) l 20))) 0 9 (nI d)) 0 12 (nI s)) 1 W) 3 = μ 3 from ((mc_n (by decide)).trans ((mset_n (by decide)).trans ((mset_n (by decide)).trans ((mset_n (by decide)).trans (mset_n (by decide))))))]) ?_
      refine x_weak (Ω' := MS G adr h0 (mc (mset (mset (mset (mset μ 0 6 (nI (m_readTag_f6 W (μ 3) (m_passes_f6 (μ 3) (m_sign_f6 (μ 3) p l (nI 40)) l 20) l story s))) 0 8 (nI (m_readTag_f8 W (μ 3) (m_passes_f6 (μ 3) (m_sign_f6 (μ 3) p l (nI 40)) l 20) l story s))) 0 9 (nI d)) 0 12 (nI (m_readTag_f12 W (μ 3) (m_passes_f6 (μ 3) (m_sign_f6 (μ 3) p l (nI 40)) l 20) l story s))) 1 (m_readTag_c1 W (μ 3) (m_passes_f6 (μ 3) (m_sign_f6 (μ 3) p l (nI 40)) l 20) l story s))) (fun _ m => by rw [show (mc (mset (mset (mset (mset μ 0 6 (nI (m_passes_f6 (μ 3) (m_sign_f6 (μ 3) p l (nI 40)) l 20))) 0 8 (nI (m_passes_f8 (μ 3) (m_sign_f6 (μ 3) p l (nI 40)) l 20))) 0 9 (nI d)) 0 12 (nI s)) 1 W) 1 = W from mc_s, show (mc (mset (mset (mset (mset μ 0 6 (nI (m_passes_f6 (μ 3) (m_sign_f6 (μ 3) p l (nI 40)) l 20))) 0 8 (nI (m_passes_f8 (μ 3) (m_sign_f6 (μ 3) p l (nI 40)) l 20))) 0 9 (nI d)) 0 12 (nI s)) 1 W) 3 = μ 3 from ((mc_n (by decide)).trans ((mset_n (by decide)).trans ((mset_n (by decide)).trans ((mset_n (by decide)).trans (mset_n (by decide))))))] at m; exact m.eq ((congrArg (fun m_ => mc m_ 1 _) (congrArg (fun m_ => mset m_ 0 12 _) (congrArg (fun m_ => mset m_ 0 8 _) (wc_n (by decide))))).trans ((congrArg (fun m_ => mc m_ 1 _) (congrArg (fun m_ => mset m_ 0 12 _) (congrArg (fun m_ => mset m_ 0 8 _) (congrArg (fun m_ => mc m_ 1 _) (ff_n (by decide)))))).trans ((congrArg (fun m_ => mc m_ 1 _) (congrArg (fun m_ => mset m_ 0 12 _) (congrArg (fun m_ => mset m_ 0 8 _) (congrArg (fun m_ => mc m_ 1 _) (congrArg (fun m_ => mset m_ 0 12 _) (ff_n (by decide))))))).trans ((congrArg (fun m_ => mc m_ 1 _) (congrArg (fun m_ => mset m_ 0 12 _) (congrArg (fun m_ => mset m_ 0 8 _) (congrArg (fun m_ => mc m_ 1 _) (congrArg (fun m_ => mset m_ 0 12 _) (congrArg (fun m_ => mset m_ 0 9 _) (ff_n (by decide)))))))).trans ((congrArg (fun m_ => mc m_ 1 _) (congrArg (fun m_ => mset m_ 0 12 _) (congrArg (fun m_ => mset m_ 0 8 _) (congrArg (fun m_ => mc m_ 1 _) (congrArg (fun m_ => mset m_ 0 12 _) (congrArg (fun m_ => mset m_ 0 9 _) (congrArg (fun m_ => mset m_ 0 8 _) ff_s))))))).trans ((congrArg (fun m_ => mc m_ 1 _) (congrArg (fun m_ => mset m_ 0 12 _) (wc_n (by decide)))).trans ((congrArg (fun m_ => mc m_ 1 _) (congrArg (fun m_ => mset m_ 0 12 _) (congrArg (fun m_ => mc m_ 1 _) (ff_n (by decide))))).trans ((congrArg (fun m_ => mc m_ 1 _) (congrArg (fun m_ => mset m_ 0 12 _) (congrArg (fun m_ => mc m_ 1 _) (congrArg (fun m_ => mset m_ 0 12 _) (ff_n (by decide)))))).trans ((congrArg (fun m_ => mc m_ 1 _) (congrArg (fun m_ => mset m_ 0 12 _) (congrArg (fun m_ => mc m_ 1 _) (congrArg (fun m_ => mset m_ 0 12 _) (congrArg (fun m_ => mset m_ 0 9 _) ff_s))))).trans ((congrArg (fun m_ => mc m_ 1 _) (wc_n (by decide))).trans ((congrArg (fun m_ => mc m_ 1 _) (congrArg (fun m_ => mc m_ 1 _) ff_s)).trans cc_s)))))))))))) ?_
      refine x_dc (0 ≤ tgT (μ 3) (m_passes_f6 (μ 3) (m_sign_f6 (μ 3) p l (nI 40)) l 20) l story) (fun c115 => ?_) (fun c115 => ?_)
      · have e115 := readTag_t W (μ 3) (m_passes_f6 (μ 3) (m_sign_f6 (μ 3) p l (nI 40)) l 20) l story s c115
        refine x_top (v' := b2i true) (by rw [e115.1]) ?_
        refine x_weak (Ω' := MS G adr h0 ((mc (mset (mset (mset (mset μ 0 6 (nI (tgE (μ 3) (m_passes_f6 (μ 3) (m_sign_f6 (μ 3) p l (nI 40)) l 20) l story))) 0 8 (nI (tgB (μ 3) (m_passes_f6 (μ 3) (m_sign_f6 (μ 3) p l (nI 40)) l 20) l story))) 0 9 (nI d)) 0 12 (nI (s + 1))) 1 (m_emits_c1 W s (tgT (μ 3) (m_passes_f6 (μ 3) (m_sign_f6 (μ 3) p l (nI 40)) l 20) l story) (tgV (μ 3) (m_passes_f6 (μ 3) (m_sign_f6 (μ 3) p l (nI 40)) l 20) l story))))) (fun _ m => by rw [e115.2.1, e115.2.2.1, e115.2.2.2.1, e115.2.2.2.2] at m; exact m) ?_
        have hb5 := tg_le (T := μ 3) (p := (m_passes_f6 (μ 3) (m_sign_f6 (μ 3) p l (nI 40)) l 20)) (l := l) (story := story) (by omega) c115
        refine x_ifeqB O 152 dX6_readAtom_118 (by decide) (fun c => absurd rfl c) (fun _ => ?_)
        refine x_aload_n O 0 dX6_readAtom_121 rfl rfl ?_
        refine x_mget O k_X6_13_6 (mg_1 _ _) dX6_readAtom_122 ?_
        refine x_bipush O (nI 9) dX6_readAtom_125 (by decide) ?_
        refine x_cS O 1 (c_m_textAt 9) (lw_S q1845 q1846 q111 q1847) hd_X6_textAt rfl (by rw [RF]; exact Nat.ble_eq_true_of_le (by omega)) (by rw [RL]; exact Nat.ble_eq_true_of_le (by omega)) ⟨Nat.zero_le _, Nat.zero_le _⟩ rfl rfl dX6_readAtom_127 ?_
        refine x_top (v' := nI (m_textAt 9)) rfl ?_
        refine x_bipush O (nI 31) dX6_readAtom_130 (by decide) ?_
        refine x_iaddN O dX6_readAtom_132 ?_
        refine x_iconst O (nI 2) dX6_readAtom_133 (by decide) ?_
        refine x_aload_n O 0 dX6_readAtom_134 rfl rfl ?_
        refine x_mget O k_X6_112_6 (mg_12 _ _) dX6_readAtom_135 ?_
        refine x_top (v' := nI (s + 1)) ((congrFun (mc_n (by decide)) 12).trans rd_hit) ?_
        refine x_imulN O dX6_readAtom_138 ?_
        refine x_iaddN O dX6_readAtom_139 ?_
        refine x_iconst O (nI 1) dX6_readAtom_140 (by decide) ?_
        refine x_isubN O (by unfold m_textAt; omega) dX6_readAtom_141 ?_
        refine x_ialdN O MS.c1 (by unfold m_textAt; omega) rfl dX6_readAtom_142 ?_
        refine x_top (v' := (m_emits_c1 W s (tgT (μ 3) (m_passes_f6 (μ 3) (m_sign_f6 (μ 3) p l (nI 40)) l 20) l story) (tgV (μ 3) (m_passes_f6 (μ 3) (m_sign_f6 (μ 3) p l (nI 40)) l 20) l story)) (m_textAt 9 + 31 + (2 * (s + 1)) - 1)) (congrFun mc_s (m_textAt 9 + 31 + (2 * (s + 1)) - 1)) ?_
        refine x_top (v' := tgV (μ 3) (m_passes_f6 (μ 3) (m_sign_f6 (μ 3) p l (nI 40)) l 20) l story) (emits_rd) ?_
        refine x_iflt O 150 dX6_readAtom_143 (by decide) (fun c143 => ?_) (fun c143 => ?_)
        · refine x_iconst O (nI 0) dX6_readAtom_150 (by decide) ?_
          refine x_top (v' := b2i false) (by decide) ?_
          exact x_zretQ O hQ rfl dX6_readAtom_151 (fun h m => post_no (by unfold pAtomB; simp only [if_neg c6, if_neg c62, if_pos c115, if_pos c143]) (fun j hj => by first | rfl | simp only [em_low hj, emits_low hj]) m)
        · refine x_iconst O (nI 1) dX6_readAtom_146 (by decide) ?_
          refine x_goto O 151 dX6_readAtom_147 (by decide) ?_
          refine x_top (v' := b2i true) (by decide) ?_
          exact x_zretQ O hQ rfl dX6_readAtom_151 (fun h m => post_ok (p' := tgE (μ 3) (m_passes_f6 (μ 3) (m_sign_f6 (μ 3) p l (nI 40)) l 20) l story) (b' := tgB (μ 3) (m_passes_f6 (μ 3) (m_sign_f6 (μ 3) p l (nI 40)) l 20) l story) (ls := [(tgT (μ 3) (m_passes_f6 (μ 3) (m_sign_f6 (μ 3) p l (nI 40)) l 20) l story, tgV (μ 3) (m_passes_f6 (μ 3) (m_sign_f6 (μ 3) p l (nI 40)) l 20) l story)]) (by unfold pAtomB; simp only [if_neg c6, if_neg c62, if_pos c115, if_neg c143]) (by first | exact m | (simp only [em_app, List.length_append, ← Nat.add_assoc]; exact m)))
      · have e115 := readTag_f W (μ 3) (m_passes_f6 (μ 3) (m_sign_f6 (μ 3) p l (nI 40)) l 20) l story s c115
        refine x_top (v' := b2i false) (by rw [e115.1]) ?_
        refine x_weak (Ω' := MS G adr h0 ((mc (mset (mset (mset (mset μ 0 6 (nI (m_letters_f8 (μ 3) (m_passes_f6 (μ 3) (m_sign_f6 (μ 3) p l (nI 40)) l 20) l))) 0 8 (nI (m_letters_f8 (μ 3) (m_passes_f6 (μ 3) (m_sign_f6 (μ 3) p l (nI 40)) l 20) l))) 0 9 (nI d)) 0 12 (nI s)) 1 W))) (fun _ m => by rw [e115.2.1, e115.2.2.1, e115.2.2.2.1, e115.2.2.2.2] at m; exact m) ?_
        have hb5 := let6_le (T := μ 3) (p := (m_passes_f6 (μ 3) (m_sign_f6 (μ 3) p l (nI 40)) l 20)) (l := l) (by omega)
        refine x_ifeqB O 152 dX6_readAtom_118 (by decide) (fun _ => ?_) (fun c => absurd c (by decide))
        refine x_aload_n O 0 dX6_readAtom_152 rfl rfl ?_
        rcases hr153 : pSum (μ 3) l story (m_letters_f8 (μ 3) (m_passes_f6 (μ 3) (m_sign_f6 (μ 3) p l (nI 40)) l 20) l) with ⟨p1, b1, ls1⟩ | b1
        · refine x_cV O 0 (con_ok (c_m_readSum (μ := μ) l h7 hl story h13 (m_letters_f8 (μ 3) (m_passes_f6 (μ 3) (m_sign_f6 (μ 3) p l (nI 40)) l 20) l) (m_letters_f8 (μ 3) (m_passes_f6 (μ 3) (m_sign_f6 (μ 3) p l (nI 40)) l 20) l) d s W (by omega) (by omega) (by omega)) hr153) MS.obj uc6 (lw_V q1902 q1904 qs51 q111 q1905) rfl hd_X6_readSum rfl (by rw [RF]; exact Nat.ble_eq_true_of_le (by omega)) (by rw [RL]; exact Nat.ble_eq_true_of_le (by omega)) ⟨Nat.zero_le _, Nat.zero_le _⟩ rfl rfl dX6_readAtom_153 ?_
          refine x_top (v' := b2i true) rfl ?_
          have hF1 := pSum_le (T := μ 3) (story := story) (by first | exact hp | omega) _ _ _ hr153
          refine x_ifneB O 161 dX6_readAtom_156 (by decide) (fun _ => ?_) (fun c => absurd rfl c)
          refine x_aload_n O 0 dX6_readAtom_161 rfl rfl ?_
          refine x_bipush O (nI 60) dX6_readAtom_162 (by decide) ?_
          refine x_cV O 1 (c_m_sign (μ := (mc (mset (mset (mset (mset μ 0 6 (nI p1)) 0 8 (nI b1)) 0 9 (nI d)) 0 12 (nI (s + ls1.length))) 1 (em W s ls1))) p1 ((congrFun (mc_n (by decide)) 6).trans ((rd_skip (by decide)).trans ((rd_skip (by decide)).trans ((rd_skip (by decide)).trans rd_hit)))) l ((congrFun (mc_n (by decide)) 7).trans ((rd_skip (by decide)).trans ((rd_skip (by decide)).trans ((rd_skip (by decide)).trans ((rd_skip (by decide)).trans h7))))) hl (by omega) (nI 60)) MS.obj uc6 (lw_V q1860 q1862 qs42 q111 q1863) rfl hd_X6_sign rfl (by rw [RF]; exact Nat.ble_eq_true_of_le (by omega)) (by rw [RL]; exact Nat.ble_eq_true_of_le (by omega)) ⟨Nat.zero_le _, Nat.zero_le _⟩ rfl rfl dX6_readAtom_164 ?_
          refine x_top (v' := b2i (m_sign (μ 3) p1 l (nI 60))) (by rw [show (mc (mset (mset (mset (mset μ 0 6 (nI p1)) 0 8 (nI b1)) 0 9 (nI d)) 0 12 (nI (s + ls1.length))) 1 (em W s ls1)) 3 = μ 3 from ((mc_n (by decide)).trans ((mset_n (by decide)).trans ((mset_n (by decide)).trans ((mset_n (by decide)).trans (mset_n (by decide))))))]) ?_
          refine x_weak (Ω' := MS G adr h0 (mc (mset (mset (mset (mset μ 0 6 (nI (m_sign_f6 (μ 3) p1 l (nI 60)))) 0 8 (nI (m_sign_f8 (μ 3) p1 l (nI 60)))) 0 9 (nI d)) 0 12 (nI (s + ls1.length))) 1 (em W s ls1))) (fun _ m => by rw [show (mc (mset (mset (mset (mset μ 0 6 (nI p1)) 0 8 (nI b1)) 0 9 (nI d)) 0 12 (nI (s + ls1.length))) 1 (em W s ls1)) 3 = μ 3 from ((mc_n (by decide)).trans ((mset_n (by decide)).trans ((mset_n (by decide)).trans ((mset_n (by decide)).trans (mset_n (by decide))))))] at m; exact m.eq ((congrArg (fun m_ => mset m_ 0 8 _) (wc_n (by decide))).trans ((congrArg (fun m_ => mset m_ 0 8 _) (congrArg (fun m_ => mc m_ 1 _) (ff_n (by decide)))).trans ((congrArg (fun m_ => mset m_ 0 8 _) (congrArg (fun m_ => mc m_ 1 _) (congrArg (fun m_ => mset m_ 0 12 _) (ff_n (by decide))))).trans ((congrArg (fun m_ => mset m_ 0 8 _) (congrArg (fun m_ => mc m_ 1 _) (congrArg (fun m_ => mset m_ 0 12 _) (congrArg (fun m_ => mset m_ 0 9 _) (ff_n (by decide)))))).trans ((congrArg (fun m_ => mset m_ 0 8 _) (congrArg (fun m_ => mc m_ 1 _) (congrArg (fun m_ => mset m_ 0 12 _) (congrArg (fun m_ => mset m_ 0 9 _) (congrArg (fun m_ => mset m_ 0 8 _) ff_s))))).trans ((wc_n (by decide)).trans ((congrArg (fun m_ => mc m_ 1 _) (ff_n (by decide))).trans ((congrArg (fun m_ => mc m_ 1 _) (congrArg (fun m_ => mset m_ 0 12 _) (ff_n (by decide)))).trans (congrArg (fun m_ => mc m_ 1 _) (congrArg (fun m_ => mset m_ 0 12 _) (congrArg (fun m_ => mset m_ 0 9 _) ff_s)))))))))))) ?_
          have hs164 := sign_le (T := μ 3) (p := p1) (l := l) (c := nI 60) (by omega)
          refine x_istore_n O [(1, .int (b2i (m_sign (μ 3) p1 l (nI 60)))), (0, .ref (adr 0))] dX6_readAtom_167 rfl rfl rfl ?_
          refine x_iload_n O 0 dX6_readAtom_168 rfl rfl ?_
          refine x_ifneB O 181 dX6_readAtom_169 (by decide) (fun c169 => ?_) (fun c169 => ?_)
          · have ht169 := hs164.2.2.2 c169
            refine x_aload_n O 1 dX6_readAtom_181 rfl rfl ?_
            rcases hr182 : pSum (μ 3) l story (m_sign_f6 (μ 3) p1 l (nI 60)) with ⟨p2, b2, ls2⟩ | b2
            · refine x_cV O 0 (con_ok (c_m_readSum (μ := μ) l h7 hl story h13 (m_sign_f6 (μ 3) p1 l (nI 60)) (m_sign_f8 (μ 3) p1 l (nI 60)) d (s + ls1.length) (em W s ls1) (by omega) (by omega) (by omega)) hr182) MS.obj uc6 (lw_V q1902 q1904 qs51 q111 q1905) rfl hd_X6_readSum rfl (by rw [RF]; exact Nat.ble_eq_true_of_le (by omega)) (by rw [RL]; exact Nat.ble_eq_true_of_le (by omega)) ⟨Nat.zero_le _, Nat.zero_le _⟩ rfl rfl dX6_readAtom_182 ?_
              refine x_top (v' := b2i true) rfl ?_
              have hF2 := pSum_le (T := μ 3) (story := story) (by first | exact hp | omega) _ _ _ hr182
              refine x_ifneB O 190 dX6_readAtom_185 (by decide) (fun _ => ?_) (fun c => absurd rfl c)
              refine x_aload_n O 1 dX6_readAtom_190 rfl rfl ?_
              refine x_iload_n O 0 dX6_readAtom_191 rfl rfl ?_
              refine x_ifeqB O 200 dX6_readAtom_192 (by decide) (fun c192 => ?_) (fun c192 => ?_)
              · exact absurd c169 c192
              · refine x_sub [1] (L' := [(0, .ref (adr 0))]) rfl ?_
                refine x_bipush O (nI 13) dX6_readAtom_195 (by decide) ?_
                refine x_goto O 202 dX6_readAtom_197 (by decide) ?_
                refine x_iconst O (nI 0) dX6_readAtom_202 (by decide) ?_
                refine x_cV O 2 (c_m_emits (μ := (mc (mset (mset (mset (mset μ 0 6 (nI p2)) 0 8 (nI b2)) 0 9 (nI d)) 0 12 (nI (s + ls1.length + ls2.length))) 1 (em (em W s ls1) (s + ls1.length) ls2))) (s + ls1.length + ls2.length) ((congrFun (mc_n (by decide)) 12).trans rd_hit) (by omega) (nI 13) (nI 0)) MS.obj uc6 (lw_V q1887 q1889 qs48 q111 q1890) rfl hd_X6_emits rfl (by rw [RF]; exact Nat.ble_eq_true_of_le (by omega)) (by rw [RL]; exact Nat.ble_eq_true_of_le (by omega)) ⟨Nat.zero_le _, Nat.zero_le _⟩ rfl rfl dX6_readAtom_203 ?_
                refine x_weak (Ω' := MS G adr h0 (mc (mset (mset (mset (mset μ 0 6 (nI p2)) 0 8 (nI b2)) 0 9 (nI d)) 0 12 (nI (m_emits_f12 (em (em W s ls1) (s + ls1.length) ls2) (s + ls1.length + ls2.length) (nI 13) (nI 0)))) 1 (m_emits_c1 (em (em W s ls1) (s + ls1.length) ls2) (s + ls1.length + ls2.length) (nI 13) (nI 0)))) (fun _ m => by rw [show (mc (mset (mset (mset (mset μ 0 6 (nI p2)) 0 8 (nI b2)) 0 9 (nI d)) 0 12 (nI (s + ls1.length + ls2.length))) 1 (em (em W s ls1) (s + ls1.length) ls2)) 1 = em (em W s ls1) (s + ls1.length) ls2 from mc_s] at m; exact m.eq ((congrArg (fun m_ => mc m_ 1 _) (wc_n (by decide))).trans ((congrArg (fun m_ => mc m_ 1 _) (congrArg (fun m_ => mc m_ 1 _) ff_s)).trans cc_s))) ?_
                refine x_weak (Ω' := MS G adr h0 ((mc (mset (mset (mset (mset μ 0 6 (nI p2)) 0 8 (nI b2)) 0 9 (nI d)) 0 12 (nI (s + ls1.length + ls2.length + 1))) 1 (m_emits_c1 (em (em W s ls1) (s + ls1.length) ls2) (s + ls1.length + ls2.length) (nI 13) (nI 0))))) (fun _ m => m) ?_
                refine x_iconst O (nI 1) dX6_readAtom_206 (by decide) ?_
                refine x_top (v' := b2i true) (by decide) ?_
                exact x_zretQ O hQ rfl dX6_readAtom_207 (fun h m => post_ok (p' := p2) (b' := b2) (ls := ls1 ++ ls2 ++ [(nI 13, nI 0)]) (by unfold pAtomB; simp only [if_neg c6, if_neg c62, if_neg c115, hr153, if_pos c169, hr182, if_pos c192]) (by first | exact m | (simp only [em_app, List.length_append, ← Nat.add_assoc]; exact m)))
            · refine x_cV O 0 (con_no (c_m_readSum (μ := μ) l h7 hl story h13 (m_sign_f6 (μ 3) p1 l (nI 60)) (m_sign_f8 (μ 3) p1 l (nI 60)) d (s + ls1.length) (em W s ls1) (by omega) (by omega) (by omega)) hr182) MS.obj uc6 (lw_V q1902 q1904 qs51 q111 q1905) rfl hd_X6_readSum rfl (by rw [RF]; exact Nat.ble_eq_true_of_le (by omega)) (by rw [RL]; exact Nat.ble_eq_true_of_le (by omega)) ⟨Nat.zero_le _, Nat.zero_le _⟩ rfl rfl dX6_readAtom_182 ?_
              refine x_top (v' := b2i false) rfl ?_
              refine x_ex4 (fun p2 d2 s2 W2 hW2 => ?_)
              refine x_ifneB O 190 dX6_readAtom_185 (by decide) (fun c => absurd c (by decide)) (fun _ => ?_)
              refine x_sub [1] (L' := [(0, .ref (adr 0))]) rfl ?_
              refine x_iconst O (nI 0) dX6_readAtom_188 (by decide) ?_
              refine x_top (v' := b2i false) (by decide) ?_
              exact x_zretQ O hQ rfl dX6_readAtom_189 (fun h m => post_no (by unfold pAtomB; simp only [if_neg c6, if_neg c62, if_neg c115, hr153, if_pos c169, hr182]) (fun j hj => by first | rfl | simp only [em_low hj, emits_low hj, hW2 j hj]) m)
          · refine x_aload_n O 1 dX6_readAtom_172 rfl rfl ?_
            refine x_bipush O (nI 62) dX6_readAtom_173 (by decide) ?_
            refine x_cV O 1 (c_m_sign (μ := (mc (mset (mset (mset (mset μ 0 6 (nI (m_sign_f6 (μ 3) p1 l (nI 60)))) 0 8 (nI (m_sign_f8 (μ 3) p1 l (nI 60)))) 0 9 (nI d)) 0 12 (nI (s + ls1.length))) 1 (em W s ls1))) (m_sign_f6 (μ 3) p1 l (nI 60)) ((congrFun (mc_n (by decide)) 6).trans ((rd_skip (by decide)).trans ((rd_skip (by decide)).trans ((rd_skip (by decide)).trans rd_hit)))) l ((congrFun (mc_n (by decide)) 7).trans ((rd_skip (by decide)).trans ((rd_skip (by decide)).trans ((rd_skip (by decide)).trans ((rd_skip (by decide)).trans h7))))) hl (by omega) (nI 62)) MS.obj uc6 (lw_V q1860 q1862 qs42 q111 q1863) rfl hd_X6_sign rfl (by rw [RF]; exact Nat.ble_eq_true_of_le (by omega)) (by rw [RL]; exact Nat.ble_eq_true_of_le (by omega)) ⟨Nat.zero_le _, Nat.zero_le _⟩ rfl rfl dX6_readAtom_175 ?_
            refine x_top (v' := b2i (m_sign (μ 3) (m_sign_f6 (μ 3) p1 l (nI 60)) l (nI 62))) (by rw [show (mc (mset (mset (mset (mset μ 0 6 (nI (m_sign_f6 (μ 3) p1 l (nI 60)))) 0 8 (nI (m_sign_f8 (μ 3) p1 l (nI 60)))) 0 9 (nI d)) 0 12 (nI (s + ls1.length))) 1 (em W s ls1)) 3 = μ 3 from ((mc_n (by decide)).trans ((mset_n (by decide)).trans ((mset_n (by decide)).trans ((mset_n (by decide)).trans (mset_n (by decide))))))]) ?_
            refine x_weak (Ω' := MS G adr h0 (mc (mset (mset (mset (mset μ 0 6 (nI (m_sign_f6 (μ 3) (m_sign_f6 (μ 3) p1 l (nI 60)) l (nI 62)))) 0 8 (nI (m_sign_f8 (μ 3) (m_sign_f6 (μ 3) p1 l (nI 60)) l (nI 62)))) 0 9 (nI d)) 0 12 (nI (s + ls1.length))) 1 (em W s ls1))) (fun _ m => by rw [show (mc (mset (mset (mset (mset μ 0 6 (nI (m_sign_f6 (μ 3) p1 l (nI 60)))) 0 8 (nI (m_sign_f8 (μ 3) p1 l (nI 60)))) 0 9 (nI d)) 0 12 (nI (s + ls1.length))) 1 (em W s ls1)) 3 = μ 3 from ((mc_n (by decide)).trans ((mset_n (by decide)).trans ((mset_n (by decide)).trans ((mset_n (by decide)).trans (mset_n (by decide))))))] at m; exact m.eq ((congrArg (fun m_ => mset m_ 0 8 _) (wc_n (by decide))).trans ((congrArg (fun m_ => mset m_ 0 8 _) (congrArg (fun m_ => mc m_ 1 _) (ff_n (by decide)))).trans ((congrArg (fun m_ => mset m_ 0 8 _) (congrArg (fun m_ => mc m_ 1 _) (congrArg (fun m_ => mset m_ 0 12 _) (ff_n (by decide))))).trans ((congrArg (fun m_ => mset m_ 0 8 _) (congrArg (fun m_ => mc m_ 1 _) (congrArg (fun m_ => mset m_ 0 12 _) (congrArg (fun m_ => mset m_ 0 9 _) (ff_n (by decide)))))).trans ((congrArg (fun m_ => mset m_ 0 8 _) (congrArg (fun m_ => mc m_ 1 _) (congrArg (fun m_ => mset m_ 0 12 _) (congrArg (fun m_ => mset m_ 0 9 _) (congrArg (fun m_ => mset m_ 0 8 _) ff_s))))).trans ((wc_n (by decide)).trans ((congrArg (fun m_ => mc m_ 1 _) (ff_n (by decide))).trans ((congrArg (fun m_ => mc m_ 1 _) (congrArg (fun m_ => mset m_ 0 12 _) (ff_n (by decide)))).trans (congrArg (fun m_ => mc m_ 1 _) (congrArg (fun m_ => mset m_ 0 12 _) (congrArg (fun m_ => mset m_ 0 9 _) ff_s)))))))))))) ?_
            have hs175 := sign_le (T := μ 3) (p := m_sign_f6 (μ 3) p1 l (nI 60)) (l := l) (c := nI 62) (by omega)
            refine x_ifeqB O 188 dX6_readAtom_178 (by decide) (fun c178 => ?_) (fun c178 => ?_)
            · refine x_sub [1] (L' := [(0, .ref (adr 0))]) rfl ?_
              refine x_iconst O (nI 0) dX6_readAtom_188 (by decide) ?_
              refine x_top (v' := b2i false) (by decide) ?_
              exact x_zretQ O hQ rfl dX6_readAtom_189 (fun h m => post_no (by unfold pAtomB; simp only [if_neg c6, if_neg c62, if_neg c115, hr153, if_neg c169, if_neg c178]) (fun j hj => by first | rfl | simp only [em_low hj, emits_low hj]) m)
            · have ht178 := hs175.2.2.2 c178
              refine x_aload_n O 1 dX6_readAtom_181 rfl rfl ?_
              rcases hr182 : pSum (μ 3) l story (m_sign_f6 (μ 3) (m_sign_f6 (μ 3) p1 l (nI 60)) l (nI 62)) with ⟨p3, b3, ls3⟩ | b3
              · refine x_cV O 0 (con_ok (c_m_readSum (μ := μ) l h7 hl story h13 (m_sign_f6 (μ 3) (m_sign_f6 (μ 3) p1 l (nI 60)) l (nI 62)) (m_sign_f8 (μ 3) (m_sign_f6 (μ 3) p1 l (nI 60)) l (nI 62)) d (s + ls1.length) (em W s ls1) (by omega) (by omega) (by omega)) hr182) MS.obj uc6 (lw_V q1902 q1904 qs51 q111 q1905) rfl hd_X6_readSum rfl (by rw [RF]; exact Nat.ble_eq_true_of_le (by omega)) (by rw [RL]; exact Nat.ble_eq_true_of_le (by omega)) ⟨Nat.zero_le _, Nat.zero_le _⟩ rfl rfl dX6_readAtom_182 ?_
                refine x_top (v' := b2i true) rfl ?_
                have hF3 := pSum_le (T := μ 3) (story := story) (by first | exact hp | omega) _ _ _ hr182
                refine x_ifneB O 190 dX6_readAtom_185 (by decide) (fun _ => ?_) (fun c => absurd rfl c)
                refine x_aload_n O 1 dX6_readAtom_190 rfl rfl ?_
                refine x_iload_n O 0 dX6_readAtom_191 rfl rfl ?_
                refine x_ifeqB O 200 dX6_readAtom_192 (by decide) (fun c192 => ?_) (fun c192 => ?_)
                · refine x_sub [1] (L' := [(0, .ref (adr 0))]) rfl ?_
                  refine x_bipush O (nI 14) dX6_readAtom_200 (by decide) ?_
                  refine x_iconst O (nI 0) dX6_readAtom_202 (by decide) ?_
                  refine x_cV O 2 (c_m_emits (μ := (mc (mset (mset (mset (mset μ 0 6 (nI p3)) 0 8 (nI b3)) 0 9 (nI d)) 0 12 (nI (s + ls1.length + ls3.length))) 1 (em (em W s ls1) (s + ls1.length) ls3))) (s + ls1.length + ls3.length) ((congrFun (mc_n (by decide)) 12).trans rd_hit) (by omega) (nI 14) (nI 0)) MS.obj uc6 (lw_V q1887 q1889 qs48 q111 q1890) rfl hd_X6_emits rfl (by rw [RF]; exact Nat.ble_eq_true_of_le (by omega)) (by rw [RL]; exact Nat.ble_eq_true_of_le (by omega)) ⟨Nat.zero_le _, Nat.zero_le _⟩ rfl rfl dX6_readAtom_203 ?_
                  refine x_weak (Ω' := MS G adr h0 (mc (mset (mset (mset (mset μ 0 6 (nI p3)) 0 8 (nI b3)) 0 9 (nI d)) 0 12 (nI (m_emits_f12 (em (em W s ls1) (s + ls1.length) ls3) (s + ls1.length + ls3.length) (nI 14) (nI 0)))) 1 (m_emits_c1 (em (em W s ls1) (s + ls1.length) ls3) (s + ls1.length + ls3.length) (nI 14) (nI 0)))) (fun _ m => by rw [show (mc (mset (mset (mset (mset μ 0 6 (nI p3)) 0 8 (nI b3)) 0 9 (nI d)) 0 12 (nI (s + ls1.length + ls3.length))) 1 (em (em W s ls1) (s + ls1.length) ls3)) 1 = em (em W s ls1) (s + ls1.length) ls3 from mc_s] at m; exact m.eq ((congrArg (fun m_ => mc m_ 1 _) (wc_n (by decide))).trans ((congrArg (fun m_ => mc m_ 1 _) (congrArg (fun m_ => mc m_ 1 _) ff_s)).trans cc_s))) ?_
                  refine x_weak (Ω' := MS G adr h0 ((mc (mset (mset (mset (mset μ 0 6 (nI p3)) 0 8 (nI b3)) 0 9 (nI d)) 0 12 (nI (s + ls1.length + ls3.length + 1))) 1 (m_emits_c1 (em (em W s ls1) (s + ls1.length) ls3) (s + ls1.length + ls3.length) (nI 14) (nI 0))))) (fun _ m => m) ?_
                  refine x_iconst O (nI 1) dX6_readAtom_206 (by decide) ?_
                  refine x_top (v' := b2i true) (by decide) ?_
                  exact x_zretQ O hQ rfl dX6_readAtom_207 (fun h m => post_ok (p' := p3) (b' := b3) (ls := ls1 ++ ls3 ++ [(nI 14, nI 0)]) (by unfold pAtomB; simp only [if_neg c6, if_neg c62, if_neg c115, hr153, if_neg c169, if_pos c178, hr182, if_neg c192]) (by first | exact m | (simp only [em_app, List.length_append, ← Nat.add_assoc]; exact m)))
                · exact absurd c192 c169
              · refine x_cV O 0 (con_no (c_m_readSum (μ := μ) l h7 hl story h13 (m_sign_f6 (μ 3) (m_sign_f6 (μ 3) p1 l (nI 60)) l (nI 62)) (m_sign_f8 (μ 3) (m_sign_f6 (μ 3) p1 l (nI 60)) l (nI 62)) d (s + ls1.length) (em W s ls1) (by omega) (by omega) (by omega)) hr182) MS.obj uc6 (lw_V q1902 q1904 qs51 q111 q1905) rfl hd_X6_readSum rfl (by rw [RF]; exact Nat.ble_eq_true_of_le (by omega)) (by rw [RL]; exact Nat.ble_eq_true_of_le (by omega)) ⟨Nat.zero_le _, Nat.zero_le _⟩ rfl rfl dX6_readAtom_182 ?_
                refine x_top (v' := b2i false) rfl ?_
                refine x_ex4 (fun p3 d3 s3 W3 hW3 => ?_)
                refine x_ifneB O 190 dX6_readAtom_185 (by decide) (fun c => absurd c (by decide)) (fun _ => ?_)
                refine x_sub [1] (L' := [(0, .ref (adr 0))]) rfl ?_
                refine x_iconst O (nI 0) dX6_readAtom_188 (by decide) ?_
                refine x_top (v' := b2i false) (by decide) ?_
                exact x_zretQ O hQ rfl dX6_readAtom_189 (fun h m => post_no (by unfold pAtomB; simp only [if_neg c6, if_neg c62, if_neg c115, hr153, if_neg c169, if_pos c178, hr182]) (fun j hj => by first | rfl | simp only [em_low hj, emits_low hj, hW3 j hj]) m)
        · refine x_cV O 0 (con_no (c_m_readSum (μ := μ) l h7 hl story h13 (m_letters_f8 (μ 3) (m_passes_f6 (μ 3) (m_sign_f6 (μ 3) p l (nI 40)) l 20) l) (m_letters_f8 (μ 3) (m_passes_f6 (μ 3) (m_sign_f6 (μ 3) p l (nI 40)) l 20) l) d s W (by omega) (by omega) (by omega)) hr153) MS.obj uc6 (lw_V q1902 q1904 qs51 q111 q1905) rfl hd_X6_readSum rfl (by rw [RF]; exact Nat.ble_eq_true_of_le (by omega)) (by rw [RL]; exact Nat.ble_eq_true_of_le (by omega)) ⟨Nat.zero_le _, Nat.zero_le _⟩ rfl rfl dX6_readAtom_153 ?_
          refine x_top (v' := b2i false) rfl ?_
          refine x_ex4 (fun p1 d1 s1 W1 hW1 => ?_)
          refine x_ifneB O 161 dX6_readAtom_156 (by decide) (fun c => absurd c (by decide)) (fun _ => ?_)
          refine x_iconst O (nI 0) dX6_readAtom_159 (by decide) ?_
          refine x_top (v' := b2i false) (by decide) ?_
          exact x_zretQ O hQ rfl dX6_readAtom_160 (fun h m => post_no (by unfold pAtomB; simp only [if_neg c6, if_neg c62, if_neg c115, hr153]) (fun j hj => by first | rfl | simp only [em_low hj, emits_low hj, hW1 j hj]) m)
    · have hb4 := hb2.2.2.2 c62
      refine x_aload_n O 0 dX6_readAtom_65 rfl rfl ?_
      refine x_mget O k_X6_115_6 (mg_9 _ _) dX6_readAtom_66 ?_
      refine x_top (v' := nI d) ((congrFun (mc_n (by decide)) 9).trans ((rd_skip (by decide)).trans rd_hit)) ?_
      refine x_bipush O (nI 6) dX6_readAtom_69 (by decide) ?_
      refine x_icmpneN O 76 (by omega) (by omega) dX6_readAtom_71 (by decide) (fun c71 => ?_) (fun c71 => ?_)
      · refine x_aload_n O 0 dX6_readAtom_76 rfl rfl ?_
        refine x_dup O dX6_readAtom_77 rfl ?_
        refine x_mget O k_X6_115_6 (mg_9 _ _) dX6_readAtom_78 ?_
        refine x_top (v' := nI d) ((congrFun (mc_n (by decide)) 9).trans ((rd_skip (by decide)).trans rd_hit)) ?_
        refine x_iconst O (nI 1) dX6_readAtom_81 (by decide) ?_
        refine x_iaddN O dX6_readAtom_82 ?_
        refine x_mputQ O p_X6_115_6 (mp_9 _ _ _) rfl dX6_readAtom_83 (μ' := (mc (mset (mset (mset (mset μ 0 6 (nI (m_passes_f6 (μ 3) (m_sign_f6 (μ 3) p l (nI 40)) l 20))) 0 8 (nI (m_passes_f8 (μ 3) (m_sign_f6 (μ 3) p l (nI 40)) l 20))) 0 9 (nI (d + 1))) 0 12 (nI s)) 1 W)) ((wc_n (by decide)).trans ((congrArg (fun m_ => mc m_ 1 _) (ff_n (by decide))).trans (congrArg (fun m_ => mc m_ 1 _) (congrArg (fun m_ => mset m_ 0 12 _) ff_s)))) ?_
        refine x_aload_n O 0 dX6_readAtom_86 rfl rfl ?_
        rcases hr87 : D.2 (m_passes_f6 (μ 3) (m_sign_f6 (μ 3) p l (nI 40)) l 20) with ⟨p4, b4, ls4⟩ | b4
        · refine x_cV O 0 (con_ok (hA (m_passes_f6 (μ 3) (m_sign_f6 (μ 3) p l (nI 40)) l 20) (m_passes_f8 (μ 3) (m_sign_f6 (μ 3) p l (nI 40)) l 20) s W (by omega) (by omega) (by omega)) hr87) MS.obj uc6 (lw_V q1856 q1858 qs41 q111 q1859) rfl hd_X6_readAtom rfl (by rw [RF]; exact Nat.ble_eq_true_of_le (by omega)) (by rw [RL]; exact Nat.ble_eq_true_of_le (by omega)) ⟨Nat.zero_le _, Nat.zero_le _⟩ rfl rfl dX6_readAtom_87 ?_
          refine x_top (v' := b2i true) rfl ?_
          have hF4 := hD2 _ (by omega) _ _ _ hr87
          refine x_ifneB O 95 dX6_readAtom_90 (by decide) (fun _ => ?_) (fun c => absurd rfl c)
          refine x_aload_n O 0 dX6_readAtom_95 rfl rfl ?_
          refine x_dup O dX6_readAtom_96 rfl ?_
          refine x_mget O k_X6_115_6 (mg_9 _ _) dX6_readAtom_97 ?_
          refine x_top (v' := nI (d + 1)) ((congrFun (mc_n (by decide)) 9).trans ((rd_skip (by decide)).trans rd_hit)) ?_
          refine x_iconst O (nI 1) dX6_readAtom_100 (by decide) ?_
          refine x_isub O dX6_readAtom_101 ?_
          refine x_top (v' := nI d) (by rw [pk_sub (by omega), Nat.add_sub_cancel]) ?_
          refine x_mputQ O p_X6_115_6 (mp_9 _ _ _) rfl dX6_readAtom_102 (μ' := (mc (mset (mset (mset (mset μ 0 6 (nI p4)) 0 8 (nI b4)) 0 9 (nI d)) 0 12 (nI (s + ls4.length))) 1 (em W s ls4))) ((wc_n (by decide)).trans ((congrArg (fun m_ => mc m_ 1 _) (ff_n (by decide))).trans (congrArg (fun m_ => mc m_ 1 _) (congrArg (fun m_ => mset m_ 0 12 _) ff_s)))) ?_
          refine x_aload_n O 0 dX6_readAtom_105 rfl rfl ?_
          refine x_bipush O (nI 15) dX6_readAtom_106 (by decide) ?_
          refine x_iconst O (nI 0) dX6_readAtom_108 (by decide) ?_
          refine x_cV O 2 (c_m_emits (μ := (mc (mset (mset (mset (mset μ 0 6 (nI p4)) 0 8 (nI b4)) 0 9 (nI d)) 0 12 (nI (s + ls4.length))) 1 (em W s ls4))) (s + ls4.length) ((congrFun (mc_n (by decide)) 12).trans rd_hit) (by omega) (nI 15) (nI 0)) MS.obj uc6 (lw_V q1887 q1889 qs48 q111 q1890) rfl hd_X6_emits rfl (by rw [RF]; exact Nat.ble_eq_true_of_le (by omega)) (by rw [RL]; exact Nat.ble_eq_true_of_le (by omega)) ⟨Nat.zero_le _, Nat.zero_le _⟩ rfl rfl dX6_readAtom_109 ?_
          refine x_weak (Ω' := MS G adr h0 (mc (mset (mset (mset (mset μ 0 6 (nI p4)) 0 8 (nI b4)) 0 9 (nI d)) 0 12 (nI (m_emits_f12 (em W s ls4) (s + ls4.length) (nI 15) (nI 0)))) 1 (m_emits_c1 (em W s ls4) (s + ls4.length) (nI 15) (nI 0)))) (fun _ m => by rw [show (mc (mset (mset (mset (mset μ 0 6 (nI p4)) 0 8 (nI b4)) 0 9 (nI d)) 0 12 (nI (s + ls4.length))) 1 (em W s ls4)) 1 = em W s ls4 from mc_s] at m; exact m.eq ((congrArg (fun m_ => mc m_ 1 _) (wc_n (by decide))).trans ((congrArg (fun m_ => mc m_ 1 _) (congrArg (fun m_ => mc m_ 1 _) ff_s)).trans cc_s))) ?_
          refine x_weak (Ω' := MS G adr h0 ((mc (mset (mset (mset (mset μ 0 6 (nI p4)) 0 8 (nI b4)) 0 9 (nI d)) 0 12 (nI (s + ls4.length + 1))) 1 (m_emits_c1 (em W s ls4) (s + ls4.length) (nI 15) (nI 0))))) (fun _ m => m) ?_
          refine x_iconst O (nI 1) dX6_readAtom_112 (by decide) ?_
          refine x_top (v' := b2i true) (by decide) ?_
          exact x_zretQ O hQ rfl dX6_readAtom_113 (fun h m => post_ok (p' := p4) (b' := b4) (ls := ls4 ++ [(nI 15, nI 0)]) (by unfold pAtomB; simp only [if_neg c6, if_pos c62, if_neg c71, hr87]) (by first | exact m | (simp only [em_app, List.length_append, ← Nat.add_assoc]; exact m)))
        · refine x_cV O 0 (con_no (hA (m_passes_f6 (μ 3) (m_sign_f6 (μ 3) p l (nI 40)) l 20) (m_passes_f8 (μ 3) (m_sign_f6 (μ 3) p l (nI 40)) l 20) s W (by omega) (by omega) (by omega)) hr87) MS.obj uc6 (lw_V q1856 q1858 qs41 q111 q1859) rfl hd_X6_readAtom rfl (by rw [RF]; exact Nat.ble_eq_true_of_le (by omega)) (by rw [RL]; exact Nat.ble_eq_true_of_le (by omega)) ⟨Nat.zero_le _, Nat.zero_le _⟩ rfl rfl dX6_readAtom_87 ?_
          refine x_top (v' := b2i false) rfl ?_
          refine x_ex4 (fun p4 d4 s4 W4 hW4 => ?_)
          refine x_ifneB O 95 dX6_readAtom_90 (by decide) (fun c => absurd c (by decide)) (fun _ => ?_)
          refine x_iconst O (nI 0) dX6_readAtom_93 (by decide) ?_
          refine x_top (v' := b2i false) (by decide) ?_
          exact x_zretQ O hQ rfl dX6_readAtom_94 (fun h m => post_no (by unfold pAtomB; simp only [if_neg c6, if_pos c62, if_neg c71, hr87]) (fun j hj => by first | rfl | simp only [em_low hj, emits_low hj, hW4 j hj]) m)
      · exact absurd c71 (by omega)
  · have ht6 := hs3.2.2.2 c6
    have hb3 := hb1.2.2.2 c6
    refine x_aload_n O 0 dX6_readAtom_9 rfl rfl ?_
    refine x_mget O k_X6_115_6 (mg_9 _ _) dX6_readAtom_10 ?_
    refine x_top (v' := nI d) ((congrFun (mc_n (by decide)) 9).trans ((rd_skip (by decide)).trans rd_hit)) ?_
    refine x_bipush O (nI 6) dX6_readAtom_13 (by decide) ?_
    refine x_icmpneN O 20 (by omega) (by omega) dX6_readAtom_15 (by decide) (fun c15 => ?_) (fun c15 => ?_)
    · refine x_aload_n O 0 dX6_readAtom_20 rfl rfl ?_
      refine x_dup O dX6_readAtom_21 rfl ?_
      refine x_mget O k_X6_115_6 (mg_9 _ _) dX6_readAtom_22 ?_
      refine x_top (v' := nI d) ((congrFun (mc_n (by decide)) 9).trans ((rd_skip (by decide)).trans rd_hit)) ?_
      refine x_iconst O (nI 1) dX6_readAtom_25 (by decide) ?_
      refine x_iaddN O dX6_readAtom_26 ?_
      refine x_mputQ O p_X6_115_6 (mp_9 _ _ _) rfl dX6_readAtom_27 (μ' := (mc (mset (mset (mset (mset μ 0 6 (nI (m_sign_f6 (μ 3) p l (nI 40)))) 0 8 (nI (m_sign_f8 (μ 3) p l (nI 40)))) 0 9 (nI (d + 1))) 0 12 (nI s)) 1 W)) ((wc_n (by decide)).trans ((congrArg (fun m_ => mc m_ 1 _) (ff_n (by decide))).trans (congrArg (fun m_ => mc m_ 1 _) (congrArg (fun m_ => mset m_ 0 12 _) ff_s)))) ?_
      refine x_aload_n O 0 dX6_readAtom_30 rfl rfl ?_
      rcases hr31 : D.1 (m_sign_f6 (μ 3) p l (nI 40)) with ⟨p5, b5, ls5⟩ | b5
      · refine x_cV O 0 (con_ok (hC (m_sign_f6 (μ 3) p l (nI 40)) (m_sign_f8 (μ 3) p l (nI 40)) s W (by omega) (by omega) (by omega)) hr31) MS.obj uc6 (lw_V q1848 q1850 qs39 q111 q1851) rfl hd_X6_readCond rfl (by rw [RF]; exact Nat.ble_eq_true_of_le (by omega)) (by rw [RL]; exact Nat.ble_eq_true_of_le (by omega)) ⟨Nat.zero_le _, Nat.zero_le _⟩ rfl rfl dX6_readAtom_31 ?_
        refine x_top (v' := b2i true) rfl ?_
        have hF5 := hD1 _ (by omega) _ _ _ hr31
        refine x_ifneB O 39 dX6_readAtom_34 (by decide) (fun _ => ?_) (fun c => absurd rfl c)
        refine x_aload_n O 0 dX6_readAtom_39 rfl rfl ?_
        refine x_dup O dX6_readAtom_40 rfl ?_
        refine x_mget O k_X6_115_6 (mg_9 _ _) dX6_readAtom_41 ?_
        refine x_top (v' := nI (d + 1)) ((congrFun (mc_n (by decide)) 9).trans ((rd_skip (by decide)).trans rd_hit)) ?_
        refine x_iconst O (nI 1) dX6_readAtom_44 (by decide) ?_
        refine x_isub O dX6_readAtom_45 ?_
        refine x_top (v' := nI d) (by rw [pk_sub (by omega), Nat.add_sub_cancel]) ?_
        refine x_mputQ O p_X6_115_6 (mp_9 _ _ _) rfl dX6_readAtom_46 (μ' := (mc (mset (mset (mset (mset μ 0 6 (nI p5)) 0 8 (nI b5)) 0 9 (nI d)) 0 12 (nI (s + ls5.length))) 1 (em W s ls5))) ((wc_n (by decide)).trans ((congrArg (fun m_ => mc m_ 1 _) (ff_n (by decide))).trans (congrArg (fun m_ => mc m_ 1 _) (congrArg (fun m_ => mset m_ 0 12 _) ff_s)))) ?_
        refine x_aload_n O 0 dX6_readAtom_49 rfl rfl ?_
        refine x_bipush O (nI 41) dX6_readAtom_50 (by decide) ?_
        refine x_cV O 1 (c_m_sign (μ := (mc (mset (mset (mset (mset μ 0 6 (nI p5)) 0 8 (nI b5)) 0 9 (nI d)) 0 12 (nI (s + ls5.length))) 1 (em W s ls5))) p5 ((congrFun (mc_n (by decide)) 6).trans ((rd_skip (by decide)).trans ((rd_skip (by decide)).trans ((rd_skip (by decide)).trans rd_hit)))) l ((congrFun (mc_n (by decide)) 7).trans ((rd_skip (by decide)).trans ((rd_skip (by decide)).trans ((rd_skip (by decide)).trans ((rd_skip (by decide)).trans h7))))) hl (by omega) (nI 41)) MS.obj uc6 (lw_V q1860 q1862 qs42 q111 q1863) rfl hd_X6_sign rfl (by rw [RF]; exact Nat.ble_eq_true_of_le (by omega)) (by rw [RL]; exact Nat.ble_eq_true_of_le (by omega)) ⟨Nat.zero_le _, Nat.zero_le _⟩ rfl rfl dX6_readAtom_52 ?_
        refine x_top (v' := b2i (m_sign (μ 3) p5 l (nI 41))) (by rw [show (mc (mset (mset (mset (mset μ 0 6 (nI p5)) 0 8 (nI b5)) 0 9 (nI d)) 0 12 (nI (s + ls5.length))) 1 (em W s ls5)) 3 = μ 3 from ((mc_n (by decide)).trans ((mset_n (by decide)).trans ((mset_n (by decide)).trans ((mset_n (by decide)).trans (mset_n (by decide))))))]) ?_
        refine x_weak (Ω' := MS G adr h0 (mc (mset (mset (mset (mset μ 0 6 (nI (m_sign_f6 (μ 3) p5 l (nI 41)))) 0 8 (nI (m_sign_f8 (μ 3) p5 l (nI 41)))) 0 9 (nI d)) 0 12 (nI (s + ls5.length))) 1 (em W s ls5))) (fun _ m => by rw [show (mc (mset (mset (mset (mset μ 0 6 (nI p5)) 0 8 (nI b5)) 0 9 (nI d)) 0 12 (nI (s + ls5.length))) 1 (em W s ls5)) 3 = μ 3 from ((mc_n (by decide)).trans ((mset_n (by decide)).trans ((mset_n (by decide)).trans ((mset_n (by decide)).trans (mset_n (by decide))))))] at m; exact m.eq ((congrArg (fun m_ => mset m_ 0 8 _) (wc_n (by decide))).trans ((congrArg (fun m_ => mset m_ 0 8 _) (congrArg (fun m_ => mc m_ 1 _) (ff_n (by decide)))).trans ((congrArg (fun m_ => mset m_ 0 8 _) (congrArg (fun m_ => mc m_ 1 _) (congrArg (fun m_ => mset m_ 0 12 _) (ff_n (by decide))))).trans ((congrArg (fun m_ => mset m_ 0 8 _) (congrArg (fun m_ => mc m_ 1 _) (congrArg (fun m_ => mset m_ 0 12 _) (congrArg (fun m_ => mset m_ 0 9 _) (ff_n (by decide)))))).trans ((congrArg (fun m_ => mset m_ 0 8 _) (congrArg (fun m_ => mc m_ 1 _) (congrArg (fun m_ => mset m_ 0 12 _) (congrArg (fun m_ => mset m_ 0 9 _) (congrArg (fun m_ => mset m_ 0 8 _) ff_s))))).trans ((wc_n (by decide)).trans ((congrArg (fun m_ => mc m_ 1 _) (ff_n (by decide))).trans ((congrArg (fun m_ => mc m_ 1 _) (congrArg (fun m_ => mset m_ 0 12 _) (ff_n (by decide)))).trans (congrArg (fun m_ => mc m_ 1 _) (congrArg (fun m_ => mset m_ 0 12 _) (congrArg (fun m_ => mset m_ 0 9 _) ff_s)))))))))))) ?_
        have hs52 := sign_le (T := μ 3) (p := p5) (l := l) (c := nI 41) (by omega)
        refine x_bc (m_sign (μ 3) p5 l (nI 41)) (fun cR => ?_) (fun cR => ?_)
        · refine x_top (v' := b2i true) (by rw [cR]) ?_
          exact x_zretQ O hQ rfl dX6_readAtom_55 (fun h m => post_ok (p' := m_sign_f6 (μ 3) p5 l (nI 41)) (b' := m_sign_f8 (μ 3) p5 l (nI 41)) (ls := ls5) (by unfold pAtomB; simp only [if_pos c6, if_neg c15, hr31, if_pos cR]) (by first | exact m | (simp only [em_app, List.length_append, ← Nat.add_assoc]; exact m)))
        · refine x_top (v' := b2i false) (by rw [bfalse cR]) ?_
          exact x_zretQ O hQ rfl dX6_readAtom_55 (fun h m => post_no (by unfold pAtomB; simp only [if_pos c6, if_neg c15, hr31, if_neg cR]) (fun j hj => by first | rfl | simp only [em_low hj, emits_low hj]) m)
      · refine x_cV O 0 (con_no (hC (m_sign_f6 (μ 3) p l (nI 40)) (m_sign_f8 (μ 3) p l (nI 40)) s W (by omega) (by omega) (by omega)) hr31) MS.obj uc6 (lw_V q1848 q1850 qs39 q111 q1851) rfl hd_X6_readCond rfl (by rw [RF]; exact Nat.ble_eq_true_of_le (by omega)) (by rw [RL]; exact Nat.ble_eq_true_of_le (by omega)) ⟨Nat.zero_le _, Nat.zero_le _⟩ rfl rfl dX6_readAtom_31 ?_
        refine x_top (v' := b2i false) rfl ?_
        refine x_ex4 (fun p5 d5 s5 W5 hW5 => ?_)
        refine x_ifneB O 39 dX6_readAtom_34 (by decide) (fun c => absurd c (by decide)) (fun _ => ?_)
        refine x_iconst O (nI 0) dX6_readAtom_37 (by decide) ?_
        refine x_top (v' := b2i false) (by decide) ?_
        exact x_zretQ O hQ rfl dX6_readAtom_38 (fun h m => post_no (by unfold pAtomB; simp only [if_pos c6, if_neg c15, hr31]) (fun j hj => by first | rfl | simp only [em_low hj, emits_low hj, hW5 j hj]) m)
    · exact absurd c15 (by omega)
