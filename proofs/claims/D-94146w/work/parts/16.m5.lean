theorem frb_inv {S : Type} {f : Nat → S → S ⊕ S} {e : Nat} (I : S → Prop) (hl : ∀ i s s', i < e → I s → f i s = .inl s' → I s') (hr : ∀ i s s', i < e → I s → f i s = .inr s' → I s') : ∀ c i s, i + c ≤ e → I s → I (frb f c i s)
  | 0, _, _, _, h => h
  | c + 1, i, s, hc, h => by
    cases hf : f i s with
    | inl s' => rw [frb_step hf]; exact frb_inv I hl hr c (i + 1) s' (by omega) (hl i s s' (by omega) h hf)
    | inr s' => rw [frb_stop hf]; exact hr i s s' (by omega) h hf
theorem fr_inv {S : Type} {f : Nat → S → S} {e : Nat} (I : Nat → S → Prop) (hs : ∀ i s, i < e → I i s → I (i + 1) (f i s)) : ∀ c i s, i + c ≤ e → I i s → I (i + c) (fr f c i s)
  | 0, _, _, _, h => h
  | c + 1, i, s, hc, h => by
    have := fr_inv I hs c (i + 1) (f i s) (by omega) (hs i s (by omega) h)
    rw [show i + 1 + c = i + (c + 1) by omega] at this
    exact this
theorem bit_nn {x : Int32} {g : Nat} (hg : g < 8) : nn ((x &&& nI 1) <<< (nI g &&& 31)) 255 := by
  have h := and_nn (a := 1) (by decide) x
  rw [Int32.and_comm] at h
  have h7 := pow7 hg
  obtain ⟨m, hm, e⟩ : ∃ m, m ≤ 1 ∧ x &&& nI 1 = nI m := ⟨_, h.2, h.1⟩
  have h8 : m * 2 ^ g ≤ 1 * 2 ^ g := Nat.mul_le_mul_right _ hm
  rw [e, shl_N (by omega) (by omega)]
  exact nn_nI (by omega) (by decide)
theorem mayBe_nn {W : Nat → Int32} {f : Nat} (hI : MI W) : nn (m_mayBe W f) 255 := by
  have h0 : tn (W 0) ≤ 8 := (hI 0 (by decide)).2
  refine frb_inv (e := 8) (fun s => nn s 255) (fun i s s' hi hs h => ?_) (fun i s s' hi hs h => ?_) _ _ _ (by omega) (nn_nI (by omega) (by decide))
  · unfold m_mayBe_b4 at h
    split at h
    · cases h; exact or_nn hs (bit_nn hi)
    · cases h
  · unfold m_mayBe_b4 at h
    split at h
    · cases h
    · cases h; exact hs
theorem bits_1 : ∀ n, n < 256 → j_bits (nI n) = nI 1 → ∃ g, g < 8 ∧ n = 2 ^ g := by decide +kernel
theorem ntz_1 : ∀ g, g < 8 → j_ntz (nI (2 ^ g)) = nI g := by decide +kernel
theorem sureOf_gO {W : Nat → Int32} {f : Nat} (hI : MI W) : gO (m_sureOf W f) 7 := by
  unfold m_sureOf
  obtain ⟨x, hx⟩ : ∃ x, x = (if m_isSeenCase W f = true then m_mayBe W f else nI 0) := ⟨_, rfl⟩
  have hn : nn x 255 := by
    rw [hx]; split
    · exact mayBe_nn hI
    · exact nn_nI (by omega) (by decide)
  rw [← hx]
  split
  · rename_i c
    obtain ⟨m, hm, rfl⟩ : ∃ m, m < 256 ∧ x = nI m := ⟨tn x, by have := hn.2; omega, hn.1⟩
    obtain ⟨g, hg, rfl⟩ := bits_1 m hm c
    rw [ntz_1 g hg]; exact Or.inr (nn_nI (by omega) (by decide))
  · exact Or.inl rfl
theorem about67 {what : Int32} (h : nn what 7) (h1 : nI 4 ≤ what) (h2 : ¬ what = nI 4) (h3 : ¬ what = nI 5) : what - nI 2 = nI (tn what - 2) ∧ tn what - 2 < 6 := by
  obtain ⟨e, hb⟩ := h
  obtain ⟨w, hw, rfl⟩ : ∃ w, w ≤ 7 ∧ what = nI w := ⟨tn what, hb, e⟩
  rw [tn_nI (by omega)]
  have h4 := (nI_leI (by decide) (by omega)).mp h1
  exact ⟨pk_sub (by omega), by omega⟩
theorem in_nn {v : Int32} {b : Nat} (h : m_in v (nI 0) (nI b) = true) (hb : b < 2 ^ 31) : nn v b := nn_of (in_spec.mp h).1 (in_spec.mp h).2 hb
theorem nz2 {n : Nat} (h0 : 0 < n) (hn : n ≤ 15) : ¬ nI 2 * nI n = 0 := by rw [pk_mul]; exact nI_ne0 (by omega) (by omega)

theorem len_by {least greatest : Int32} {most : Bool} (h : ¬ (if m_in least (nI 1) greatest = true then (if greatest ≤ (nI 9) then false else true) else true) = true) : ¬ (if most = true then least else greatest) = 0 := by
  by_cases c : m_in least (nI 1) greatest = true
  · obtain ⟨a, b⟩ := in_spec.mp c
    split
    · rintro rfl; exact absurd a (by decide)
    · rintro rfl; exact absurd (Int32.le_trans a b) (by decide)
  · exact absurd (if_neg c) h
theorem noRow_nn {c : Int32} (h : ¬ m_noRow c = true) : nn c 15 := by
  have h1 : m_in c (nI 0) (nI 15) = true := by
    unfold m_noRow at h
    by_cases h2 : m_in c (nI 0) (nI 15) = true
    · exact h2
    · exact absurd (by simp [h2]) h
  exact in_nn h1 (by decide)

def m_next_b26 (W : Nat → Int32)  (i5_26 : Nat) (v4_26 : Int32) (v3_26 : Int32) (a1_26 : (Nat → Int32)) : Int32 × Int32 × (Nat → Int32) :=
  ((if (((W 12) >>> ((nI i5_26) &&& 31)) &&& (nI 1)) = (nI 1) then v4_26 else (if v3_26 < 0 then (nI (m_seenMany (ups a1_26 12 ((W 12) ||| ((nI 1) <<< ((nI i5_26) &&& 31)))))) - (nI (m_seenMany W)) else (if v4_26 < ((nI (m_seenMany (ups a1_26 12 ((W 12) ||| ((nI 1) <<< ((nI i5_26) &&& 31)))))) - (nI (m_seenMany W))) then (nI (m_seenMany (ups a1_26 12 ((W 12) ||| ((nI 1) <<< ((nI i5_26) &&& 31)))))) - (nI (m_seenMany W)) else v4_26))), (if (((W 12) >>> ((nI i5_26) &&& 31)) &&& (nI 1)) = (nI 1) then v3_26 else (if v3_26 < 0 then nI i5_26 else (if v4_26 < ((nI (m_seenMany (ups a1_26 12 ((W 12) ||| ((nI 1) <<< ((nI i5_26) &&& 31)))))) - (nI (m_seenMany W))) then nI i5_26 else v3_26))), (if (((W 12) >>> ((nI i5_26) &&& 31)) &&& (nI 1)) = (nI 1) then a1_26 else ups a1_26 12 ((W 12) ||| ((nI 1) <<< ((nI i5_26) &&& 31)))))
def m_next (W : Nat → Int32)  : Int32 :=
  (fr (fun i s => m_next_b26 W i s.1 s.2.1 s.2.2) 16 0 (nI 0, (-1), W)).2.1
def m_next_f0 (W : Nat → Int32)  : Nat :=
  0
def m_next_c1 (W : Nat → Int32)  : Nat → Int32 :=
  ups ((fr (fun i s => m_next_b26 W i s.1 s.2.1 s.2.2) 16 0 (nI 0, (-1), W)).2.2) 12 (W 12)
set_option maxHeartbeats 1000000 in
set_option maxRecDepth 100000 in
theorem c_m_next {G : UG} {adr : Nat → Nat} {h0 : Hp} {μ : Mu} (hI : MI (μ 1))   : Con G yX6_next cX6_next 7 (some .int) 4 86 0 0 [.ref (adr 0)] (MS G adr h0 μ) (fun vr_ h' => vr_ = some (.int (m_next (μ 1))) ∧ MS G adr h0 (mc (mset μ 0 0 (nI (m_next_f0 (μ 1)))) 1 (m_next_c1 (μ 1))) h') nX := by
  refine con_of2 (plainFor_of_name (by decide)) rfl ?_
  intro F R Q RF RL RC RS hQ O hnh hnm
  obtain ⟨res, hres⟩ : ∃ z, z = (m_next (μ 1)) := ⟨_, rfl⟩
  rw [← hres] at hQ
  unfold m_next at hres
  obtain ⟨rs0, hrs0⟩ : ∃ z, z = m_next_f0 (μ 1) := ⟨_, rfl⟩
  rw [← hrs0] at hQ
  unfold m_next_f0 at hrs0
  obtain ⟨rs1, hrs1⟩ : ∃ z, z = m_next_c1 (μ 1) := ⟨_, rfl⟩
  rw [← hrs1] at hQ
  unfold m_next_c1 at hrs1
  refine x_eq (L' := [(0, .ref (adr 0))]) ?_ rfl rfl rfl
  refine x_aload_n O 0 dX6_next_0 rfl rfl ?_
  refine x_iconst O (nI 0) dX6_next_1 (by decide) ?_
  refine x_mputQ O p_X6_3_6 (mp_0 _ _ _) rfl dX6_next_2 (μ' := (mset μ 0 0 (nI 0))) rfl ?_
  refine x_aload_n O 0 dX6_next_5 rfl rfl ?_
  refine x_cV O 0 (c_m_seenMany (μ := (mset μ 0 0 (nI 0))) hI) MS.obj uc6 (lw_V q2089 q2091 qs80 q111 q2092) rfl hd_X6_seenMany rfl (by rw [RF]; rfl) (by rw [RL]; rfl) ⟨Nat.zero_le _, Nat.zero_le _⟩ rfl rfl dX6_next_6 ?_
  refine x_top (v' := nI (m_seenMany (μ 1))) (by rw [show (mset μ 0 0 (nI 0)) 1 = μ 1 from (mset_n (by decide))]) ?_
  refine x_istore_n O [(1, .int (nI (m_seenMany (μ 1)))), (0, .ref (adr 0))] dX6_next_9 rfl rfl rfl ?_
  refine x_aload_n O 1 dX6_next_10 rfl rfl ?_
  refine x_mget O k_X6_13_6 (mg_1 _ _) dX6_next_11 ?_
  refine x_bipush O (nI 12) dX6_next_14 (by decide) ?_
  refine x_ialdN O MS.c1 (by omega) rfl dX6_next_16 ?_
  refine x_top (v' := μ 1 12) (congrFun (mset_n (by decide)) 12) ?_
  refine x_istore_n O [(2, .int (μ 1 12)), (1, .int (nI (m_seenMany (μ 1)))), (0, .ref (adr 0))] dX6_next_17 rfl rfl rfl ?_
  refine x_iconst O ((-1)) dX6_next_18 (by decide) ?_
  refine x_istore_n O [(3, .int ((-1))), (2, .int (μ 1 12)), (1, .int (nI (m_seenMany (μ 1)))), (0, .ref (adr 0))] dX6_next_19 rfl rfl rfl ?_
  refine x_iconst O (nI 0) dX6_next_20 (by decide) ?_
  refine x_istore O [(4, .int (nI 0)), (3, .int ((-1))), (2, .int (μ 1 12)), (1, .int (nI (m_seenMany (μ 1)))), (0, .ref (adr 0))] dX6_next_21 rfl rfl ?_
  refine x_iconst O (nI 0) dX6_next_23 (by decide) ?_
  refine x_istore O [(5, .int (nI 0)), (4, .int (nI 0)), (3, .int ((-1))), (2, .int (μ 1 12)), (1, .int (nI (m_seenMany (μ 1)))), (0, .ref (adr 0))] dX6_next_24 rfl rfl ?_
  have LOOP26 : ∀ (cc_ : Nat) (i5_26 : Nat) (v4_26 : Int32) (v3_26 : Int32) (a1_26 : (Nat → Int32)), cc_ = 16 - i5_26 → i5_26 < 2147483648 → (MI a1_26) → (∀ (y0 : Int32) (y1 : Int32) (y2 : (Nat → Int32)), (y0, y1, y2) = fr (fun i s => m_next_b26 (μ 1) i s.1 s.2.1 s.2.2) cc_ i5_26 (v4_26, v3_26, a1_26) → X G F R Q 7 94 [(3, .int y1), (2, .int (μ 1 12)), (0, .ref (adr 0))] [] (MS G adr h0 ((mc (mset μ 0 0 (nI 0)) 1 y2))) 0 0) → X G F R Q 7 26 [(5, .int (nI i5_26)), (4, .int v4_26), (3, .int v3_26), (2, .int (μ 1 12)), (1, .int (nI (m_seenMany (μ 1)))), (0, .ref (adr 0))] [] (MS G adr h0 ((mc (mset μ 0 0 (nI 0)) 1 a1_26))) 0 0 := by
    intro cc_
    induction cc_ using Nat.strongRecOn with
    | ind cc_ IH_ =>
      intro i5_26 v4_26 v3_26 a1_26 hc_ hb_ hm_ K_
      refine x_iload O 0 dX6_next_26 rfl ?_
      refine x_bipush O (nI 16) dX6_next_28 (by decide) ?_
      refine x_icmpgeN O 94 (by omega) (by omega) dX6_next_30 (by decide) (fun c30 => ?_) (fun c30 => ?_)
      · refine x_sub [2, 3, 5] (L' := [(3, .int v3_26), (2, .int (μ 1 12)), (0, .ref (adr 0))]) rfl ?_
        obtain rfl : cc_ = 0 := by omega
        exact K_ _ _ _ rfl
      · refine x_iload_n O 3 dX6_next_33 rfl rfl ?_
        refine x_iload O 0 dX6_next_34 rfl ?_
        refine x_ishr O dX6_next_36 ?_
        refine x_iconst O (nI 1) dX6_next_37 (by decide) ?_
        refine x_iand O dX6_next_38 ?_
        refine x_iconst O (nI 1) dX6_next_39 (by decide) ?_
        have J4 : ∀ (y1 : Int32) (y2 : Int32) (y3 : Nat → Int32), y1 = (if (((μ 1 12) >>> ((nI i5_26) &&& 31)) &&& (nI 1)) = (nI 1) then v4_26 else (if v3_26 < 0 then (nI (m_seenMany (ups a1_26 12 ((μ 1 12) ||| ((nI 1) <<< ((nI i5_26) &&& 31)))))) - (nI (m_seenMany (μ 1))) else (if v4_26 < ((nI (m_seenMany (ups a1_26 12 ((μ 1 12) ||| ((nI 1) <<< ((nI i5_26) &&& 31)))))) - (nI (m_seenMany (μ 1)))) then (nI (m_seenMany (ups a1_26 12 ((μ 1 12) ||| ((nI 1) <<< ((nI i5_26) &&& 31)))))) - (nI (m_seenMany (μ 1))) else v4_26))) → y2 = (if (((μ 1 12) >>> ((nI i5_26) &&& 31)) &&& (nI 1)) = (nI 1) then v3_26 else (if v3_26 < 0 then nI i5_26 else (if v4_26 < ((nI (m_seenMany (ups a1_26 12 ((μ 1 12) ||| ((nI 1) <<< ((nI i5_26) &&& 31)))))) - (nI (m_seenMany (μ 1)))) then nI i5_26 else v3_26))) → y3 = (if (((μ 1 12) >>> ((nI i5_26) &&& 31)) &&& (nI 1)) = (nI 1) then a1_26 else ups a1_26 12 ((μ 1 12) ||| ((nI 1) <<< ((nI i5_26) &&& 31)))) → X G F R Q 7 88 [(4, .int y1), (3, .int y2), (5, .int (nI i5_26)), (2, .int (μ 1 12)), (1, .int (nI (m_seenMany (μ 1)))), (0, .ref (adr 0))] [] (MS G adr h0 ((mc (mset μ 0 0 (nI 0)) 1 y3))) 0 0 := by
          intro y1 y2 y3 e5 e6 e7
          subst e5; subst e6; subst e7
          refine x_iincN O 2 [(5, .int (nI (i5_26 + 1))), (4, .int ((if (((μ 1 12) >>> ((nI i5_26) &&& 31)) &&& (nI 1)) = (nI 1) then v4_26 else (if v3_26 < 0 then (nI (m_seenMany (ups a1_26 12 ((μ 1 12) ||| ((nI 1) <<< ((nI i5_26) &&& 31)))))) - (nI (m_seenMany (μ 1))) else (if v4_26 < ((nI (m_seenMany (ups a1_26 12 ((μ 1 12) ||| ((nI 1) <<< ((nI i5_26) &&& 31)))))) - (nI (m_seenMany (μ 1)))) then (nI (m_seenMany (ups a1_26 12 ((μ 1 12) ||| ((nI 1) <<< ((nI i5_26) &&& 31)))))) - (nI (m_seenMany (μ 1))) else v4_26))))), (3, .int ((if (((μ 1 12) >>> ((nI i5_26) &&& 31)) &&& (nI 1)) = (nI 1) then v3_26 else (if v3_26 < 0 then nI i5_26 else (if v4_26 < ((nI (m_seenMany (ups a1_26 12 ((μ 1 12) ||| ((nI 1) <<< ((nI i5_26) &&& 31)))))) - (nI (m_seenMany (μ 1)))) then nI i5_26 else v3_26))))), (2, .int (μ 1 12)), (1, .int (nI (m_seenMany (μ 1)))), (0, .ref (adr 0))] dX6_next_88 rfl rfl rfl ?_
          refine x_goto O 26 dX6_next_91 (by decide) ?_
          obtain ⟨c2_, rfl⟩ : ∃ z, cc_ = z + 1 := ⟨cc_ - 1, by omega⟩
          have hs_ : (fun i s => m_next_b26 (μ 1) i s.1 s.2.1 s.2.2) i5_26 (v4_26, v3_26, a1_26) = ((if (((μ 1 12) >>> ((nI i5_26) &&& 31)) &&& (nI 1)) = (nI 1) then v4_26 else (if v3_26 < 0 then (nI (m_seenMany (ups a1_26 12 ((μ 1 12) ||| ((nI 1) <<< ((nI i5_26) &&& 31)))))) - (nI (m_seenMany (μ 1))) else (if v4_26 < ((nI (m_seenMany (ups a1_26 12 ((μ 1 12) ||| ((nI 1) <<< ((nI i5_26) &&& 31)))))) - (nI (m_seenMany (μ 1)))) then (nI (m_seenMany (ups a1_26 12 ((μ 1 12) ||| ((nI 1) <<< ((nI i5_26) &&& 31)))))) - (nI (m_seenMany (μ 1))) else v4_26))), (if (((μ 1 12) >>> ((nI i5_26) &&& 31)) &&& (nI 1)) = (nI 1) then v3_26 else (if v3_26 < 0 then nI i5_26 else (if v4_26 < ((nI (m_seenMany (ups a1_26 12 ((μ 1 12) ||| ((nI 1) <<< ((nI i5_26) &&& 31)))))) - (nI (m_seenMany (μ 1)))) then nI i5_26 else v3_26))), (if (((μ 1 12) >>> ((nI i5_26) &&& 31)) &&& (nI 1)) = (nI 1) then a1_26 else ups a1_26 12 ((μ 1 12) ||| ((nI 1) <<< ((nI i5_26) &&& 31))))) := by show m_next_b26 (μ 1) i5_26 v4_26 v3_26 a1_26 = _; unfold m_next_b26; rfl
          exact IH_ c2_ (by omega) _ _ _ _ (by omega) (by omega) (by (repeat' split) <;> first | exact hm_ | exact MI_u (by decide) hm_) (fun y0 y1 y2 hy_ => K_ y0 y1 y2 (hy_.trans (fr_step hs_).symm))
        refine x_icmpne O 46 dX6_next_40 (by decide) (fun c40 => ?_) (fun c40 => ?_)
        · refine x_aload_n O 5 dX6_next_46 rfl rfl ?_
          refine x_mget O k_X6_13_6 (mg_1 _ _) dX6_next_47 ?_
          refine x_bipush O (nI 12) dX6_next_50 (by decide) ?_
          refine x_iload_n O 3 dX6_next_52 rfl rfl ?_
          refine x_iconst O (nI 1) dX6_next_53 (by decide) ?_
          refine x_iload O 0 dX6_next_54 rfl ?_
          refine x_ishl O dX6_next_56 ?_
          refine x_ior O dX6_next_57 ?_
          refine x_mastQ O 0 MS.c1 rfl rfl rfl (by omega) rfl dX6_next_58 (μ' := (mc (mset μ 0 0 (nI 0)) 1 (ups a1_26 12 ((μ 1 12) ||| ((nI 1) <<< ((nI i5_26) &&& 31)))))) wc_s ?_
          refine x_aload_n O 5 dX6_next_59 rfl rfl ?_
          refine x_cV O 0 (c_m_seenMany (μ := (mc (mset μ 0 0 (nI 0)) 1 (ups a1_26 12 ((μ 1 12) ||| ((nI 1) <<< ((nI i5_26) &&& 31)))))) (MI_u (by decide) hm_)) MS.obj uc6 (lw_V q2089 q2091 qs80 q111 q2092) rfl hd_X6_seenMany rfl (by rw [RF]; rfl) (by rw [RL]; rfl) ⟨Nat.zero_le _, Nat.zero_le _⟩ rfl rfl dX6_next_60 ?_
          refine x_top (v' := nI (m_seenMany (ups a1_26 12 ((μ 1 12) ||| ((nI 1) <<< ((nI i5_26) &&& 31)))))) (by rw [show (mc (mset μ 0 0 (nI 0)) 1 (ups a1_26 12 ((μ 1 12) ||| ((nI 1) <<< ((nI i5_26) &&& 31))))) 1 = ups a1_26 12 ((μ 1 12) ||| ((nI 1) <<< ((nI i5_26) &&& 31))) from mc_s]) ?_
          refine x_iload_n O 4 dX6_next_63 rfl rfl ?_
          refine x_isub O dX6_next_64 ?_
          refine x_istore O [(6, .int ((nI (m_seenMany (ups a1_26 12 ((μ 1 12) ||| ((nI 1) <<< ((nI i5_26) &&& 31)))))) - (nI (m_seenMany (μ 1))))), (5, .int (nI i5_26)), (4, .int v4_26), (3, .int v3_26), (2, .int (μ 1 12)), (1, .int (nI (m_seenMany (μ 1)))), (0, .ref (adr 0))] dX6_next_65 rfl rfl ?_
          refine x_iload_n O 3 dX6_next_67 rfl rfl ?_
          refine x_iflt O 81 dX6_next_68 (by decide) (fun c68 => ?_) (fun c68 => ?_)
          · refine x_sub [0, 1, 4, 5, 6] (L' := [(6, .int ((nI (m_seenMany (ups a1_26 12 ((μ 1 12) ||| ((nI 1) <<< ((nI i5_26) &&& 31)))))) - (nI (m_seenMany (μ 1))))), (5, .int (nI i5_26)), (2, .int (μ 1 12)), (1, .int (nI (m_seenMany (μ 1)))), (0, .ref (adr 0))]) rfl ?_
            refine x_iload O 1 dX6_next_81 rfl ?_
            refine x_istore_n O [(3, .int (nI i5_26)), (6, .int ((nI (m_seenMany (ups a1_26 12 ((μ 1 12) ||| ((nI 1) <<< ((nI i5_26) &&& 31)))))) - (nI (m_seenMany (μ 1))))), (5, .int (nI i5_26)), (2, .int (μ 1 12)), (1, .int (nI (m_seenMany (μ 1)))), (0, .ref (adr 0))] dX6_next_83 rfl rfl rfl ?_
            refine x_iload O 1 dX6_next_84 rfl ?_
            refine x_istore O [(4, .int ((nI (m_seenMany (ups a1_26 12 ((μ 1 12) ||| ((nI 1) <<< ((nI i5_26) &&& 31)))))) - (nI (m_seenMany (μ 1))))), (3, .int (nI i5_26)), (6, .int ((nI (m_seenMany (ups a1_26 12 ((μ 1 12) ||| ((nI 1) <<< ((nI i5_26) &&& 31)))))) - (nI (m_seenMany (μ 1))))), (5, .int (nI i5_26)), (2, .int (μ 1 12)), (1, .int (nI (m_seenMany (μ 1)))), (0, .ref (adr 0))] dX6_next_86 rfl rfl ?_
            refine x_sub [0, 1, 3, 4, 5, 6] (L' := [(4, .int ((nI (m_seenMany (ups a1_26 12 ((μ 1 12) ||| ((nI 1) <<< ((nI i5_26) &&& 31)))))) - (nI (m_seenMany (μ 1))))), (3, .int (nI i5_26)), (5, .int (nI i5_26)), (2, .int (μ 1 12)), (1, .int (nI (m_seenMany (μ 1)))), (0, .ref (adr 0))]) rfl ?_
            exact J4 ((nI (m_seenMany (ups a1_26 12 ((μ 1 12) ||| ((nI 1) <<< ((nI i5_26) &&& 31)))))) - (nI (m_seenMany (μ 1)))) (nI i5_26) (ups a1_26 12 ((μ 1 12) ||| ((nI 1) <<< ((nI i5_26) &&& 31)))) (by first | (rw [if_neg c40, if_pos c68]; done) | simp only [if_neg c40, if_pos c68]) (by first | (rw [if_neg c40, if_pos c68]; done) | simp only [if_neg c40, if_pos c68]) (by rw [if_neg c40])
          · refine x_iload O 0 dX6_next_71 rfl ?_
            refine x_iload O 2 dX6_next_73 rfl ?_
            refine x_icmpgt O 81 dX6_next_75 (by decide) (fun c75 => ?_) (fun c75 => ?_)
            · refine x_sub [0, 1, 4, 5, 6] (L' := [(6, .int ((nI (m_seenMany (ups a1_26 12 ((μ 1 12) ||| ((nI 1) <<< ((nI i5_26) &&& 31)))))) - (nI (m_seenMany (μ 1))))), (5, .int (nI i5_26)), (2, .int (μ 1 12)), (1, .int (nI (m_seenMany (μ 1)))), (0, .ref (adr 0))]) rfl ?_
              refine x_iload O 1 dX6_next_81 rfl ?_
              refine x_istore_n O [(3, .int (nI i5_26)), (6, .int ((nI (m_seenMany (ups a1_26 12 ((μ 1 12) ||| ((nI 1) <<< ((nI i5_26) &&& 31)))))) - (nI (m_seenMany (μ 1))))), (5, .int (nI i5_26)), (2, .int (μ 1 12)), (1, .int (nI (m_seenMany (μ 1)))), (0, .ref (adr 0))] dX6_next_83 rfl rfl rfl ?_
              refine x_iload O 1 dX6_next_84 rfl ?_
              refine x_istore O [(4, .int ((nI (m_seenMany (ups a1_26 12 ((μ 1 12) ||| ((nI 1) <<< ((nI i5_26) &&& 31)))))) - (nI (m_seenMany (μ 1))))), (3, .int (nI i5_26)), (6, .int ((nI (m_seenMany (ups a1_26 12 ((μ 1 12) ||| ((nI 1) <<< ((nI i5_26) &&& 31)))))) - (nI (m_seenMany (μ 1))))), (5, .int (nI i5_26)), (2, .int (μ 1 12)), (1, .int (nI (m_seenMany (μ 1)))), (0, .ref (adr 0))] dX6_next_86 rfl rfl ?_
              refine x_sub [0, 1, 3, 4, 5, 6] (L' := [(4, .int ((nI (m_seenMany (ups a1_26 12 ((μ 1 12) ||| ((nI 1) <<< ((nI i5_26) &&& 31)))))) - (nI (m_seenMany (μ 1))))), (3, .int (nI i5_26)), (5, .int (nI i5_26)), (2, .int (μ 1 12)), (1, .int (nI (m_seenMany (μ 1)))), (0, .ref (adr 0))]) rfl ?_
              exact J4 ((nI (m_seenMany (ups a1_26 12 ((μ 1 12) ||| ((nI 1) <<< ((nI i5_26) &&& 31)))))) - (nI (m_seenMany (μ 1)))) (nI i5_26) (ups a1_26 12 ((μ 1 12) ||| ((nI 1) <<< ((nI i5_26) &&& 31)))) (by first | (rw [if_neg c40, if_neg c68, if_pos c75]; done) | simp only [if_neg c40, if_neg c68, if_pos c75]) (by first | (rw [if_neg c40, if_neg c68, if_pos c75]; done) | simp only [if_neg c40, if_neg c68, if_pos c75]) (by rw [if_neg c40])
            · refine x_sub [1, 2, 3, 4, 5, 6] (L' := [(5, .int (nI i5_26)), (4, .int v4_26), (3, .int v3_26), (2, .int (μ 1 12)), (1, .int (nI (m_seenMany (μ 1)))), (0, .ref (adr 0))]) rfl ?_
              refine x_goto O 88 dX6_next_78 (by decide) ?_
              refine x_sub [1, 2, 0, 3, 4, 5] rfl ?_
              exact J4 v4_26 v3_26 (ups a1_26 12 ((μ 1 12) ||| ((nI 1) <<< ((nI i5_26) &&& 31)))) (by first | (rw [if_neg c40, if_neg c68, if_neg c75]; done) | simp only [if_neg c40, if_neg c68, if_neg c75]) (by first | (rw [if_neg c40, if_neg c68, if_neg c75]; done) | simp only [if_neg c40, if_neg c68, if_neg c75]) (by rw [if_neg c40])
        · refine x_goto O 88 dX6_next_43 (by decide) ?_
          refine x_sub [1, 2, 0, 3, 4, 5] rfl ?_
          exact J4 v4_26 v3_26 a1_26 (by rw [if_pos c40]) (by rw [if_pos c40]) (by rw [if_pos c40])
  refine x_weak (Ω' := MS G adr h0 ((mc (mset μ 0 0 (nI 0)) 1 (μ 1)))) (fun _ m => m.eq (mc_id (c := 1) (f := μ 1) (by rfl)).symm) ?_
  refine LOOP26 16 0 (nI 0) ((-1)) (μ 1) rfl (by omega) hI (fun y0 y1 y2 hy_26 => ?_)
  obtain rfl : y0 = (fr (fun i s => m_next_b26 (μ 1) i s.1 s.2.1 s.2.2) 16 0 (nI 0, (-1), μ 1)).1 := congrArg (fun z => z.1) hy_26
  obtain rfl : y1 = (fr (fun i s => m_next_b26 (μ 1) i s.1 s.2.1 s.2.2) 16 0 (nI 0, (-1), μ 1)).2.1 := congrArg (fun z => z.2.1) hy_26
  obtain rfl : y2 = (fr (fun i s => m_next_b26 (μ 1) i s.1 s.2.1 s.2.2) 16 0 (nI 0, (-1), μ 1)).2.2 := congrArg (fun z => z.2.2) hy_26
  refine x_aload_n O 2 dX6_next_94 rfl rfl ?_
  refine x_mget O k_X6_13_6 (mg_1 _ _) dX6_next_95 ?_
  refine x_bipush O (nI 12) dX6_next_98 (by decide) ?_
  refine x_iload_n O 1 dX6_next_100 rfl rfl ?_
  refine x_mastQ O 0 MS.c1 rfl rfl rfl (by omega) rfl dX6_next_101 (μ' := (mc (mset μ 0 0 (nI 0)) 1 (ups ((fr (fun i s => m_next_b26 (μ 1) i s.1 s.2.1 s.2.2) 16 0 (nI 0, (-1), μ 1)).2.2) 12 (μ 1 12)))) wc_s ?_
  refine x_iload_n O 0 dX6_next_102 rfl rfl ?_
  exact x_iretQ O hQ rfl dX6_next_103 (fun h m => ⟨by rw [hres], by rw [hrs0, hrs1]; exact m.eq rfl⟩)

def m_isSeenFrom_b9 (W : Nat → Int32) (f : Nat) (t : Nat) (i4_9 : Nat)  : (Unit) ⊕ (Bool) :=
  (if ((W (13 + 16 * (nV (f / 16) (t / 16) i4_9 (farN f t)) + nV (f % 16) (t % 16) i4_9 (farN f t))) * (nI (farN f t))) ≤ (((W (13 + f)) * (nI (farN f t - i4_9))) + ((W (13 + t)) * (nI i4_9))) then .inl () else .inr false)
def m_isSeenFrom (W : Nat → Int32) (f : Nat) (t : Nat) : Bool :=
  (match (fre (fun i s => m_isSeenFrom_b9 W f t i) (farN f t - 1) 1 ()) with | .inl y_9 => true | .inr v => v)
set_option maxHeartbeats 1000000 in
set_option maxRecDepth 100000 in
theorem c_m_isSeenFrom {G : UG} {adr : Nat → Nat} {h0 : Hp} {μ : Mu}  (f : Nat) (t : Nat) (hf : f < 256) (ht : t < 256) : Con G yX6_isSeenFrom cX6_isSeenFrom 7 (some .boolean) 2 43 0 0 [.ref (adr 0), .int (nI f), .int (nI t)] (MS G adr h0 μ) (fun vr_ h' => vr_ = some (.int (b2i (m_isSeenFrom (μ 1) f t))) ∧ MS G adr h0 μ h') nX := by
  refine con_of2 (plainFor_of_name (by decide)) rfl ?_
  intro F R Q RF RL RC RS hQ O hnh hnm
  obtain ⟨res, hres⟩ : ∃ z, z = (m_isSeenFrom (μ 1) f t) := ⟨_, rfl⟩
  rw [← hres] at hQ
  unfold m_isSeenFrom at hres
  have hn := farN_le hf ht
  refine x_eq (L' := [(0, .ref (adr 0)), (1, .int (nI f)), (2, .int (nI t))]) ?_ rfl rfl rfl
  refine x_iload_n O 1 dX6_isSeenFrom_0 rfl rfl ?_
  refine x_iload_n O 2 dX6_isSeenFrom_1 rfl rfl ?_
  refine x_cS O 2 (c_g_far (nI f) (nI t)) (lw_S q1795 q1796 q111 q1797) hd_X6_far rfl (by rw [RF]; rfl) (by rw [RL]; rfl) ⟨Nat.zero_le _, Nat.zero_le _⟩ rfl rfl dX6_isSeenFrom_2 ?_
  refine x_top (v' := g_far (nI f) (nI t)) rfl ?_
  refine x_top (v' := nI (farN f t)) (far_N hf ht) ?_
  refine x_istore_n O [(3, .int (nI (farN f t))), (0, .ref (adr 0)), (1, .int (nI f)), (2, .int (nI t))] dX6_isSeenFrom_5 rfl rfl rfl ?_
  refine x_iconst O (nI 1) dX6_isSeenFrom_6 (by decide) ?_
  refine x_istore O [(4, .int (nI 1)), (3, .int (nI (farN f t))), (0, .ref (adr 0)), (1, .int (nI f)), (2, .int (nI t))] dX6_isSeenFrom_7 rfl rfl ?_
  have LOOP9 : ∀ (cc_ : Nat) (i4_9 : Nat) , cc_ = farN f t - i4_9 → i4_9 < 2147483648 → (fre (fun i s => m_isSeenFrom_b9 (μ 1) f t i) cc_ i4_9 () = .inl () → X G F R Q 7 121 [(0, .ref (adr 0))] [] (MS G adr h0 μ) 0 0) → (∀ v_ : Bool, fre (fun i s => m_isSeenFrom_b9 (μ 1) f t i) cc_ i4_9 () = .inr v_ → res = v_) → X G F R Q 7 9 [(4, .int (nI i4_9)), (3, .int (nI (farN f t))), (0, .ref (adr 0)), (1, .int (nI f)), (2, .int (nI t))] [] (MS G adr h0 μ) 0 0 := by
    intro cc_
    induction cc_ using Nat.strongRecOn with
    | ind cc_ IH_ =>
      intro i4_9  hc_ hb_  K_ K2_
      refine x_iload O 0 dX6_isSeenFrom_9 rfl ?_
      refine x_iload_n O 1 dX6_isSeenFrom_11 rfl rfl ?_
      refine x_icmpgeN O 121 (by omega) (by omega) dX6_isSeenFrom_12 (by decide) (fun c12 => ?_) (fun c12 => ?_)
      · refine x_sub [2] (L' := [(0, .ref (adr 0))]) rfl ?_
        obtain rfl : cc_ = 0 := by omega
        exact K_ rfl
      · refine x_iload_n O 3 dX6_isSeenFrom_15 rfl rfl ?_
        refine x_bipush O (nI 16) dX6_isSeenFrom_16 (by decide) ?_
        refine x_iremN O (by omega) (by decide) (by decide) dX6_isSeenFrom_18 ?_
        refine x_iload_n O 1 dX6_isSeenFrom_19 rfl rfl ?_
        refine x_imulN O dX6_isSeenFrom_20 ?_
        refine x_iload O 0 dX6_isSeenFrom_21 rfl ?_
        refine x_iload_n O 4 dX6_isSeenFrom_23 rfl rfl ?_
        refine x_bipush O (nI 16) dX6_isSeenFrom_24 (by decide) ?_
        refine x_iremN O (by omega) (by decide) (by decide) dX6_isSeenFrom_26 ?_
        refine x_iload_n O 3 dX6_isSeenFrom_27 rfl rfl ?_
        refine x_bipush O (nI 16) dX6_isSeenFrom_28 (by decide) ?_
        refine x_iremN O (by omega) (by decide) (by decide) dX6_isSeenFrom_30 ?_
        refine x_isub O dX6_isSeenFrom_31 ?_
        refine x_imul O dX6_isSeenFrom_32 ?_
        refine x_iadd O dX6_isSeenFrom_33 ?_
        refine x_iload_n O 1 dX6_isSeenFrom_34 rfl rfl ?_
        refine x_cS O 2 (c_m_nearest ((nI ((f % 16) * farN f t)) + ((nI i4_9) * ((nI (t % 16)) - (nI (f % 16))))) (nI (farN f t)) (nz2 (by omega) (by omega))) (lw_S q1799 q1800 q111 q1801) hd_X6_nearest rfl (by rw [RF]; rfl) (by rw [RL]; rfl) ⟨Nat.zero_le _, Nat.zero_le _⟩ rfl rfl dX6_isSeenFrom_35 ?_
        refine x_top (v' := m_nearest ((nI ((f % 16) * farN f t)) + ((nI i4_9) * ((nI (t % 16)) - (nI (f % 16))))) (nI (farN f t))) rfl ?_
        refine x_top (v' := nI (nV (f % 16) (t % 16) i4_9 (farN f t))) (nV_ok (by omega) (by omega) (by omega) (by omega)) ?_
        refine x_istore O [(5, .int (nI (nV (f % 16) (t % 16) i4_9 (farN f t)))), (4, .int (nI i4_9)), (3, .int (nI (farN f t))), (0, .ref (adr 0)), (1, .int (nI f)), (2, .int (nI t))] dX6_isSeenFrom_38 rfl rfl ?_
        refine x_iload_n O 4 dX6_isSeenFrom_40 rfl rfl ?_
        refine x_bipush O (nI 16) dX6_isSeenFrom_41 (by decide) ?_
        refine x_idivN O (by omega) (by decide) (by decide) dX6_isSeenFrom_43 ?_
        refine x_iload_n O 2 dX6_isSeenFrom_44 rfl rfl ?_
        refine x_imulN O dX6_isSeenFrom_45 ?_
        refine x_iload O 1 dX6_isSeenFrom_46 rfl ?_
        refine x_iload_n O 5 dX6_isSeenFrom_48 rfl rfl ?_
        refine x_bipush O (nI 16) dX6_isSeenFrom_49 (by decide) ?_
        refine x_idivN O (by omega) (by decide) (by decide) dX6_isSeenFrom_51 ?_
        refine x_iload_n O 4 dX6_isSeenFrom_52 rfl rfl ?_
        refine x_bipush O (nI 16) dX6_isSeenFrom_53 (by decide) ?_
        refine x_idivN O (by omega) (by decide) (by decide) dX6_isSeenFrom_55 ?_
        refine x_isub O dX6_isSeenFrom_56 ?_
        refine x_imul O dX6_isSeenFrom_57 ?_
        refine x_iadd O dX6_isSeenFrom_58 ?_
        refine x_iload_n O 2 dX6_isSeenFrom_59 rfl rfl ?_
        refine x_cS O 2 (c_m_nearest ((nI ((f / 16) * farN f t)) + ((nI i4_9) * ((nI (t / 16)) - (nI (f / 16))))) (nI (farN f t)) (nz2 (by omega) (by omega))) (lw_S q1799 q1800 q111 q1801) hd_X6_nearest rfl (by rw [RF]; rfl) (by rw [RL]; rfl) ⟨Nat.zero_le _, Nat.zero_le _⟩ rfl rfl dX6_isSeenFrom_60 ?_
        refine x_top (v' := m_nearest ((nI ((f / 16) * farN f t)) + ((nI i4_9) * ((nI (t / 16)) - (nI (f / 16))))) (nI (farN f t))) rfl ?_
        refine x_top (v' := nI (nV (f / 16) (t / 16) i4_9 (farN f t))) (nV_ok (by omega) (by omega) (by omega) (by omega)) ?_
        refine x_istore O [(6, .int (nI (nV (f / 16) (t / 16) i4_9 (farN f t)))), (5, .int (nI (nV (f % 16) (t % 16) i4_9 (farN f t)))), (4, .int (nI i4_9)), (3, .int (nI (farN f t))), (0, .ref (adr 0)), (1, .int (nI f)), (2, .int (nI t))] dX6_isSeenFrom_63 rfl rfl ?_
        refine x_aload_n O 4 dX6_isSeenFrom_65 rfl rfl ?_
        refine x_mget O k_X6_13_6 (mg_1 _ _) dX6_isSeenFrom_66 ?_
        refine x_bipush O (nI 13) dX6_isSeenFrom_69 (by decide) ?_
        refine x_bipush O (nI 16) dX6_isSeenFrom_71 (by decide) ?_
        refine x_iload O 0 dX6_isSeenFrom_73 rfl ?_
        refine x_imulN O dX6_isSeenFrom_75 ?_
        refine x_iaddN O dX6_isSeenFrom_76 ?_
        refine x_iload O 1 dX6_isSeenFrom_77 rfl ?_
        refine x_iaddN O dX6_isSeenFrom_79 ?_
        refine x_ialdN O MS.c1 (by have := nV_le (a := f % 16) (b := t % 16) (k := i4_9) (n := farN f t) (by omega) (by omega) (by omega); have := nV_le (a := f / 16) (b := t / 16) (k := i4_9) (n := farN f t) (by omega) (by omega) (by omega); omega) rfl dX6_isSeenFrom_80 ?_
        refine x_top (v' := μ 1 (13 + 16 * (nV (f / 16) (t / 16) i4_9 (farN f t)) + nV (f % 16) (t % 16) i4_9 (farN f t))) rfl ?_
        refine x_iload_n O 3 dX6_isSeenFrom_81 rfl rfl ?_
        refine x_imul O dX6_isSeenFrom_82 ?_
        refine x_aload_n O 4 dX6_isSeenFrom_83 rfl rfl ?_
        refine x_mget O k_X6_13_6 (mg_1 _ _) dX6_isSeenFrom_84 ?_
        refine x_bipush O (nI 13) dX6_isSeenFrom_87 (by decide) ?_
        refine x_iload_n O 5 dX6_isSeenFrom_89 rfl rfl ?_
        refine x_iaddN O dX6_isSeenFrom_90 ?_
        refine x_ialdN O MS.c1 (by omega) rfl dX6_isSeenFrom_91 ?_
        refine x_top (v' := μ 1 (13 + f)) rfl ?_
        refine x_iload_n O 3 dX6_isSeenFrom_92 rfl rfl ?_
        refine x_iload O 2 dX6_isSeenFrom_93 rfl ?_
        refine x_isubN O (by omega) dX6_isSeenFrom_95 ?_
        refine x_imul O dX6_isSeenFrom_96 ?_
        refine x_aload_n O 4 dX6_isSeenFrom_97 rfl rfl ?_
        refine x_mget O k_X6_13_6 (mg_1 _ _) dX6_isSeenFrom_98 ?_
        refine x_bipush O (nI 13) dX6_isSeenFrom_101 (by decide) ?_
        refine x_iload_n O 6 dX6_isSeenFrom_103 rfl rfl ?_
        refine x_iaddN O dX6_isSeenFrom_104 ?_
        refine x_ialdN O MS.c1 (by omega) rfl dX6_isSeenFrom_105 ?_
        refine x_top (v' := μ 1 (13 + t)) rfl ?_
        refine x_iload O 2 dX6_isSeenFrom_106 rfl ?_
        refine x_imul O dX6_isSeenFrom_108 ?_
        refine x_iadd O dX6_isSeenFrom_109 ?_
        refine x_icmple O 115 dX6_isSeenFrom_110 (by decide) (fun c110 => ?_) (fun c110 => ?_)
        · refine x_sub [2, 3, 4, 5, 6] (L' := [(4, .int (nI i4_9)), (3, .int (nI (farN f t))), (0, .ref (adr 0)), (1, .int (nI f)), (2, .int (nI t))]) rfl ?_
          refine x_iincN O 0 [(4, .int (nI (i4_9 + 1))), (3, .int (nI (farN f t))), (0, .ref (adr 0)), (1, .int (nI f)), (2, .int (nI t))] dX6_isSeenFrom_115 rfl rfl rfl ?_
          refine x_goto O 9 dX6_isSeenFrom_118 (by decide) ?_
          obtain ⟨c2_, rfl⟩ : ∃ z, cc_ = z + 1 := ⟨cc_ - 1, by omega⟩
          have hs_ : (fun i s => m_isSeenFrom_b9 (μ 1) f t i) i4_9 () = .inl () := by show m_isSeenFrom_b9 (μ 1) f t i4_9 = _; unfold m_isSeenFrom_b9; rw [if_pos c110]
          exact IH_ c2_ (by omega) _ (by omega) (by omega) (fun hy_ => K_ ((frx_step hs_).trans hy_)) (fun v_ hv_ => K2_ v_ ((frx_step hs_).trans hv_))
        · refine x_sub [4] (L' := [(0, .ref (adr 0))]) rfl ?_
          refine x_iconst O (nI 0) dX6_isSeenFrom_113 (by decide) ?_
          refine x_top (v' := b2i false) (by decide) ?_
          obtain ⟨c2_, rfl⟩ : ∃ z, cc_ = z + 1 := ⟨cc_ - 1, by omega⟩
          have hs_ : (fun i s => m_isSeenFrom_b9 (μ 1) f t i) i4_9 () = .inr false := by show m_isSeenFrom_b9 (μ 1) f t i4_9 = _; unfold m_isSeenFrom_b9; rw [if_neg c110]
          have hk1 := K2_ _ (frx_stop hs_)
          exact x_zretQ O hQ rfl dX6_isSeenFrom_114 (fun h m => ⟨by rw [hk1], m⟩)
  refine LOOP9 (farN f t - 1) 1 rfl (by omega) (fun  hy_9 => ?_) (fun v_ hv_ => by rw [hres, hv_])
  rw [hy_9] at hres
  refine x_iconst O (nI 1) dX6_isSeenFrom_121 (by decide) ?_
  refine x_top (v' := b2i true) (by decide) ?_
  exact x_zretQ O hQ rfl dX6_isSeenFrom_122 (fun h m => ⟨by rw [hres], m⟩)

def m_sees (W : Nat → Int32) (a : Int32) (b : Int32) : Bool :=
  (if (if m_noCell a = true then true else (if m_noCell b = true then true else false)) = true then false else (if m_isSeenFrom W (tn a) (tn b) = true then true else false))
def m_sees_f0 (W : Nat → Int32) (a : Int32) (b : Int32) : Nat :=
  (if (if m_noCell a = true then true else (if m_noCell b = true then true else false)) = true then 1 else 0)
set_option maxHeartbeats 1000000 in
set_option maxRecDepth 100000 in
theorem c_m_sees {G : UG} {adr : Nat → Nat} {h0 : Hp} {μ : Mu}  (a : Int32) (b : Int32)  : Con G yX6_sees cX6_sees 3 (some .boolean) 3 69 0 0 [.ref (adr 0), .int a, .int b] (MS G adr h0 μ) (fun vr_ h' => vr_ = some (.int (b2i (m_sees (μ 1) a b))) ∧ MS G adr h0 (mset μ 0 0 (nI (m_sees_f0 (μ 1) a b))) h') nX := by
  refine con_of2 (plainFor_of_name (by decide)) rfl ?_
  intro F R Q RF RL RC RS hQ O hnh hnm
  obtain ⟨res, hres⟩ : ∃ z, z = (m_sees (μ 1) a b) := ⟨_, rfl⟩
  rw [← hres] at hQ
  unfold m_sees at hres
  obtain ⟨rs0, hrs0⟩ : ∃ z, z = m_sees_f0 (μ 1) a b := ⟨_, rfl⟩
  rw [← hrs0] at hQ
  unfold m_sees_f0 at hrs0
  refine x_eq (L' := [(0, .ref (adr 0)), (1, .int a), (2, .int b)]) ?_ rfl rfl rfl
  refine x_aload_n O 0 dX6_sees_0 rfl rfl ?_
  refine x_iconst O (nI 0) dX6_sees_1 (by decide) ?_
  refine x_mputQ O p_X6_3_6 (mp_0 _ _ _) rfl dX6_sees_2 (μ' := (mset μ 0 0 (nI 0))) rfl ?_
  refine x_aload_n O 0 dX6_sees_5 rfl rfl ?_
  refine x_iload_n O 1 dX6_sees_6 rfl rfl ?_
  refine x_cS O 1 (c_m_noCell a) (lw_S q1768 q1769 q111 q1770) hd_X6_noCell rfl (by rw [RF]; rfl) (by rw [RL]; rfl) ⟨Nat.zero_le _, Nat.zero_le _⟩ rfl rfl dX6_sees_7 ?_
  refine x_top (v' := b2i (m_noCell a)) rfl ?_
  have J3 : ∀ (y1 : Bool), y1 = (if m_noCell a = true then true else (if m_noCell b = true then true else false)) → X G F R Q 3 25 [(0, .ref (adr 0)), (1, .int a), (2, .int b)] [.int (b2i y1), .ref (adr 0)] (MS G adr h0 ((mset μ 0 0 (nI 0)))) 0 0 := by
    intro y1 e4
    subst e4
    refine x_iconst O (nI 1) dX6_sees_25 (by decide) ?_
    refine x_bc ((if m_noCell a = true then true else (if m_noCell b = true then true else false))) (fun c26 => ?_) (fun c26 => ?_)
    · have hr5 := hres.trans (if_pos c26)
      have hr6 := hrs0.trans (if_pos c26)
      refine x_eq (st' := [.int (nI 1), .int (b2i true), .ref (adr 0)]) ?_ rfl rfl (by rw [c26] <;> rfl)
      refine x_cV O 2 (c_m_throwsIf_t (μ := (mset μ 0 0 (nI 0))) 1) MS.obj uc6 (lw_V q1774 q1776 qs34 q111 q1777) rfl hd_X6_throwsIf rfl (by rw [RF]; rfl) (by rw [RL]; rfl) ⟨Nat.zero_le _, Nat.zero_le _⟩ rfl rfl dX6_sees_26 ?_
      refine x_top (v' := b2i true) rfl ?_
      refine x_weak (Ω' := MS G adr h0 (mset μ 0 0 (nI 1))) (fun _ m => m.eq ff_s) ?_
      refine x_ifneB O 45 dX6_sees_29 (by decide) (fun _ => ?_) (fun c => absurd rfl c)
      refine x_sub [0] (L' := [(0, .ref (adr 0))]) rfl ?_
      refine x_iconst O (nI 0) dX6_sees_45 (by decide) ?_
      refine x_top (v' := b2i false) (by decide) ?_
      exact x_zretQ O hQ rfl dX6_sees_46 (fun h m => ⟨by rw [hr5], by rw [hr6]; exact m.eq rfl⟩)
    · have hr7 := hres.trans (if_neg c26)
      have hr8 := hrs0.trans (if_neg c26)
      refine x_eq (st' := [.int (nI 1), .int (b2i false), .ref (adr 0)]) ?_ rfl rfl (by rw [bfalse c26] <;> rfl)
      refine x_cV O 2 (c_m_throwsIf_f (μ := (mset μ 0 0 (nI 0))) 1) MS.obj uc6 (lw_V q1774 q1776 qs34 q111 q1777) rfl hd_X6_throwsIf rfl (by rw [RF]; rfl) (by rw [RL]; rfl) ⟨Nat.zero_le _, Nat.zero_le _⟩ rfl rfl dX6_sees_26 ?_
      refine x_top (v' := b2i false) rfl ?_
      refine x_ifneB O 45 dX6_sees_29 (by decide) (fun c => absurd c (by decide)) (fun _ => ?_)
      refine x_aload_n O 0 dX6_sees_32 rfl rfl ?_
      refine x_iload_n O 1 dX6_sees_33 rfl rfl ?_
      refine x_top (v' := nI (tn a)) ((noCell_nn (porA c26)).1) ?_
      refine x_iload_n O 2 dX6_sees_34 rfl rfl ?_
      refine x_top (v' := nI (tn b)) ((noCell_nn (porB c26)).1) ?_
      refine x_cV O 2 (c_m_isSeenFrom (μ := (mset μ 0 0 (nI 0))) (tn a) (tn b) (by have := (noCell_nn (porA c26)).2; omega) (by have := (noCell_nn (porB c26)).2; omega)) MS.obj uc6 (lw_V q1791 q1793 qs35 q111 q1794) rfl hd_X6_isSeenFrom rfl (by rw [RF]; rfl) (by rw [RL]; rfl) ⟨Nat.zero_le _, Nat.zero_le _⟩ rfl rfl dX6_sees_35 ?_
      refine x_top (v' := b2i (m_isSeenFrom (μ 1) (tn a) (tn b))) (by rw [show (mset μ 0 0 (nI 0)) 1 = μ 1 from (mset_n (by decide))]) ?_
      have J9 : ∀ (y2 : Bool), y2 = (if m_isSeenFrom (μ 1) (tn a) (tn b) = true then true else false) → X G F R Q 3 46 [(0, .ref (adr 0))] [.int (b2i y2)] (MS G adr h0 ((mset μ 0 0 (nI 0)))) 0 0 := by
        intro y2 e10
        subst e10
        exact x_zretQ O hQ rfl dX6_sees_46 (fun h m => ⟨by rw [hr7], by rw [hr8]; exact m.eq rfl⟩)
      refine x_ifeqB O 45 dX6_sees_38 (by decide) (fun c38 => ?_) (fun c38 => ?_)
      · refine x_sub [0] (L' := [(0, .ref (adr 0))]) rfl ?_
        refine x_iconst O (nI 0) dX6_sees_45 (by decide) ?_
        refine x_top (v' := b2i false) (by decide) ?_
        exact J9 false (by rw [if_neg c38])
      · refine x_sub [0] (L' := [(0, .ref (adr 0))]) rfl ?_
        refine x_iconst O (nI 1) dX6_sees_41 (by decide) ?_
        refine x_goto O 46 dX6_sees_42 (by decide) ?_
        refine x_top (v' := b2i true) (by decide) ?_
        exact J9 true (by rw [if_pos c38])
  refine x_ifneB O 20 dX6_sees_10 (by decide) (fun c10 => ?_) (fun c10 => ?_)
  · refine x_iconst O (nI 1) dX6_sees_20 (by decide) ?_
    refine x_goto O 25 dX6_sees_21 (by decide) ?_
    refine x_top (v' := b2i true) (by decide) ?_
    exact J3 true (by rw [if_pos c10])
  · refine x_iload_n O 2 dX6_sees_13 rfl rfl ?_
    refine x_cS O 1 (c_m_noCell b) (lw_S q1768 q1769 q111 q1770) hd_X6_noCell rfl (by rw [RF]; rfl) (by rw [RL]; rfl) ⟨Nat.zero_le _, Nat.zero_le _⟩ rfl rfl dX6_sees_14 ?_
    refine x_top (v' := b2i (m_noCell b)) rfl ?_
    refine x_ifeqB O 24 dX6_sees_17 (by decide) (fun c17 => ?_) (fun c17 => ?_)
    · refine x_iconst O (nI 0) dX6_sees_24 (by decide) ?_
      refine x_top (v' := b2i false) (by decide) ?_
      exact J3 false (by first | (rw [if_neg c10, if_neg c17]; done) | simp only [if_neg c10, if_neg c17])
    · refine x_iconst O (nI 1) dX6_sees_20 (by decide) ?_
      refine x_goto O 25 dX6_sees_21 (by decide) ?_
      refine x_top (v' := b2i true) (by decide) ?_
      exact J3 true (by first | (rw [if_neg c10, if_pos c17]; done) | simp only [if_neg c10, if_pos c17])

def m_neededIn_b43 (W : Nat → Int32) (a : Int32) (b : Int32) (i4_5 : Nat) (i6_43 : Nat) (v5_43 : Bool) : (Bool) ⊕ (Bool) :=
  (if v5_43 = true then .inl (if ((if m_isSeenCase W i6_43 = true then (if m_isIn (m_ofFind W i6_43 1) a b = true then m_mayBe W i6_43 else nI 0) else nI 0)) = 0 then true else (if (((if m_isSeenCase W i6_43 = true then (if m_isIn (m_ofFind W i6_43 1) a b = true then m_mayBe W i6_43 else nI 0) else nI 0)) &&& (nI i4_5)) = 0 then false else true)) else .inr v5_43)
def m_neededIn_b5 (W : Nat → Int32) (a : Int32) (b : Int32) (i4_5 : Nat) (v3_5 : Int32) : Int32 :=
  (if v3_5 < 0 then (if (frb (fun i s => m_neededIn_b43 W a b i4_5 i s) (tn (W 3)) 0 true) = true then nI i4_5 else v3_5) else (if (j_bits (nI i4_5)) < (j_bits v3_5) then (if (frb (fun i s => m_neededIn_b43 W a b i4_5 i s) (tn (W 3)) 0 true) = true then nI i4_5 else v3_5) else v3_5))
def m_neededIn (W : Nat → Int32) (a : Int32) (b : Int32) : Int32 :=
  (fr (fun i s => m_neededIn_b5 W a b i s) (2 ^ tn (W 0)) 0 (-1))
set_option maxHeartbeats 1000000 in
set_option maxRecDepth 100000 in
theorem c_m_neededIn {G : UG} {adr : Nat → Nat} {h0 : Hp} {μ : Mu} (hI : MI (μ 1)) (a : Int32) (b : Int32)  : Con G yX6_neededIn cX6_neededIn 8 (some .int) 4 85 0 0 [.ref (adr 0), .int a, .int b] (MS G adr h0 μ) (fun vr_ h' => vr_ = some (.int (m_neededIn (μ 1) a b)) ∧ MS G adr h0 μ h') nX := by
  refine con_of2 (plainFor_of_name (by decide)) rfl ?_
  intro F R Q RF RL RC RS hQ O hnh hnm
  obtain ⟨res, hres⟩ : ∃ z, z = (m_neededIn (μ 1) a b) := ⟨_, rfl⟩
  rw [← hres] at hQ
  unfold m_neededIn at hres
  have hb0 : tn (μ 1 0) ≤ 8 := (hI 0 (by decide)).2
  have hb3 : tn (μ 1 3) ≤ 120 := (hI 3 (by decide)).2
  have hp0 := pow8 hb0
  refine x_eq (L' := [(0, .ref (adr 0)), (1, .int a), (2, .int b)]) ?_ rfl rfl rfl
  refine x_iconst O ((-1)) dX6_neededIn_0 (by decide) ?_
  refine x_istore_n O [(3, .int ((-1))), (0, .ref (adr 0)), (1, .int a), (2, .int b)] dX6_neededIn_1 rfl rfl rfl ?_
  refine x_iconst O (nI 0) dX6_neededIn_2 (by decide) ?_
  refine x_istore O [(4, .int (nI 0)), (3, .int ((-1))), (0, .ref (adr 0)), (1, .int a), (2, .int b)] dX6_neededIn_3 rfl rfl ?_
  have LOOP5 : ∀ (cc_ : Nat) (i4_5 : Nat) (v3_5 : Int32), cc_ = 2 ^ tn (μ 1 0) - i4_5 → i4_5 < 2147483648 → (∀ (y0 : Int32), y0 = fr (fun i s => m_neededIn_b5 (μ 1) a b i s) cc_ i4_5 v3_5 → X G F R Q 8 133 [(3, .int y0), (0, .ref (adr 0))] [] (MS G adr h0 μ) 0 0) → X G F R Q 8 5 [(4, .int (nI i4_5)), (3, .int v3_5), (0, .ref (adr 0)), (1, .int a), (2, .int b)] [] (MS G adr h0 μ) 0 0 := by
    intro cc_
    induction cc_ using Nat.strongRecOn with
    | ind cc_ IH_ =>
      intro i4_5 v3_5 hc_ hb_  K_
      refine x_iload O 0 dX6_neededIn_5 rfl ?_
      refine x_iconst O (nI 1) dX6_neededIn_7 (by decide) ?_
      refine x_aload_n O 2 dX6_neededIn_8 rfl rfl ?_
      refine x_mget O k_X6_13_6 (mg_1 _ _) dX6_neededIn_9 ?_
      refine x_iconst O (nI 0) dX6_neededIn_12 (by decide) ?_
      refine x_ialdN O MS.c1 (by omega) rfl dX6_neededIn_13 ?_
      refine x_top (v' := μ 1 0) rfl ?_
      refine x_top (v' := nI (tn (μ 1 0))) ((hI 0 (by decide)).1) ?_
      refine x_ishl O dX6_neededIn_14 ?_
      refine x_top (v' := nI (2 ^ tn (μ 1 0))) (shl1 hb0) ?_
      refine x_icmpgeN O 133 (by omega) (by omega) dX6_neededIn_15 (by decide) (fun c15 => ?_) (fun c15 => ?_)
      · refine x_sub [1, 2] (L' := [(3, .int v3_5), (0, .ref (adr 0))]) rfl ?_
        obtain rfl : cc_ = 0 := by omega
        exact K_ _ rfl
      · refine x_iload_n O 1 dX6_neededIn_18 rfl rfl ?_
        refine x_iflt O 37 dX6_neededIn_19 (by decide) (fun c19 => ?_) (fun c19 => ?_)
        · refine x_iconst O (nI 1) dX6_neededIn_37 (by decide) ?_
          refine x_top (v' := b2i true) (by decide) ?_
          refine x_istore O [(5, .int (b2i true)), (4, .int (nI i4_5)), (3, .int v3_5), (0, .ref (adr 0)), (1, .int a), (2, .int b)] dX6_neededIn_38 rfl rfl ?_
          refine x_iconst O (nI 0) dX6_neededIn_40 (by decide) ?_
          refine x_istore O [(6, .int (nI 0)), (5, .int (b2i true)), (4, .int (nI i4_5)), (3, .int v3_5), (0, .ref (adr 0)), (1, .int a), (2, .int b)] dX6_neededIn_41 rfl rfl ?_
          have LOOP43 : ∀ (cc_ : Nat) (i6_43 : Nat) (v5_43 : Bool), cc_ = tn (μ 1 3) - i6_43 → i6_43 < 2147483648 → (∀ (y0 : Bool), y0 = frb (fun i s => m_neededIn_b43 (μ 1) a b i4_5 i s) cc_ i6_43 v5_43 → X G F R Q 8 119 [(5, .int (b2i y0)), (4, .int (nI i4_5)), (3, .int v3_5), (0, .ref (adr 0)), (1, .int a), (2, .int b)] [] (MS G adr h0 μ) 0 0) → X G F R Q 8 43 [(6, .int (nI i6_43)), (5, .int (b2i v5_43)), (4, .int (nI i4_5)), (3, .int v3_5), (0, .ref (adr 0)), (1, .int a), (2, .int b)] [] (MS G adr h0 μ) 0 0 := by
            intro cc_
            induction cc_ using Nat.strongRecOn with
            | ind cc_ IH_ =>
              intro i6_43 v5_43 hc_ hb_  K_
              refine x_iload O 0 dX6_neededIn_43 rfl ?_
              refine x_aload_n O 4 dX6_neededIn_45 rfl rfl ?_
              refine x_cV O 0 (c_m_finds (μ := μ)) MS.obj uc6 (lw_V q2042 q2044 qs74 q111 q2045) rfl hd_X6_finds rfl (by rw [RF]; rfl) (by rw [RL]; rfl) ⟨Nat.zero_le _, Nat.zero_le _⟩ rfl rfl dX6_neededIn_46 ?_
              refine x_top (v' := μ 1 3) (m_finds_u _) ?_
              refine x_top (v' := nI (tn (μ 1 3))) ((hI 3 (by decide)).1) ?_
              refine x_icmpgeN O 119 (by omega) (by omega) dX6_neededIn_49 (by decide) (fun c49 => ?_) (fun c49 => ?_)
              · refine x_sub [1, 2, 3, 4, 5, 6] (L' := [(5, .int (b2i v5_43)), (4, .int (nI i4_5)), (3, .int v3_5), (0, .ref (adr 0)), (1, .int a), (2, .int b)]) rfl ?_
                obtain rfl : cc_ = 0 := by omega
                exact K_ _ rfl
              · refine x_iload O 1 dX6_neededIn_52 rfl ?_
                refine x_ifeqB O 119 dX6_neededIn_54 (by decide) (fun c54 => ?_) (fun c54 => ?_)
                · refine x_sub [1, 2, 3, 4, 5, 6] (L' := [(5, .int (b2i v5_43)), (4, .int (nI i4_5)), (3, .int v3_5), (0, .ref (adr 0)), (1, .int a), (2, .int b)]) rfl ?_
                  obtain ⟨c2_, rfl⟩ : ∃ z, cc_ = z + 1 := ⟨cc_ - 1, by omega⟩
                  have hs_ : (fun i s => m_neededIn_b43 (μ 1) a b i4_5 i s) i6_43 v5_43 = .inr v5_43 := by show m_neededIn_b43 (μ 1) a b i4_5 i6_43 v5_43 = _; unfold m_neededIn_b43; rw [if_neg c54]
                  exact K_ _ (frb_stop hs_).symm
                · refine x_sub [0, 2, 3, 4, 5, 6] (L' := [(6, .int (nI i6_43)), (4, .int (nI i4_5)), (3, .int v3_5), (0, .ref (adr 0)), (1, .int a), (2, .int b)]) rfl ?_
                  refine x_aload_n O 3 dX6_neededIn_57 rfl rfl ?_
                  refine x_iload O 0 dX6_neededIn_58 rfl ?_
                  refine x_cV O 1 (c_m_isSeenCase (μ := μ) i6_43 (by omega)) MS.obj uc6 (lw_V q2106 q2108 qs82 q111 q2109) rfl hd_X6_isSeenCase rfl (by rw [RF]; rfl) (by rw [RL]; rfl) ⟨Nat.zero_le _, Nat.zero_le _⟩ rfl rfl dX6_neededIn_60 ?_
                  refine x_top (v' := b2i (m_isSeenCase (μ 1) i6_43)) rfl ?_
                  have J7 : ∀ (y1 : Int32), y1 = (if m_isSeenCase (μ 1) i6_43 = true then (if m_isIn (m_ofFind (μ 1) i6_43 1) a b = true then m_mayBe (μ 1) i6_43 else nI 0) else nI 0) → X G F R Q 8 91 [(6, .int (nI i6_43)), (4, .int (nI i4_5)), (3, .int v3_5), (0, .ref (adr 0)), (1, .int a), (2, .int b)] [.int y1] (MS G adr h0 μ) 0 0 := by
                    intro y1 e8
                    subst e8
                    refine x_istore O [(7, .int ((if m_isSeenCase (μ 1) i6_43 = true then (if m_isIn (m_ofFind (μ 1) i6_43 1) a b = true then m_mayBe (μ 1) i6_43 else nI 0) else nI 0))), (6, .int (nI i6_43)), (4, .int (nI i4_5)), (3, .int v3_5), (0, .ref (adr 0)), (1, .int a), (2, .int b)] dX6_neededIn_91 rfl rfl ?_
                    refine x_iload O 0 dX6_neededIn_93 rfl ?_
                    have J9 : ∀ (y2 : Bool), y2 = (if ((if m_isSeenCase (μ 1) i6_43 = true then (if m_isIn (m_ofFind (μ 1) i6_43 1) a b = true then m_mayBe (μ 1) i6_43 else nI 0) else nI 0)) = 0 then true else (if (((if m_isSeenCase (μ 1) i6_43 = true then (if m_isIn (m_ofFind (μ 1) i6_43 1) a b = true then m_mayBe (μ 1) i6_43 else nI 0) else nI 0)) &&& (nI i4_5)) = 0 then false else true)) → X G F R Q 8 111 [(6, .int (nI i6_43)), (4, .int (nI i4_5)), (3, .int v3_5), (0, .ref (adr 0)), (1, .int a), (2, .int b)] [.int (b2i y2)] (MS G adr h0 μ) 0 0 := by
                      intro y2 e10
                      subst e10
                      refine x_istore O [(5, .int (b2i ((if ((if m_isSeenCase (μ 1) i6_43 = true then (if m_isIn (m_ofFind (μ 1) i6_43 1) a b = true then m_mayBe (μ 1) i6_43 else nI 0) else nI 0)) = 0 then true else (if (((if m_isSeenCase (μ 1) i6_43 = true then (if m_isIn (m_ofFind (μ 1) i6_43 1) a b = true then m_mayBe (μ 1) i6_43 else nI 0) else nI 0)) &&& (nI i4_5)) = 0 then false else true))))), (6, .int (nI i6_43)), (4, .int (nI i4_5)), (3, .int v3_5), (0, .ref (adr 0)), (1, .int a), (2, .int b)] dX6_neededIn_111 rfl rfl ?_
                      refine x_iincN O 1 [(6, .int (nI (i6_43 + 1))), (5, .int (b2i ((if ((if m_isSeenCase (μ 1) i6_43 = true then (if m_isIn (m_ofFind (μ 1) i6_43 1) a b = true then m_mayBe (μ 1) i6_43 else nI 0) else nI 0)) = 0 then true else (if (((if m_isSeenCase (μ 1) i6_43 = true then (if m_isIn (m_ofFind (μ 1) i6_43 1) a b = true then m_mayBe (μ 1) i6_43 else nI 0) else nI 0)) &&& (nI i4_5)) = 0 then false else true))))), (4, .int (nI i4_5)), (3, .int v3_5), (0, .ref (adr 0)), (1, .int a), (2, .int b)] dX6_neededIn_113 rfl rfl rfl ?_
                      refine x_goto O 43 dX6_neededIn_116 (by decide) ?_
                      obtain ⟨c2_, rfl⟩ : ∃ z, cc_ = z + 1 := ⟨cc_ - 1, by omega⟩
                      have hs_ : (fun i s => m_neededIn_b43 (μ 1) a b i4_5 i s) i6_43 v5_43 = .inl (if ((if m_isSeenCase (μ 1) i6_43 = true then (if m_isIn (m_ofFind (μ 1) i6_43 1) a b = true then m_mayBe (μ 1) i6_43 else nI 0) else nI 0)) = 0 then true else (if (((if m_isSeenCase (μ 1) i6_43 = true then (if m_isIn (m_ofFind (μ 1) i6_43 1) a b = true then m_mayBe (μ 1) i6_43 else nI 0) else nI 0)) &&& (nI i4_5)) = 0 then false else true)) := by show m_neededIn_b43 (μ 1) a b i4_5 i6_43 v5_43 = _; unfold m_neededIn_b43; rw [if_pos c54]
                      exact IH_ c2_ (by omega) _ _ (by omega) (by omega) (fun y0 hy_ => K_ y0 (hy_.trans (frb_step hs_).symm))
                    refine x_ifeq O 106 dX6_neededIn_95 (by decide) (fun c95 => ?_) (fun c95 => ?_)
                    · refine x_sub [1, 2, 3, 4, 5, 6] (L' := [(6, .int (nI i6_43)), (4, .int (nI i4_5)), (3, .int v3_5), (0, .ref (adr 0)), (1, .int a), (2, .int b)]) rfl ?_
                      refine x_iconst O (nI 1) dX6_neededIn_106 (by decide) ?_
                      refine x_goto O 111 dX6_neededIn_107 (by decide) ?_
                      refine x_top (v' := b2i true) (by decide) ?_
                      exact J9 true (by rw [if_pos c95])
                    · refine x_iload O 0 dX6_neededIn_98 rfl ?_
                      refine x_iload O 2 dX6_neededIn_100 rfl ?_
                      refine x_iand O dX6_neededIn_102 ?_
                      refine x_ifeq O 110 dX6_neededIn_103 (by decide) (fun c103 => ?_) (fun c103 => ?_)
                      · refine x_sub [1, 2, 3, 4, 5, 6] (L' := [(6, .int (nI i6_43)), (4, .int (nI i4_5)), (3, .int v3_5), (0, .ref (adr 0)), (1, .int a), (2, .int b)]) rfl ?_
                        refine x_iconst O (nI 0) dX6_neededIn_110 (by decide) ?_
                        refine x_top (v' := b2i false) (by decide) ?_
                        exact J9 false (by first | (rw [if_neg c95, if_pos c103]; done) | simp only [if_neg c95, if_pos c103])
                      · refine x_sub [1, 2, 3, 4, 5, 6] (L' := [(6, .int (nI i6_43)), (4, .int (nI i4_5)), (3, .int v3_5), (0, .ref (adr 0)), (1, .int a), (2, .int b)]) rfl ?_
                        refine x_iconst O (nI 1) dX6_neededIn_106 (by decide) ?_
                        refine x_goto O 111 dX6_neededIn_107 (by decide) ?_
                        refine x_top (v' := b2i true) (by decide) ?_
                        exact J9 true (by first | (rw [if_neg c95, if_neg c103]; done) | simp only [if_neg c95, if_neg c103])
                  refine x_ifeqB O 90 dX6_neededIn_63 (by decide) (fun c63 => ?_) (fun c63 => ?_)
                  · refine x_iconst O (nI 0) dX6_neededIn_90 (by decide) ?_
                    exact J7 (nI 0) (by rw [if_neg c63])
                  · refine x_aload_n O 3 dX6_neededIn_66 rfl rfl ?_
                    refine x_iload O 0 dX6_neededIn_67 rfl ?_
                    refine x_iconst O (nI 1) dX6_neededIn_69 (by decide) ?_
                    refine x_cV O 2 (c_m_ofFind (μ := μ) i6_43 1 (by omega) (by omega)) MS.obj uc6 (lw_V q2054 q2056 qs75 q111 q2057) rfl hd_X6_ofFind rfl (by rw [RF]; rfl) (by rw [RL]; rfl) ⟨Nat.zero_le _, Nat.zero_le _⟩ rfl rfl dX6_neededIn_70 ?_
                    refine x_top (v' := m_ofFind (μ 1) i6_43 1) rfl ?_
                    refine x_iload_n O 4 dX6_neededIn_73 rfl rfl ?_
                    refine x_iload_n O 5 dX6_neededIn_74 rfl rfl ?_
                    refine x_cS O 3 (c_m_isIn (m_ofFind (μ 1) i6_43 1) a b) (lw_S q1778 q1779 q111 q1780) hd_X6_isInArea rfl (by rw [RF]; rfl) (by rw [RL]; rfl) ⟨Nat.zero_le _, Nat.zero_le _⟩ rfl rfl dX6_neededIn_75 ?_
                    refine x_top (v' := b2i (m_isIn (m_ofFind (μ 1) i6_43 1) a b)) rfl ?_
                    refine x_ifeqB O 90 dX6_neededIn_78 (by decide) (fun c78 => ?_) (fun c78 => ?_)
                    · refine x_iconst O (nI 0) dX6_neededIn_90 (by decide) ?_
                      exact J7 (nI 0) (by first | (rw [if_pos c63, if_neg c78]; done) | simp only [if_pos c63, if_neg c78])
                    · refine x_aload_n O 3 dX6_neededIn_81 rfl rfl ?_
                      refine x_iload O 0 dX6_neededIn_82 rfl ?_
                      refine x_cV O 1 (c_m_mayBe (μ := μ) hI i6_43 (by omega)) MS.obj uc6 (lw_V q2066 q2068 qs78 q111 q2069) rfl hd_X6_mayBe rfl (by rw [RF]; rfl) (by rw [RL]; rfl) ⟨Nat.zero_le _, Nat.zero_le _⟩ rfl rfl dX6_neededIn_84 ?_
                      refine x_top (v' := m_mayBe (μ 1) i6_43) rfl ?_
                      refine x_goto O 91 dX6_neededIn_87 (by decide) ?_
                      exact J7 (m_mayBe (μ 1) i6_43) (by first | (rw [if_pos c63, if_pos c78]; done) | simp only [if_pos c63, if_pos c78])
          refine LOOP43 (tn (μ 1 3)) 0 true rfl (by omega) (fun y0 hy_43 => ?_)
          subst hy_43
          refine x_iload O 0 dX6_neededIn_119 rfl ?_
          have J11 : ∀ (y3 : Int32), y3 = (if (frb (fun i s => m_neededIn_b43 (μ 1) a b i4_5 i s) (tn (μ 1 3)) 0 true) = true then nI i4_5 else v3_5) → X G F R Q 8 127 [(4, .int (nI i4_5)), (3, .int y3), (0, .ref (adr 0)), (1, .int a), (2, .int b)] [] (MS G adr h0 μ) 0 0 := by
            intro y3 e12
            subst e12
            refine x_iincN O 0 [(4, .int (nI (i4_5 + 1))), (3, .int ((if (frb (fun i s => m_neededIn_b43 (μ 1) a b i4_5 i s) (tn (μ 1 3)) 0 true) = true then nI i4_5 else v3_5))), (0, .ref (adr 0)), (1, .int a), (2, .int b)] dX6_neededIn_127 rfl rfl rfl ?_
            refine x_goto O 5 dX6_neededIn_130 (by decide) ?_
            obtain ⟨c2_, rfl⟩ : ∃ z, cc_ = z + 1 := ⟨cc_ - 1, by omega⟩
            have hs_ : (fun i s => m_neededIn_b5 (μ 1) a b i s) i4_5 v3_5 = (if (frb (fun i s => m_neededIn_b43 (μ 1) a b i4_5 i s) (tn (μ 1 3)) 0 true) = true then nI i4_5 else v3_5) := by show m_neededIn_b5 (μ 1) a b i4_5 v3_5 = _; unfold m_neededIn_b5; rw [if_pos c19]
            exact IH_ c2_ (by omega) _ _ (by omega) (by omega) (fun y0 hy_ => K_ y0 (hy_.trans (fr_step hs_).symm))
          refine x_ifeqB O 127 dX6_neededIn_121 (by decide) (fun c121 => ?_) (fun c121 => ?_)
          · refine x_sub [1, 2, 3, 4, 5] (L' := [(4, .int (nI i4_5)), (3, .int v3_5), (0, .ref (adr 0)), (1, .int a), (2, .int b)]) rfl ?_
            exact J11 v3_5 (by rw [if_neg c121])
          · refine x_sub [1, 3, 4, 5] (L' := [(4, .int (nI i4_5)), (0, .ref (adr 0)), (1, .int a), (2, .int b)]) rfl ?_
            refine x_iload O 0 dX6_neededIn_124 rfl ?_
            refine x_istore_n O [(3, .int (nI i4_5)), (4, .int (nI i4_5)), (0, .ref (adr 0)), (1, .int a), (2, .int b)] dX6_neededIn_126 rfl rfl rfl ?_
            refine x_sub [1, 0, 2, 3, 4] rfl ?_
            exact J11 (nI i4_5) (by rw [if_pos c121])
        · refine x_iload O 0 dX6_neededIn_22 rfl ?_
          refine x_cS O 1 (c_j_bits (nI i4_5)) (lw_S q2105 q572 q142 q573) hd_J13_bitCount rfl (by rw [RF]; rfl) (by rw [RL]; rfl) ⟨Nat.zero_le _, Nat.zero_le _⟩ rfl rfl dX6_neededIn_24 ?_
          refine x_top (v' := j_bits (nI i4_5)) rfl ?_
          refine x_iload_n O 1 dX6_neededIn_27 rfl rfl ?_
          refine x_cS O 1 (c_j_bits v3_5) (lw_S q2105 q572 q142 q573) hd_J13_bitCount rfl (by rw [RF]; rfl) (by rw [RL]; rfl) ⟨Nat.zero_le _, Nat.zero_le _⟩ rfl rfl dX6_neededIn_28 ?_
          refine x_top (v' := j_bits v3_5) rfl ?_
          refine x_icmplt O 37 dX6_neededIn_31 (by decide) (fun c31 => ?_) (fun c31 => ?_)
          · refine x_iconst O (nI 1) dX6_neededIn_37 (by decide) ?_
            refine x_top (v' := b2i true) (by decide) ?_
            refine x_istore O [(5, .int (b2i true)), (4, .int (nI i4_5)), (3, .int v3_5), (0, .ref (adr 0)), (1, .int a), (2, .int b)] dX6_neededIn_38 rfl rfl ?_
            refine x_iconst O (nI 0) dX6_neededIn_40 (by decide) ?_
            refine x_istore O [(6, .int (nI 0)), (5, .int (b2i true)), (4, .int (nI i4_5)), (3, .int v3_5), (0, .ref (adr 0)), (1, .int a), (2, .int b)] dX6_neededIn_41 rfl rfl ?_
            have LOOP43 : ∀ (cc_ : Nat) (i6_43 : Nat) (v5_43 : Bool), cc_ = tn (μ 1 3) - i6_43 → i6_43 < 2147483648 → (∀ (y0 : Bool), y0 = frb (fun i s => m_neededIn_b43 (μ 1) a b i4_5 i s) cc_ i6_43 v5_43 → X G F R Q 8 119 [(5, .int (b2i y0)), (4, .int (nI i4_5)), (3, .int v3_5), (0, .ref (adr 0)), (1, .int a), (2, .int b)] [] (MS G adr h0 μ) 0 0) → X G F R Q 8 43 [(6, .int (nI i6_43)), (5, .int (b2i v5_43)), (4, .int (nI i4_5)), (3, .int v3_5), (0, .ref (adr 0)), (1, .int a), (2, .int b)] [] (MS G adr h0 μ) 0 0 := by
              intro cc_
              induction cc_ using Nat.strongRecOn with
              | ind cc_ IH_ =>
                intro i6_43 v5_43 hc_ hb_  K_
                refine x_iload O 0 dX6_neededIn_43 rfl ?_
                refine x_aload_n O 4 dX6_neededIn_45 rfl rfl ?_
                refine x_cV O 0 (c_m_finds (μ := μ)) MS.obj uc6 (lw_V q2042 q2044 qs74 q111 q2045) rfl hd_X6_finds rfl (by rw [RF]; rfl) (by rw [RL]; rfl) ⟨Nat.zero_le _, Nat.zero_le _⟩ rfl rfl dX6_neededIn_46 ?_
                refine x_top (v' := μ 1 3) (m_finds_u _) ?_
                refine x_top (v' := nI (tn (μ 1 3))) ((hI 3 (by decide)).1) ?_
                refine x_icmpgeN O 119 (by omega) (by omega) dX6_neededIn_49 (by decide) (fun c49 => ?_) (fun c49 => ?_)
                · refine x_sub [1, 2, 3, 4, 5, 6] (L' := [(5, .int (b2i v5_43)), (4, .int (nI i4_5)), (3, .int v3_5), (0, .ref (adr 0)), (1, .int a), (2, .int b)]) rfl ?_
                  obtain rfl : cc_ = 0 := by omega
                  exact K_ _ rfl
                · refine x_iload O 1 dX6_neededIn_52 rfl ?_
                  refine x_ifeqB O 119 dX6_neededIn_54 (by decide) (fun c54 => ?_) (fun c54 => ?_)
                  · refine x_sub [1, 2, 3, 4, 5, 6] (L' := [(5, .int (b2i v5_43)), (4, .int (nI i4_5)), (3, .int v3_5), (0, .ref (adr 0)), (1, .int a), (2, .int b)]) rfl ?_
                    obtain ⟨c2_, rfl⟩ : ∃ z, cc_ = z + 1 := ⟨cc_ - 1, by omega⟩
                    have hs_ : (fun i s => m_neededIn_b43 (μ 1) a b i4_5 i s) i6_43 v5_43 = .inr v5_43 := by show m_neededIn_b43 (μ 1) a b i4_5 i6_43 v5_43 = _; unfold m_neededIn_b43; rw [if_neg c54]
                    exact K_ _ (frb_stop hs_).symm
                  · refine x_sub [0, 2, 3, 4, 5, 6] (L' := [(6, .int (nI i6_43)), (4, .int (nI i4_5)), (3, .int v3_5), (0, .ref (adr 0)), (1, .int a), (2, .int b)]) rfl ?_
                    refine x_aload_n O 3 dX6_neededIn_57 rfl rfl ?_
                    refine x_iload O 0 dX6_neededIn_58 rfl ?_
                    refine x_cV O 1 (c_m_isSeenCase (μ := μ) i6_43 (by omega)) MS.obj uc6 (lw_V q2106 q2108 qs82 q111 q2109) rfl hd_X6_isSeenCase rfl (by rw [RF]; rfl) (by rw [RL]; rfl) ⟨Nat.zero_le _, Nat.zero_le _⟩ rfl rfl dX6_neededIn_60 ?_
                    refine x_top (v' := b2i (m_isSeenCase (μ 1) i6_43)) rfl ?_
                    have J13 : ∀ (y4 : Int32), y4 = (if m_isSeenCase (μ 1) i6_43 = true then (if m_isIn (m_ofFind (μ 1) i6_43 1) a b = true then m_mayBe (μ 1) i6_43 else nI 0) else nI 0) → X G F R Q 8 91 [(6, .int (nI i6_43)), (4, .int (nI i4_5)), (3, .int v3_5), (0, .ref (adr 0)), (1, .int a), (2, .int b)] [.int y4] (MS G adr h0 μ) 0 0 := by
                      intro y4 e14
                      subst e14
                      refine x_istore O [(7, .int ((if m_isSeenCase (μ 1) i6_43 = true then (if m_isIn (m_ofFind (μ 1) i6_43 1) a b = true then m_mayBe (μ 1) i6_43 else nI 0) else nI 0))), (6, .int (nI i6_43)), (4, .int (nI i4_5)), (3, .int v3_5), (0, .ref (adr 0)), (1, .int a), (2, .int b)] dX6_neededIn_91 rfl rfl ?_
                      refine x_iload O 0 dX6_neededIn_93 rfl ?_
                      have J15 : ∀ (y5 : Bool), y5 = (if ((if m_isSeenCase (μ 1) i6_43 = true then (if m_isIn (m_ofFind (μ 1) i6_43 1) a b = true then m_mayBe (μ 1) i6_43 else nI 0) else nI 0)) = 0 then true else (if (((if m_isSeenCase (μ 1) i6_43 = true then (if m_isIn (m_ofFind (μ 1) i6_43 1) a b = true then m_mayBe (μ 1) i6_43 else nI 0) else nI 0)) &&& (nI i4_5)) = 0 then false else true)) → X G F R Q 8 111 [(6, .int (nI i6_43)), (4, .int (nI i4_5)), (3, .int v3_5), (0, .ref (adr 0)), (1, .int a), (2, .int b)] [.int (b2i y5)] (MS G adr h0 μ) 0 0 := by
                        intro y5 e16
                        subst e16
                        refine x_istore O [(5, .int (b2i ((if ((if m_isSeenCase (μ 1) i6_43 = true then (if m_isIn (m_ofFind (μ 1) i6_43 1) a b = true then m_mayBe (μ 1) i6_43 else nI 0) else nI 0)) = 0 then true else (if (((if m_isSeenCase (μ 1) i6_43 = true then (if m_isIn (m_ofFind (μ 1) i6_43 1) a b = true then m_mayBe (μ 1) i6_43 else nI 0) else nI 0)) &&& (nI i4_5)) = 0 then false else true))))), (6, .int (nI i6_43)), (4, .int (nI i4_5)), (3, .int v3_5), (0, .ref (adr 0)), (1, .int a), (2, .int b)] dX6_neededIn_111 rfl rfl ?_
                        refine x_iincN O 1 [(6, .int (nI (i6_43 + 1))), (5, .int (b2i ((if ((if m_isSeenCase (μ 1) i6_43 = true then (if m_isIn (m_ofFind (μ 1) i6_43 1) a b = true then m_mayBe (μ 1) i6_43 else nI 0) else nI 0)) = 0 then true else (if (((if m_isSeenCase (μ 1) i6_43 = true then (if m_isIn (m_ofFind (μ 1) i6_43 1) a b = true then m_mayBe (μ 1) i6_43 else nI 0) else nI 0)) &&& (nI i4_5)) = 0 then false else true))))), (4, .int (nI i4_5)), (3, .int v3_5), (0, .ref (adr 0)), (1, .int a), (2, .int b)] dX6_neededIn_113 rfl rfl rfl ?_
                        refine x_goto O 43 dX6_neededIn_116 (by decide) ?_
                        obtain ⟨c2_, rfl⟩ : ∃ z, cc_ = z + 1 := ⟨cc_ - 1, by omega⟩
                        have hs_ : (fun i s => m_neededIn_b43 (μ 1) a b i4_5 i s) i6_43 v5_43 = .inl (if ((if m_isSeenCase (μ 1) i6_43 = true then (if m_isIn (m_ofFind (μ 1) i6_43 1) a b = true then m_mayBe (μ 1) i6_43 else nI 0) else nI 0)) = 0 then true else (if (((if m_isSeenCase (μ 1) i6_43 = true then (if m_isIn (m_ofFind (μ 1) i6_43 1) a b = true then m_mayBe (μ 1) i6_43 else nI 0) else nI 0)) &&& (nI i4_5)) = 0 then false else true)) := by show m_neededIn_b43 (μ 1) a b i4_5 i6_43 v5_43 = _; unfold m_neededIn_b43; rw [if_pos c54]
                        exact IH_ c2_ (by omega) _ _ (by omega) (by omega) (fun y0 hy_ => K_ y0 (hy_.trans (frb_step hs_).symm))
                      refine x_ifeq O 106 dX6_neededIn_95 (by decide) (fun c95 => ?_) (fun c95 => ?_)
                      · refine x_sub [1, 2, 3, 4, 5, 6] (L' := [(6, .int (nI i6_43)), (4, .int (nI i4_5)), (3, .int v3_5), (0, .ref (adr 0)), (1, .int a), (2, .int b)]) rfl ?_
                        refine x_iconst O (nI 1) dX6_neededIn_106 (by decide) ?_
                        refine x_goto O 111 dX6_neededIn_107 (by decide) ?_
                        refine x_top (v' := b2i true) (by decide) ?_
                        exact J15 true (by rw [if_pos c95])
                      · refine x_iload O 0 dX6_neededIn_98 rfl ?_
                        refine x_iload O 2 dX6_neededIn_100 rfl ?_
                        refine x_iand O dX6_neededIn_102 ?_
                        refine x_ifeq O 110 dX6_neededIn_103 (by decide) (fun c103 => ?_) (fun c103 => ?_)
                        · refine x_sub [1, 2, 3, 4, 5, 6] (L' := [(6, .int (nI i6_43)), (4, .int (nI i4_5)), (3, .int v3_5), (0, .ref (adr 0)), (1, .int a), (2, .int b)]) rfl ?_
                          refine x_iconst O (nI 0) dX6_neededIn_110 (by decide) ?_
                          refine x_top (v' := b2i false) (by decide) ?_
                          exact J15 false (by first | (rw [if_neg c95, if_pos c103]; done) | simp only [if_neg c95, if_pos c103])
                        · refine x_sub [1, 2, 3, 4, 5, 6] (L' := [(6, .int (nI i6_43)), (4, .int (nI i4_5)), (3, .int v3_5), (0, .ref (adr 0)), (1, .int a), (2, .int b)]) rfl ?_
                          refine x_iconst O (nI 1) dX6_neededIn_106 (by decide) ?_
                          refine x_goto O 111 dX6_neededIn_107 (by decide) ?_
                          refine x_top (v' := b2i true) (by decide) ?_
                          exact J15 true (by first | (rw [if_neg c95, if_neg c103]; done) | simp only [if_neg c95, if_neg c103])
                    refine x_ifeqB O 90 dX6_neededIn_63 (by decide) (fun c63 => ?_) (fun c63 => ?_)
                    · refine x_iconst O (nI 0) dX6_neededIn_90 (by decide) ?_
                      exact J13 (nI 0) (by rw [if_neg c63])
                    · refine x_aload_n O 3 dX6_neededIn_66 rfl rfl ?_
                      refine x_iload O 0 dX6_neededIn_67 rfl ?_
                      refine x_iconst O (nI 1) dX6_neededIn_69 (by decide) ?_
                      refine x_cV O 2 (c_m_ofFind (μ := μ) i6_43 1 (by omega) (by omega)) MS.obj uc6 (lw_V q2054 q2056 qs75 q111 q2057) rfl hd_X6_ofFind rfl (by rw [RF]; rfl) (by rw [RL]; rfl) ⟨Nat.zero_le _, Nat.zero_le _⟩ rfl rfl dX6_neededIn_70 ?_
                      refine x_top (v' := m_ofFind (μ 1) i6_43 1) rfl ?_
                      refine x_iload_n O 4 dX6_neededIn_73 rfl rfl ?_
                      refine x_iload_n O 5 dX6_neededIn_74 rfl rfl ?_
                      refine x_cS O 3 (c_m_isIn (m_ofFind (μ 1) i6_43 1) a b) (lw_S q1778 q1779 q111 q1780) hd_X6_isInArea rfl (by rw [RF]; rfl) (by rw [RL]; rfl) ⟨Nat.zero_le _, Nat.zero_le _⟩ rfl rfl dX6_neededIn_75 ?_
                      refine x_top (v' := b2i (m_isIn (m_ofFind (μ 1) i6_43 1) a b)) rfl ?_
                      refine x_ifeqB O 90 dX6_neededIn_78 (by decide) (fun c78 => ?_) (fun c78 => ?_)
                      · refine x_iconst O (nI 0) dX6_neededIn_90 (by decide) ?_
                        exact J13 (nI 0) (by first | (rw [if_pos c63, if_neg c78]; done) | simp only [if_pos c63, if_neg c78])
                      · refine x_aload_n O 3 dX6_neededIn_81 rfl rfl ?_
                        refine x_iload O 0 dX6_neededIn_82 rfl ?_
                        refine x_cV O 1 (c_m_mayBe (μ := μ) hI i6_43 (by omega)) MS.obj uc6 (lw_V q2066 q2068 qs78 q111 q2069) rfl hd_X6_mayBe rfl (by rw [RF]; rfl) (by rw [RL]; rfl) ⟨Nat.zero_le _, Nat.zero_le _⟩ rfl rfl dX6_neededIn_84 ?_
                        refine x_top (v' := m_mayBe (μ 1) i6_43) rfl ?_
                        refine x_goto O 91 dX6_neededIn_87 (by decide) ?_
                        exact J13 (m_mayBe (μ 1) i6_43) (by first | (rw [if_pos c63, if_pos c78]; done) | simp only [if_pos c63, if_pos c78])
            refine LOOP43 (tn (μ 1 3)) 0 true rfl (by omega) (fun y0 hy_43 => ?_)
            subst hy_43
            refine x_iload O 0 dX6_neededIn_119 rfl ?_
            have J17 : ∀ (y6 : Int32), y6 = (if (frb (fun i s => m_neededIn_b43 (μ 1) a b i4_5 i s) (tn (μ 1 3)) 0 true) = true then nI i4_5 else v3_5) → X G F R Q 8 127 [(4, .int (nI i4_5)), (3, .int y6), (0, .ref (adr 0)), (1, .int a), (2, .int b)] [] (MS G adr h0 μ) 0 0 := by
              intro y6 e18
              subst e18
              refine x_iincN O 0 [(4, .int (nI (i4_5 + 1))), (3, .int ((if (frb (fun i s => m_neededIn_b43 (μ 1) a b i4_5 i s) (tn (μ 1 3)) 0 true) = true then nI i4_5 else v3_5))), (0, .ref (adr 0)), (1, .int a), (2, .int b)] dX6_neededIn_127 rfl rfl rfl ?_
              refine x_goto O 5 dX6_neededIn_130 (by decide) ?_
              obtain ⟨c2_, rfl⟩ : ∃ z, cc_ = z + 1 := ⟨cc_ - 1, by omega⟩
              have hs_ : (fun i s => m_neededIn_b5 (μ 1) a b i s) i4_5 v3_5 = (if (frb (fun i s => m_neededIn_b43 (μ 1) a b i4_5 i s) (tn (μ 1 3)) 0 true) = true then nI i4_5 else v3_5) := by show m_neededIn_b5 (μ 1) a b i4_5 v3_5 = _; unfold m_neededIn_b5; rw [if_neg c19, if_pos c31]
              exact IH_ c2_ (by omega) _ _ (by omega) (by omega) (fun y0 hy_ => K_ y0 (hy_.trans (fr_step hs_).symm))
            refine x_ifeqB O 127 dX6_neededIn_121 (by decide) (fun c121 => ?_) (fun c121 => ?_)
            · refine x_sub [1, 2, 3, 4, 5] (L' := [(4, .int (nI i4_5)), (3, .int v3_5), (0, .ref (adr 0)), (1, .int a), (2, .int b)]) rfl ?_
              exact J17 v3_5 (by rw [if_neg c121])
            · refine x_sub [1, 3, 4, 5] (L' := [(4, .int (nI i4_5)), (0, .ref (adr 0)), (1, .int a), (2, .int b)]) rfl ?_
              refine x_iload O 0 dX6_neededIn_124 rfl ?_
              refine x_istore_n O [(3, .int (nI i4_5)), (4, .int (nI i4_5)), (0, .ref (adr 0)), (1, .int a), (2, .int b)] dX6_neededIn_126 rfl rfl rfl ?_
              refine x_sub [1, 0, 2, 3, 4] rfl ?_
              exact J17 (nI i4_5) (by rw [if_pos c121])
          · refine x_goto O 127 dX6_neededIn_34 (by decide) ?_
            refine x_iincN O 0 [(4, .int (nI (i4_5 + 1))), (3, .int v3_5), (0, .ref (adr 0)), (1, .int a), (2, .int b)] dX6_neededIn_127 rfl rfl rfl ?_
            refine x_goto O 5 dX6_neededIn_130 (by decide) ?_
            obtain ⟨c2_, rfl⟩ : ∃ z, cc_ = z + 1 := ⟨cc_ - 1, by omega⟩
            have hs_ : (fun i s => m_neededIn_b5 (μ 1) a b i s) i4_5 v3_5 = v3_5 := by show m_neededIn_b5 (μ 1) a b i4_5 v3_5 = _; unfold m_neededIn_b5; rw [if_neg c19, if_neg c31]
            exact IH_ c2_ (by omega) _ _ (by omega) (by omega) (fun y0 hy_ => K_ y0 (hy_.trans (fr_step hs_).symm))
  refine LOOP5 (2 ^ tn (μ 1 0)) 0 ((-1)) rfl (by omega) (fun y0 hy_5 => ?_)
  subst hy_5
  refine x_iload_n O 0 dX6_neededIn_133 rfl rfl ?_
  exact x_iretQ O hQ rfl dX6_neededIn_134 (fun h m => ⟨by rw [hres], m⟩)

def m_needed (W : Nat → Int32) (a : Int32) (b : Int32) : Int32 :=
  (if (if m_noCell a = true then true else (if m_noCell b = true then true else false)) = true then nI 0 else m_neededIn W a b)
def m_needed_f0 (W : Nat → Int32) (a : Int32) (b : Int32) : Nat :=
  (if (if m_noCell a = true then true else (if m_noCell b = true then true else false)) = true then 1 else 0)
set_option maxHeartbeats 1000000 in
set_option maxRecDepth 100000 in
theorem c_m_needed {G : UG} {adr : Nat → Nat} {h0 : Hp} {μ : Mu} (hI : MI (μ 1)) (a : Int32) (b : Int32)  : Con G yX6_needed cX6_needed 3 (some .int) 5 112 0 0 [.ref (adr 0), .int a, .int b] (MS G adr h0 μ) (fun vr_ h' => vr_ = some (.int (m_needed (μ 1) a b)) ∧ MS G adr h0 (mset μ 0 0 (nI (m_needed_f0 (μ 1) a b))) h') nX := by
  refine con_of2 (plainFor_of_name (by decide)) rfl ?_
  intro F R Q RF RL RC RS hQ O hnh hnm
  obtain ⟨res, hres⟩ : ∃ z, z = (m_needed (μ 1) a b) := ⟨_, rfl⟩
  rw [← hres] at hQ
  unfold m_needed at hres
  obtain ⟨rs0, hrs0⟩ : ∃ z, z = m_needed_f0 (μ 1) a b := ⟨_, rfl⟩
  rw [← hrs0] at hQ
  unfold m_needed_f0 at hrs0
  refine x_eq (L' := [(0, .ref (adr 0)), (1, .int a), (2, .int b)]) ?_ rfl rfl rfl
  refine x_aload_n O 0 dX6_needed_0 rfl rfl ?_
  refine x_iconst O (nI 0) dX6_needed_1 (by decide) ?_
  refine x_mputQ O p_X6_3_6 (mp_0 _ _ _) rfl dX6_needed_2 (μ' := (mset μ 0 0 (nI 0))) rfl ?_
  refine x_aload_n O 0 dX6_needed_5 rfl rfl ?_
  refine x_iload_n O 1 dX6_needed_6 rfl rfl ?_
  refine x_cS O 1 (c_m_noCell a) (lw_S q1768 q1769 q111 q1770) hd_X6_noCell rfl (by rw [RF]; rfl) (by rw [RL]; rfl) ⟨Nat.zero_le _, Nat.zero_le _⟩ rfl rfl dX6_needed_7 ?_
  refine x_top (v' := b2i (m_noCell a)) rfl ?_
  have J2 : ∀ (y1 : Bool), y1 = (if m_noCell a = true then true else (if m_noCell b = true then true else false)) → X G F R Q 3 25 [(0, .ref (adr 0)), (1, .int a), (2, .int b)] [.int (b2i y1), .ref (adr 0)] (MS G adr h0 ((mset μ 0 0 (nI 0)))) 0 0 := by
    intro y1 e3
    subst e3
    refine x_iconst O (nI 1) dX6_needed_25 (by decide) ?_
    refine x_bc ((if m_noCell a = true then true else (if m_noCell b = true then true else false))) (fun c26 => ?_) (fun c26 => ?_)
    · have hr4 := hres.trans (if_pos c26)
      have hr5 := hrs0.trans (if_pos c26)
      refine x_eq (st' := [.int (nI 1), .int (b2i true), .ref (adr 0)]) ?_ rfl rfl (by rw [c26] <;> rfl)
      refine x_cV O 2 (c_m_throwsIf_t (μ := (mset μ 0 0 (nI 0))) 1) MS.obj uc6 (lw_V q1774 q1776 qs34 q111 q1777) rfl hd_X6_throwsIf rfl (by rw [RF]; rfl) (by rw [RL]; rfl) ⟨Nat.zero_le _, Nat.zero_le _⟩ rfl rfl dX6_needed_26 ?_
      refine x_top (v' := b2i true) rfl ?_
      refine x_weak (Ω' := MS G adr h0 (mset μ 0 0 (nI 1))) (fun _ m => m.eq ff_s) ?_
      refine x_ifeqB O 36 dX6_needed_29 (by decide) (fun c => absurd rfl c) (fun _ => ?_)
      refine x_sub [0] (L' := [(0, .ref (adr 0))]) rfl ?_
      refine x_iconst O (nI 0) dX6_needed_32 (by decide) ?_
      refine x_goto O 42 dX6_needed_33 (by decide) ?_
      exact x_iretQ O hQ rfl dX6_needed_42 (fun h m => ⟨by rw [hr4], by rw [hr5]; exact m.eq rfl⟩)
    · have hr6 := hres.trans (if_neg c26)
      have hr7 := hrs0.trans (if_neg c26)
      refine x_eq (st' := [.int (nI 1), .int (b2i false), .ref (adr 0)]) ?_ rfl rfl (by rw [bfalse c26] <;> rfl)
      refine x_cV O 2 (c_m_throwsIf_f (μ := (mset μ 0 0 (nI 0))) 1) MS.obj uc6 (lw_V q1774 q1776 qs34 q111 q1777) rfl hd_X6_throwsIf rfl (by rw [RF]; rfl) (by rw [RL]; rfl) ⟨Nat.zero_le _, Nat.zero_le _⟩ rfl rfl dX6_needed_26 ?_
      refine x_top (v' := b2i false) rfl ?_
      refine x_ifeqB O 36 dX6_needed_29 (by decide) (fun _ => ?_) (fun c => absurd c (by decide))
      refine x_aload_n O 0 dX6_needed_36 rfl rfl ?_
      refine x_iload_n O 1 dX6_needed_37 rfl rfl ?_
      refine x_iload_n O 2 dX6_needed_38 rfl rfl ?_
      refine x_cV O 2 (c_m_neededIn (μ := (mset μ 0 0 (nI 0))) hI a b) MS.obj uc6 (lw_V q2101 q2103 qs81 q111 q2104) rfl hd_X6_neededIn rfl (by rw [RF]; rfl) (by rw [RL]; rfl) ⟨Nat.zero_le _, Nat.zero_le _⟩ rfl rfl dX6_needed_39 ?_
      refine x_top (v' := m_neededIn (μ 1) a b) (by rw [show (mset μ 0 0 (nI 0)) 1 = μ 1 from (mset_n (by decide))]) ?_
      exact x_iretQ O hQ rfl dX6_needed_42 (fun h m => ⟨by rw [hr6], by rw [hr7]; exact m.eq rfl⟩)
  refine x_ifneB O 20 dX6_needed_10 (by decide) (fun c10 => ?_) (fun c10 => ?_)
  · refine x_iconst O (nI 1) dX6_needed_20 (by decide) ?_
    refine x_goto O 25 dX6_needed_21 (by decide) ?_
    refine x_top (v' := b2i true) (by decide) ?_
    exact J2 true (by rw [if_pos c10])
  · refine x_iload_n O 2 dX6_needed_13 rfl rfl ?_
    refine x_cS O 1 (c_m_noCell b) (lw_S q1768 q1769 q111 q1770) hd_X6_noCell rfl (by rw [RF]; rfl) (by rw [RL]; rfl) ⟨Nat.zero_le _, Nat.zero_le _⟩ rfl rfl dX6_needed_14 ?_
    refine x_top (v' := b2i (m_noCell b)) rfl ?_
    refine x_ifeqB O 24 dX6_needed_17 (by decide) (fun c17 => ?_) (fun c17 => ?_)
    · refine x_iconst O (nI 0) dX6_needed_24 (by decide) ?_
      refine x_top (v' := b2i false) (by decide) ?_
      exact J2 false (by first | (rw [if_neg c10, if_neg c17]; done) | simp only [if_neg c10, if_neg c17])
    · refine x_iconst O (nI 1) dX6_needed_20 (by decide) ?_
      refine x_goto O 25 dX6_needed_21 (by decide) ?_
      refine x_top (v' := b2i true) (by decide) ?_
      exact J2 true (by first | (rw [if_neg c10, if_pos c17]; done) | simp only [if_neg c10, if_pos c17])

def m_length_b90 (W : Nat → Int32) (i6_53 : Nat) (i8_90 : Nat) (v7_90 : Nat) : Nat :=
  v7_90 + ((if (m_sureOf W i8_90) = (nI i6_53) then 1 else 0))
def m_length_b53 (W : Nat → Int32) (side : Int32) (least : Int32) (greatest : Int32) (most : Bool) (i6_53 : Nat) (v5_53 : Int32) : Int32 :=
  (if (W (269 + 4 * i6_53)) = side then j_max v5_53 ((((nI ((fr (fun i s => m_length_b90 W i6_53 i s) (tn (W 3)) 0 0))) + ((if most = true then least else greatest))) - (nI 1)) / ((if most = true then least else greatest))) else v5_53)
def m_length (W : Nat → Int32) (side : Int32) (least : Int32) (greatest : Int32) (most : Bool) : Int32 :=
  (if m_noSide side = true then nI 0 else (if (if m_in least (nI 1) greatest = true then (if greatest ≤ (nI 9) then false else true) else true) = true then nI 0 else (fr (fun i s => m_length_b53 W side least greatest most i s) (tn (W 0)) 0 (nI 0))))
def m_length_f0 (W : Nat → Int32) (side : Int32) (least : Int32) (greatest : Int32) (most : Bool) : Nat :=
  (if m_noSide side = true then 1 else (if (if m_in least (nI 1) greatest = true then (if greatest ≤ (nI 9) then false else true) else true) = true then 2 else 0))
set_option maxHeartbeats 1000000 in
set_option maxRecDepth 100000 in
theorem c_m_length {G : UG} {adr : Nat → Nat} {h0 : Hp} {μ : Mu} (hI : MI (μ 1)) (side : Int32) (least : Int32) (greatest : Int32) (most : Bool)  : Con G yX6_length cX6_length 9 (some .int) 5 107 0 0 [.ref (adr 0), .int side, .int least, .int greatest, .int (b2i most)] (MS G adr h0 μ) (fun vr_ h' => vr_ = some (.int (m_length (μ 1) side least greatest most)) ∧ MS G adr h0 (mset μ 0 0 (nI (m_length_f0 (μ 1) side least greatest most))) h') nX := by
  refine con_of2 (plainFor_of_name (by decide)) rfl ?_
  intro F R Q RF RL RC RS hQ O hnh hnm
  obtain ⟨res, hres⟩ : ∃ z, z = (m_length (μ 1) side least greatest most) := ⟨_, rfl⟩
  rw [← hres] at hQ
  unfold m_length at hres
  obtain ⟨rs0, hrs0⟩ : ∃ z, z = m_length_f0 (μ 1) side least greatest most := ⟨_, rfl⟩
  rw [← hrs0] at hQ
  unfold m_length_f0 at hrs0
  have hb0 : tn (μ 1 0) ≤ 8 := (hI 0 (by decide)).2
  have hb3 : tn (μ 1 3) ≤ 120 := (hI 3 (by decide)).2
  refine x_eq (L' := [(0, .ref (adr 0)), (1, .int side), (2, .int least), (3, .int greatest), (4, .int (b2i most))]) ?_ rfl rfl rfl
  refine x_aload_n O 0 dX6_length_0 rfl rfl ?_
  refine x_iconst O (nI 0) dX6_length_1 (by decide) ?_
  refine x_mputQ O p_X6_3_6 (mp_0 _ _ _) rfl dX6_length_2 (μ' := (mset μ 0 0 (nI 0))) rfl ?_
  refine x_aload_n O 0 dX6_length_5 rfl rfl ?_
  refine x_iload_n O 1 dX6_length_6 rfl rfl ?_
  refine x_cS O 1 (c_m_noSide side) (lw_S q2156 q2157 q111 q2158) hd_X6_noSide rfl (by rw [RF]; rfl) (by rw [RL]; rfl) ⟨Nat.zero_le _, Nat.zero_le _⟩ rfl rfl dX6_length_7 ?_
  refine x_top (v' := b2i (m_noSide side)) rfl ?_
  refine x_iconst O (nI 1) dX6_length_10 (by decide) ?_
  refine x_bc (m_noSide side) (fun c11 => ?_) (fun c11 => ?_)
  · have hr5 := hres.trans (if_pos c11)
    have hr6 := hrs0.trans (if_pos c11)
    refine x_eq (st' := [.int (nI 1), .int (b2i true), .ref (adr 0)]) ?_ rfl rfl (by rw [c11] <;> rfl)
    refine x_cV O 2 (c_m_throwsIf_t (μ := (mset μ 0 0 (nI 0))) 1) MS.obj uc6 (lw_V q1774 q1776 qs34 q111 q1777) rfl hd_X6_throwsIf rfl (by rw [RF]; rfl) (by rw [RL]; rfl) ⟨Nat.zero_le _, Nat.zero_le _⟩ rfl rfl dX6_length_11 ?_
    refine x_top (v' := b2i true) rfl ?_
    refine x_weak (Ω' := MS G adr h0 (mset μ 0 0 (nI 1))) (fun _ m => m.eq ff_s) ?_
    refine x_ifneB O 45 dX6_length_14 (by decide) (fun _ => ?_) (fun c => absurd rfl c)
    refine x_sub [0] (L' := [(0, .ref (adr 0))]) rfl ?_
    refine x_iconst O (nI 0) dX6_length_45 (by decide) ?_
    exact x_iretQ O hQ rfl dX6_length_46 (fun h m => ⟨by rw [hr5], by rw [hr6]; exact m.eq rfl⟩)
  · have hr7 := hres.trans (if_neg c11)
    have hr8 := hrs0.trans (if_neg c11)
    refine x_eq (st' := [.int (nI 1), .int (b2i false), .ref (adr 0)]) ?_ rfl rfl (by rw [bfalse c11] <;> rfl)
    refine x_cV O 2 (c_m_throwsIf_f (μ := (mset μ 0 0 (nI 0))) 1) MS.obj uc6 (lw_V q1774 q1776 qs34 q111 q1777) rfl hd_X6_throwsIf rfl (by rw [RF]; rfl) (by rw [RL]; rfl) ⟨Nat.zero_le _, Nat.zero_le _⟩ rfl rfl dX6_length_11 ?_
    refine x_top (v' := b2i false) rfl ?_
    refine x_ifneB O 45 dX6_length_14 (by decide) (fun c => absurd c (by decide)) (fun _ => ?_)
    refine x_aload_n O 0 dX6_length_17 rfl rfl ?_
    refine x_iload_n O 2 dX6_length_18 rfl rfl ?_
    refine x_iconst O (nI 1) dX6_length_19 (by decide) ?_
    refine x_iload_n O 3 dX6_length_20 rfl rfl ?_
    refine x_cS O 3 (c_m_in least (nI 1) greatest) (lw_S q1771 q1772 q111 q1773) hd_X6_in rfl (by rw [RF]; rfl) (by rw [RL]; rfl) ⟨Nat.zero_le _, Nat.zero_le _⟩ rfl rfl dX6_length_21 ?_
    refine x_top (v' := b2i (m_in least (nI 1) greatest)) rfl ?_
    have J9 : ∀ (y1 : Bool), y1 = (if m_in least (nI 1) greatest = true then (if greatest ≤ (nI 9) then false else true) else true) → X G F R Q 9 38 [(0, .ref (adr 0)), (1, .int side), (2, .int least), (3, .int greatest), (4, .int (b2i most))] [.int (b2i y1), .ref (adr 0)] (MS G adr h0 ((mset μ 0 0 (nI 0)))) 0 0 := by
      intro y1 e10
      subst e10
      refine x_iconst O (nI 2) dX6_length_38 (by decide) ?_
      refine x_bc ((if m_in least (nI 1) greatest = true then (if greatest ≤ (nI 9) then false else true) else true)) (fun c39 => ?_) (fun c39 => ?_)
      · have hr11 := hr7.trans (if_pos c39)
        have hr12 := hr8.trans (if_pos c39)
        refine x_eq (st' := [.int (nI 2), .int (b2i true), .ref (adr 0)]) ?_ rfl rfl (by rw [c39] <;> rfl)
        refine x_cV O 2 (c_m_throwsIf_t (μ := (mset μ 0 0 (nI 0))) 2) MS.obj uc6 (lw_V q1774 q1776 qs34 q111 q1777) rfl hd_X6_throwsIf rfl (by rw [RF]; rfl) (by rw [RL]; rfl) ⟨Nat.zero_le _, Nat.zero_le _⟩ rfl rfl dX6_length_39 ?_
        refine x_top (v' := b2i true) rfl ?_
        refine x_weak (Ω' := MS G adr h0 (mset μ 0 0 (nI 2))) (fun _ m => m.eq ff_s) ?_
        refine x_ifeqB O 47 dX6_length_42 (by decide) (fun c => absurd rfl c) (fun _ => ?_)
        refine x_sub [0] (L' := [(0, .ref (adr 0))]) rfl ?_
        refine x_iconst O (nI 0) dX6_length_45 (by decide) ?_
        exact x_iretQ O hQ rfl dX6_length_46 (fun h m => ⟨by rw [hr11], by rw [hr12]; exact m.eq rfl⟩)
      · have hr13 := hr7.trans (if_neg c39)
        have hr14 := hr8.trans (if_neg c39)
        refine x_eq (st' := [.int (nI 2), .int (b2i false), .ref (adr 0)]) ?_ rfl rfl (by rw [bfalse c39] <;> rfl)
        refine x_cV O 2 (c_m_throwsIf_f (μ := (mset μ 0 0 (nI 0))) 2) MS.obj uc6 (lw_V q1774 q1776 qs34 q111 q1777) rfl hd_X6_throwsIf rfl (by rw [RF]; rfl) (by rw [RL]; rfl) ⟨Nat.zero_le _, Nat.zero_le _⟩ rfl rfl dX6_length_39 ?_
        refine x_top (v' := b2i false) rfl ?_
        refine x_ifeqB O 47 dX6_length_42 (by decide) (fun _ => ?_) (fun c => absurd c (by decide))
        refine x_iconst O (nI 0) dX6_length_47 (by decide) ?_
        refine x_istore O [(5, .int (nI 0)), (0, .ref (adr 0)), (1, .int side), (2, .int least), (3, .int greatest), (4, .int (b2i most))] dX6_length_48 rfl rfl ?_
        refine x_iconst O (nI 0) dX6_length_50 (by decide) ?_
        refine x_istore O [(6, .int (nI 0)), (5, .int (nI 0)), (0, .ref (adr 0)), (1, .int side), (2, .int least), (3, .int greatest), (4, .int (b2i most))] dX6_length_51 rfl rfl ?_
        have LOOP53 : ∀ (cc_ : Nat) (i6_53 : Nat) (v5_53 : Int32), cc_ = tn (μ 1 0) - i6_53 → i6_53 < 2147483648 → (∀ (y0 : Int32), y0 = fr (fun i s => m_length_b53 (μ 1) side least greatest most i s) cc_ i6_53 v5_53 → X G F R Q 9 161 [(5, .int y0), (0, .ref (adr 0))] [] (MS G adr h0 ((mset μ 0 0 (nI 0)))) 0 0) → X G F R Q 9 53 [(6, .int (nI i6_53)), (5, .int v5_53), (0, .ref (adr 0)), (1, .int side), (2, .int least), (3, .int greatest), (4, .int (b2i most))] [] (MS G adr h0 ((mset μ 0 0 (nI 0)))) 0 0 := by
          intro cc_
          induction cc_ using Nat.strongRecOn with
          | ind cc_ IH_ =>
            intro i6_53 v5_53 hc_ hb_  K_
            refine x_iload O 0 dX6_length_53 rfl ?_
            refine x_aload_n O 2 dX6_length_55 rfl rfl ?_
            refine x_mget O k_X6_13_6 (mg_1 _ _) dX6_length_56 ?_
            refine x_iconst O (nI 0) dX6_length_59 (by decide) ?_
            refine x_ialdN O MS.c1 (by omega) rfl dX6_length_60 ?_
            refine x_top (v' := μ 1 0) (congrFun (mset_n (by decide)) 0) ?_
            refine x_top (v' := nI (tn (μ 1 0))) ((hI 0 (by decide)).1) ?_
            refine x_icmpgeN O 161 (by omega) (by omega) dX6_length_61 (by decide) (fun c61 => ?_) (fun c61 => ?_)
            · refine x_sub [1, 2] (L' := [(5, .int v5_53), (0, .ref (adr 0))]) rfl ?_
              obtain rfl : cc_ = 0 := by omega
              exact K_ _ rfl
            · refine x_aload_n O 2 dX6_length_64 rfl rfl ?_
              refine x_mget O k_X6_13_6 (mg_1 _ _) dX6_length_65 ?_
              refine x_sipush O (nI 269) dX6_length_68 (by decide) ?_
              refine x_iconst O (nI 4) dX6_length_71 (by decide) ?_
              refine x_iload O 0 dX6_length_72 rfl ?_
              refine x_imulN O dX6_length_74 ?_
              refine x_iaddN O dX6_length_75 ?_
              refine x_ialdN O MS.c1 (by omega) rfl dX6_length_76 ?_
              refine x_top (v' := μ 1 (269 + 4 * i6_53)) (congrFun (mset_n (by decide)) (269 + 4 * i6_53)) ?_
              refine x_iload_n O 3 dX6_length_77 rfl rfl ?_
              have J15 : ∀ (y4 : Int32), y4 = (if (μ 1 (269 + 4 * i6_53)) = side then j_max v5_53 ((((nI ((fr (fun i s => m_length_b90 (μ 1) i6_53 i s) (tn (μ 1 3)) 0 0))) + ((if most = true then least else greatest))) - (nI 1)) / ((if most = true then least else greatest))) else v5_53) → X G F R Q 9 155 [(5, .int y4), (6, .int (nI i6_53)), (0, .ref (adr 0)), (1, .int side), (2, .int least), (3, .int greatest), (4, .int (b2i most))] [] (MS G adr h0 ((mset μ 0 0 (nI 0)))) 0 0 := by
                intro y4 e16
                subst e16
                refine x_iincN O 1 [(6, .int (nI (i6_53 + 1))), (5, .int ((if (μ 1 (269 + 4 * i6_53)) = side then j_max v5_53 ((((nI ((fr (fun i s => m_length_b90 (μ 1) i6_53 i s) (tn (μ 1 3)) 0 0))) + ((if most = true then least else greatest))) - (nI 1)) / ((if most = true then least else greatest))) else v5_53))), (0, .ref (adr 0)), (1, .int side), (2, .int least), (3, .int greatest), (4, .int (b2i most))] dX6_length_155 rfl rfl rfl ?_
                refine x_goto O 53 dX6_length_158 (by decide) ?_
                obtain ⟨c2_, rfl⟩ : ∃ z, cc_ = z + 1 := ⟨cc_ - 1, by omega⟩
                have hs_ : (fun i s => m_length_b53 (μ 1) side least greatest most i s) i6_53 v5_53 = (if (μ 1 (269 + 4 * i6_53)) = side then j_max v5_53 ((((nI ((fr (fun i s => m_length_b90 (μ 1) i6_53 i s) (tn (μ 1 3)) 0 0))) + ((if most = true then least else greatest))) - (nI 1)) / ((if most = true then least else greatest))) else v5_53) := by show m_length_b53 (μ 1) side least greatest most i6_53 v5_53 = _; unfold m_length_b53; rfl
                exact IH_ c2_ (by omega) _ _ (by omega) (by omega) (fun y0 hy_ => K_ y0 (hy_.trans (fr_step hs_).symm))
              refine x_icmpeq O 84 dX6_length_78 (by decide) (fun c78 => ?_) (fun c78 => ?_)
              · refine x_iconst O (nI 0) dX6_length_84 (by decide) ?_
                refine x_istore O [(7, .int (nI 0)), (6, .int (nI i6_53)), (5, .int v5_53), (0, .ref (adr 0)), (1, .int side), (2, .int least), (3, .int greatest), (4, .int (b2i most))] dX6_length_85 rfl rfl ?_
                refine x_iconst O (nI 0) dX6_length_87 (by decide) ?_
                refine x_istore O [(8, .int (nI 0)), (7, .int (nI 0)), (6, .int (nI i6_53)), (5, .int v5_53), (0, .ref (adr 0)), (1, .int side), (2, .int least), (3, .int greatest), (4, .int (b2i most))] dX6_length_88 rfl rfl ?_
                have LOOP90 : ∀ (cc_ : Nat) (i8_90 : Nat) (v7_90 : Nat), cc_ = tn (μ 1 3) - i8_90 → i8_90 < 2147483648 → (∀ (y0 : Nat), y0 = fr (fun i s => m_length_b90 (μ 1) i6_53 i s) cc_ i8_90 v7_90 → X G F R Q 9 126 [(7, .int (nI y0)), (6, .int (nI i6_53)), (5, .int v5_53), (0, .ref (adr 0)), (1, .int side), (2, .int least), (3, .int greatest), (4, .int (b2i most))] [] (MS G adr h0 ((mset μ 0 0 (nI 0)))) 0 0) → X G F R Q 9 90 [(8, .int (nI i8_90)), (7, .int (nI v7_90)), (6, .int (nI i6_53)), (5, .int v5_53), (0, .ref (adr 0)), (1, .int side), (2, .int least), (3, .int greatest), (4, .int (b2i most))] [] (MS G adr h0 ((mset μ 0 0 (nI 0)))) 0 0 := by
                  intro cc_
                  induction cc_ using Nat.strongRecOn with
                  | ind cc_ IH_ =>
                    intro i8_90 v7_90 hc_ hb_  K_
                    refine x_iload O 0 dX6_length_90 rfl ?_
                    refine x_aload_n O 4 dX6_length_92 rfl rfl ?_
                    refine x_cV O 0 (c_m_finds (μ := (mset μ 0 0 (nI 0)))) MS.obj uc6 (lw_V q2042 q2044 qs74 q111 q2045) rfl hd_X6_finds rfl (by rw [RF]; rfl) (by rw [RL]; rfl) ⟨Nat.zero_le _, Nat.zero_le _⟩ rfl rfl dX6_length_93 ?_
                    refine x_top (v' := μ 1 3) (m_finds_u _) ?_
                    refine x_top (v' := nI (tn (μ 1 3))) ((hI 3 (by decide)).1) ?_
                    refine x_icmpgeN O 126 (by omega) (by omega) dX6_length_96 (by decide) (fun c96 => ?_) (fun c96 => ?_)
                    · refine x_sub [1, 2, 3, 4, 5, 6, 7, 8] (L' := [(7, .int (nI v7_90)), (6, .int (nI i6_53)), (5, .int v5_53), (0, .ref (adr 0)), (1, .int side), (2, .int least), (3, .int greatest), (4, .int (b2i most))]) rfl ?_
                      obtain rfl : cc_ = 0 := by omega
                      exact K_ _ rfl
                    · refine x_iload O 1 dX6_length_99 rfl ?_
                      refine x_aload_n O 4 dX6_length_101 rfl rfl ?_
                      refine x_iload O 0 dX6_length_102 rfl ?_
                      refine x_cV O 1 (c_m_sureOf (μ := (mset μ 0 0 (nI 0))) hI i8_90 (by omega)) MS.obj uc6 (lw_V q2130 q2132 qs85 q111 q2133) rfl hd_X6_sureOf rfl (by rw [RF]; rfl) (by rw [RL]; rfl) ⟨Nat.zero_le _, Nat.zero_le _⟩ rfl rfl dX6_length_104 ?_
                      refine x_top (v' := m_sureOf (μ 1) i8_90) (by rw [show (mset μ 0 0 (nI 0)) 1 = μ 1 from (mset_n (by decide))]) ?_
                      refine x_iload O 2 dX6_length_107 rfl ?_
                      have J17 : ∀ (y2 : Nat), y2 = (if (m_sureOf (μ 1) i8_90) = (nI i6_53) then 1 else 0) → X G F R Q 9 117 [(8, .int (nI i8_90)), (6, .int (nI i6_53)), (5, .int v5_53), (0, .ref (adr 0)), (1, .int side), (2, .int least), (3, .int greatest), (4, .int (b2i most))] [.int (nI y2), .int (nI v7_90)] (MS G adr h0 ((mset μ 0 0 (nI 0)))) 0 0 := by
                        intro y2 e18
                        subst e18
                        refine x_iaddN O dX6_length_117 ?_
                        refine x_istore O [(7, .int (nI (v7_90 + ((if (m_sureOf (μ 1) i8_90) = (nI i6_53) then 1 else 0))))), (8, .int (nI i8_90)), (6, .int (nI i6_53)), (5, .int v5_53), (0, .ref (adr 0)), (1, .int side), (2, .int least), (3, .int greatest), (4, .int (b2i most))] dX6_length_118 rfl rfl ?_
                        refine x_iincN O 1 [(8, .int (nI (i8_90 + 1))), (7, .int (nI (v7_90 + ((if (m_sureOf (μ 1) i8_90) = (nI i6_53) then 1 else 0))))), (6, .int (nI i6_53)), (5, .int v5_53), (0, .ref (adr 0)), (1, .int side), (2, .int least), (3, .int greatest), (4, .int (b2i most))] dX6_length_120 rfl rfl rfl ?_
                        refine x_goto O 90 dX6_length_123 (by decide) ?_
                        obtain ⟨c2_, rfl⟩ : ∃ z, cc_ = z + 1 := ⟨cc_ - 1, by omega⟩
                        have hs_ : (fun i s => m_length_b90 (μ 1) i6_53 i s) i8_90 v7_90 = v7_90 + ((if (m_sureOf (μ 1) i8_90) = (nI i6_53) then 1 else 0)) := by show m_length_b90 (μ 1) i6_53 i8_90 v7_90 = _; unfold m_length_b90; rfl
                        exact IH_ c2_ (by omega) _ _ (by omega) (by omega) (fun y0 hy_ => K_ y0 (hy_.trans (fr_step hs_).symm))
                      refine x_icmpne O 116 dX6_length_109 (by decide) (fun c109 => ?_) (fun c109 => ?_)
                      · refine x_sub [0, 2, 3, 4, 5, 6, 7, 8] (L' := [(8, .int (nI i8_90)), (6, .int (nI i6_53)), (5, .int v5_53), (0, .ref (adr 0)), (1, .int side), (2, .int least), (3, .int greatest), (4, .int (b2i most))]) rfl ?_
                        refine x_iconst O (nI 0) dX6_length_116 (by decide) ?_
                        exact J17 0 (by rw [if_neg c109])
                      · refine x_sub [0, 2, 3, 4, 5, 6, 7, 8] (L' := [(8, .int (nI i8_90)), (6, .int (nI i6_53)), (5, .int v5_53), (0, .ref (adr 0)), (1, .int side), (2, .int least), (3, .int greatest), (4, .int (b2i most))]) rfl ?_
                        refine x_iconst O (nI 1) dX6_length_112 (by decide) ?_
                        refine x_goto O 117 dX6_length_113 (by decide) ?_
                        exact J17 1 (by rw [if_pos c109])
                refine LOOP90 (tn (μ 1 3)) 0 0 rfl (by omega) (fun y0 hy_90 => ?_)
                subst hy_90
                refine x_iload O 7 dX6_length_126 rfl ?_
                have J19 : ∀ (y3 : Int32), y3 = (if most = true then least else greatest) → X G F R Q 9 136 [(7, .int (nI ((fr (fun i s => m_length_b90 (μ 1) i6_53 i s) (tn (μ 1 3)) 0 0)))), (6, .int (nI i6_53)), (5, .int v5_53), (0, .ref (adr 0)), (1, .int side), (2, .int least), (3, .int greatest), (4, .int (b2i most))] [.int y3] (MS G adr h0 ((mset μ 0 0 (nI 0)))) 0 0 := by
                  intro y3 e20
                  subst e20
                  refine x_istore O [(8, .int ((if most = true then least else greatest))), (7, .int (nI ((fr (fun i s => m_length_b90 (μ 1) i6_53 i s) (tn (μ 1 3)) 0 0)))), (6, .int (nI i6_53)), (5, .int v5_53), (0, .ref (adr 0)), (1, .int side), (2, .int least), (3, .int greatest), (4, .int (b2i most))] dX6_length_136 rfl rfl ?_
                  refine x_iload O 3 dX6_length_138 rfl ?_
                  refine x_iload O 1 dX6_length_140 rfl ?_
                  refine x_iload O 0 dX6_length_142 rfl ?_
                  refine x_iadd O dX6_length_144 ?_
                  refine x_iconst O (nI 1) dX6_length_145 (by decide) ?_
                  refine x_isub O dX6_length_146 ?_
                  refine x_iload O 0 dX6_length_147 rfl ?_
                  refine x_idiv O dX6_length_149 (len_by c39) ?_
                  refine x_cS O 2 (c_j_max v5_53 ((((nI ((fr (fun i s => m_length_b90 (μ 1) i6_53 i s) (tn (μ 1 3)) 0 0))) + ((if most = true then least else greatest))) - (nI 1)) / ((if most = true then least else greatest)))) (lw_S q1782 q558 q116 q559) hd_J7_max rfl (by rw [RF]; rfl) (by rw [RL]; rfl) ⟨Nat.zero_le _, Nat.zero_le _⟩ rfl rfl dX6_length_150 ?_
                  refine x_top (v' := j_max v5_53 ((((nI ((fr (fun i s => m_length_b90 (μ 1) i6_53 i s) (tn (μ 1 3)) 0 0))) + ((if most = true then least else greatest))) - (nI 1)) / ((if most = true then least else greatest)))) rfl ?_
                  refine x_istore O [(5, .int (j_max v5_53 ((((nI ((fr (fun i s => m_length_b90 (μ 1) i6_53 i s) (tn (μ 1 3)) 0 0))) + ((if most = true then least else greatest))) - (nI 1)) / ((if most = true then least else greatest))))), (8, .int ((if most = true then least else greatest))), (7, .int (nI ((fr (fun i s => m_length_b90 (μ 1) i6_53 i s) (tn (μ 1 3)) 0 0)))), (6, .int (nI i6_53)), (0, .ref (adr 0)), (1, .int side), (2, .int least), (3, .int greatest), (4, .int (b2i most))] dX6_length_153 rfl rfl ?_
                  refine x_sub [0, 3, 4, 5, 6, 7, 8] (L' := [(5, .int (j_max v5_53 ((((nI ((fr (fun i s => m_length_b90 (μ 1) i6_53 i s) (tn (μ 1 3)) 0 0))) + ((if most = true then least else greatest))) - (nI 1)) / ((if most = true then least else greatest))))), (6, .int (nI i6_53)), (0, .ref (adr 0)), (1, .int side), (2, .int least), (3, .int greatest), (4, .int (b2i most))]) rfl ?_
                  exact J15 (j_max v5_53 ((((nI ((fr (fun i s => m_length_b90 (μ 1) i6_53 i s) (tn (μ 1 3)) 0 0))) + ((if most = true then least else greatest))) - (nI 1)) / ((if most = true then least else greatest)))) (by first | (rw [if_pos c78]; done) | simp only [if_pos c78])
                refine x_ifeqB O 135 dX6_length_128 (by decide) (fun c128 => ?_) (fun c128 => ?_)
                · refine x_iload_n O 6 dX6_length_135 rfl rfl ?_
                  exact J19 greatest (by rw [if_neg c128])
                · refine x_iload_n O 5 dX6_length_131 rfl rfl ?_
                  refine x_goto O 136 dX6_length_132 (by decide) ?_
                  exact J19 least (by rw [if_pos c128])
              · refine x_goto O 155 dX6_length_81 (by decide) ?_
                refine x_sub [1, 0, 2, 3, 4, 5, 6] rfl ?_
                exact J15 v5_53 (by rw [if_neg c78])
        refine LOOP53 (tn (μ 1 0)) 0 (nI 0) rfl (by omega) (fun y0 hy_53 => ?_)
        subst hy_53
        refine x_iload O 0 dX6_length_161 rfl ?_
        exact x_iretQ O hQ rfl dX6_length_163 (fun h m => ⟨by rw [hr13], by rw [hr14]; exact m.eq rfl⟩)
    refine x_ifeqB O 33 dX6_length_24 (by decide) (fun c24 => ?_) (fun c24 => ?_)
    · refine x_iconst O (nI 1) dX6_length_33 (by decide) ?_
      refine x_goto O 38 dX6_length_34 (by decide) ?_
      refine x_top (v' := b2i true) (by decide) ?_
      exact J9 true (by rw [if_neg c24])
    · refine x_iload_n O 3 dX6_length_27 rfl rfl ?_
      refine x_bipush O (nI 9) dX6_length_28 (by decide) ?_
      refine x_icmple O 37 dX6_length_30 (by decide) (fun c30 => ?_) (fun c30 => ?_)
      · refine x_iconst O (nI 0) dX6_length_37 (by decide) ?_
        refine x_top (v' := b2i false) (by decide) ?_
        exact J9 false (by first | (rw [if_pos c24, if_pos c30]; done) | simp only [if_pos c24, if_pos c30])
      · refine x_iconst O (nI 1) dX6_length_33 (by decide) ?_
        refine x_goto O 38 dX6_length_34 (by decide) ?_
        refine x_top (v' := b2i true) (by decide) ?_
        exact J9 true (by first | (rw [if_pos c24, if_neg c30]; done) | simp only [if_pos c24, if_neg c30])

def m_couldBe (W : Nat → Int32) (t : Nat) : Bool :=
  (if m_in (m_ofTelling W t 2) (m_ofTeller W (tn (m_ofTelling W t 0)) 1) (m_ofTeller W (tn (m_ofTelling W t 0)) 2) = true then (if m_isSeenFrom W (tn (m_ofTeller W (tn (m_ofTelling W t 0)) 0)) (tn (m_ofTelling W t 1)) = true then true else false) else false)
set_option maxHeartbeats 1000000 in
set_option maxRecDepth 100000 in
theorem c_m_couldBe {G : UG} {adr : Nat → Nat} {h0 : Hp} {μ : Mu} (hJ : MJ (μ 1)) (t : Nat) (ht : t < 20) : Con G yX6_couldBe cX6_couldBe 3 (some .boolean) 3 69 0 0 [.ref (adr 0), .int (nI t)] (MS G adr h0 μ) (fun vr_ h' => vr_ = some (.int (b2i (m_couldBe (μ 1) t))) ∧ MS G adr h0 μ h') nX := by
  refine con_of2 (plainFor_of_name (by decide)) rfl ?_
  intro F R Q RF RL RC RS hQ O hnh hnm
  obtain ⟨res, hres⟩ : ∃ z, z = (m_couldBe (μ 1) t) := ⟨_, rfl⟩
  rw [← hres] at hQ
  unfold m_couldBe at hres
  have h1 := (hJ.2.2.2.1 t ht).1
  have h2 := (hJ.2.2.2.1 t ht).2
  have h3 := hJ.2.2.2.2 (tn (m_ofTelling (μ 1) t 0)) (by have := h1.2; omega)
  have h1b := h1.2
  have h2b := h2.2
  have h3b := h3.2
  refine x_eq (L' := [(0, .ref (adr 0)), (1, .int (nI t))]) ?_ rfl rfl rfl
  refine x_aload_n O 0 dX6_couldBe_0 rfl rfl ?_
  refine x_iload_n O 1 dX6_couldBe_1 rfl rfl ?_
  refine x_iconst O (nI 0) dX6_couldBe_2 (by decide) ?_
  refine x_cV O 2 (c_m_ofTelling (μ := μ) t 0 (by omega) (by omega)) MS.obj uc6 (lw_V q2203 q2205 qs95 q111 q2206) rfl hd_X6_ofTelling rfl (by rw [RF]; rfl) (by rw [RL]; rfl) ⟨Nat.zero_le _, Nat.zero_le _⟩ rfl rfl dX6_couldBe_3 ?_
  refine x_top (v' := m_ofTelling (μ 1) t 0) rfl ?_
  refine x_top (v' := nI (tn (m_ofTelling (μ 1) t 0))) (h1.1) ?_
  refine x_istore_n O [(2, .int (nI (tn (m_ofTelling (μ 1) t 0)))), (0, .ref (adr 0)), (1, .int (nI t))] dX6_couldBe_6 rfl rfl rfl ?_
  refine x_aload_n O 1 dX6_couldBe_7 rfl rfl ?_
  refine x_iload_n O 2 dX6_couldBe_8 rfl rfl ?_
  refine x_iconst O (nI 2) dX6_couldBe_9 (by decide) ?_
  refine x_cV O 2 (c_m_ofTelling (μ := μ) t 2 (by omega) (by omega)) MS.obj uc6 (lw_V q2203 q2205 qs95 q111 q2206) rfl hd_X6_ofTelling rfl (by rw [RF]; rfl) (by rw [RL]; rfl) ⟨Nat.zero_le _, Nat.zero_le _⟩ rfl rfl dX6_couldBe_10 ?_
  refine x_top (v' := m_ofTelling (μ 1) t 2) rfl ?_
  refine x_aload_n O 1 dX6_couldBe_13 rfl rfl ?_
  refine x_iload_n O 0 dX6_couldBe_14 rfl rfl ?_
  refine x_iconst O (nI 1) dX6_couldBe_15 (by decide) ?_
  refine x_cV O 2 (c_m_ofTeller (μ := μ) (tn (m_ofTelling (μ 1) t 0)) 1 (by omega) (by omega)) MS.obj uc6 (lw_V q2211 q2213 qs97 q111 q2214) rfl hd_X6_ofTeller rfl (by rw [RF]; rfl) (by rw [RL]; rfl) ⟨Nat.zero_le _, Nat.zero_le _⟩ rfl rfl dX6_couldBe_16 ?_
  refine x_top (v' := m_ofTeller (μ 1) (tn (m_ofTelling (μ 1) t 0)) 1) rfl ?_
  refine x_aload_n O 1 dX6_couldBe_19 rfl rfl ?_
  refine x_iload_n O 0 dX6_couldBe_20 rfl rfl ?_
  refine x_iconst O (nI 2) dX6_couldBe_21 (by decide) ?_
  refine x_cV O 2 (c_m_ofTeller (μ := μ) (tn (m_ofTelling (μ 1) t 0)) 2 (by omega) (by omega)) MS.obj uc6 (lw_V q2211 q2213 qs97 q111 q2214) rfl hd_X6_ofTeller rfl (by rw [RF]; rfl) (by rw [RL]; rfl) ⟨Nat.zero_le _, Nat.zero_le _⟩ rfl rfl dX6_couldBe_22 ?_
  refine x_top (v' := m_ofTeller (μ 1) (tn (m_ofTelling (μ 1) t 0)) 2) rfl ?_
  refine x_cS O 3 (c_m_in (m_ofTelling (μ 1) t 2) (m_ofTeller (μ 1) (tn (m_ofTelling (μ 1) t 0)) 1) (m_ofTeller (μ 1) (tn (m_ofTelling (μ 1) t 0)) 2)) (lw_S q1771 q1772 q111 q1773) hd_X6_in rfl (by rw [RF]; rfl) (by rw [RL]; rfl) ⟨Nat.zero_le _, Nat.zero_le _⟩ rfl rfl dX6_couldBe_25 ?_
  refine x_top (v' := b2i (m_in (m_ofTelling (μ 1) t 2) (m_ofTeller (μ 1) (tn (m_ofTelling (μ 1) t 0)) 1) (m_ofTeller (μ 1) (tn (m_ofTelling (μ 1) t 0)) 2))) rfl ?_
  have J2 : ∀ (y1 : Bool), y1 = (if m_in (m_ofTelling (μ 1) t 2) (m_ofTeller (μ 1) (tn (m_ofTelling (μ 1) t 0)) 1) (m_ofTeller (μ 1) (tn (m_ofTelling (μ 1) t 0)) 2) = true then (if m_isSeenFrom (μ 1) (tn (m_ofTeller (μ 1) (tn (m_ofTelling (μ 1) t 0)) 0)) (tn (m_ofTelling (μ 1) t 1)) = true then true else false) else false) → X G F R Q 3 55 [(0, .ref (adr 0))] [.int (b2i y1)] (MS G adr h0 μ) 0 0 := by
    intro y1 e3
    subst e3
    exact x_zretQ O hQ rfl dX6_couldBe_55 (fun h m => ⟨by rw [hres], m⟩)
  refine x_ifeqB O 54 dX6_couldBe_28 (by decide) (fun c28 => ?_) (fun c28 => ?_)
  · refine x_sub [1] (L' := [(0, .ref (adr 0))]) rfl ?_
    refine x_iconst O (nI 0) dX6_couldBe_54 (by decide) ?_
    refine x_top (v' := b2i false) (by decide) ?_
    exact J2 false (by rw [if_neg c28])
  · refine x_aload_n O 1 dX6_couldBe_31 rfl rfl ?_
    refine x_aload_n O 1 dX6_couldBe_32 rfl rfl ?_
    refine x_iload_n O 0 dX6_couldBe_33 rfl rfl ?_
    refine x_iconst O (nI 0) dX6_couldBe_34 (by decide) ?_
    refine x_cV O 2 (c_m_ofTeller (μ := μ) (tn (m_ofTelling (μ 1) t 0)) 0 (by omega) (by omega)) MS.obj uc6 (lw_V q2211 q2213 qs97 q111 q2214) rfl hd_X6_ofTeller rfl (by rw [RF]; rfl) (by rw [RL]; rfl) ⟨Nat.zero_le _, Nat.zero_le _⟩ rfl rfl dX6_couldBe_35 ?_
    refine x_top (v' := m_ofTeller (μ 1) (tn (m_ofTelling (μ 1) t 0)) 0) rfl ?_
    refine x_top (v' := nI (tn (m_ofTeller (μ 1) (tn (m_ofTelling (μ 1) t 0)) 0))) (h3.1) ?_
    refine x_aload_n O 1 dX6_couldBe_38 rfl rfl ?_
    refine x_iload_n O 2 dX6_couldBe_39 rfl rfl ?_
    refine x_iconst O (nI 1) dX6_couldBe_40 (by decide) ?_
    refine x_cV O 2 (c_m_ofTelling (μ := μ) t 1 (by omega) (by omega)) MS.obj uc6 (lw_V q2203 q2205 qs95 q111 q2206) rfl hd_X6_ofTelling rfl (by rw [RF]; rfl) (by rw [RL]; rfl) ⟨Nat.zero_le _, Nat.zero_le _⟩ rfl rfl dX6_couldBe_41 ?_
    refine x_top (v' := m_ofTelling (μ 1) t 1) rfl ?_
    refine x_top (v' := nI (tn (m_ofTelling (μ 1) t 1))) (h2.1) ?_
    refine x_cV O 2 (c_m_isSeenFrom (μ := μ) (tn (m_ofTeller (μ 1) (tn (m_ofTelling (μ 1) t 0)) 0)) (tn (m_ofTelling (μ 1) t 1)) (by omega) (by omega)) MS.obj uc6 (lw_V q1791 q1793 qs35 q111 q1794) rfl hd_X6_isSeenFrom rfl (by rw [RF]; rfl) (by rw [RL]; rfl) ⟨Nat.zero_le _, Nat.zero_le _⟩ rfl rfl dX6_couldBe_44 ?_
    refine x_top (v' := b2i (m_isSeenFrom (μ 1) (tn (m_ofTeller (μ 1) (tn (m_ofTelling (μ 1) t 0)) 0)) (tn (m_ofTelling (μ 1) t 1)))) rfl ?_
    refine x_ifeqB O 54 dX6_couldBe_47 (by decide) (fun c47 => ?_) (fun c47 => ?_)
    · refine x_sub [1] (L' := [(0, .ref (adr 0))]) rfl ?_
      refine x_iconst O (nI 0) dX6_couldBe_54 (by decide) ?_
      refine x_top (v' := b2i false) (by decide) ?_
      exact J2 false (by first | (rw [if_pos c28, if_neg c47]; done) | simp only [if_pos c28, if_neg c47])
    · refine x_sub [1] (L' := [(0, .ref (adr 0))]) rfl ?_
      refine x_iconst O (nI 1) dX6_couldBe_50 (by decide) ?_
      refine x_goto O 55 dX6_couldBe_51 (by decide) ?_
      refine x_top (v' := b2i true) (by decide) ?_
      exact J2 true (by first | (rw [if_pos c28, if_pos c47]; done) | simp only [if_pos c28, if_pos c47])

def m_fitsAll_b4 (W : Nat → Int32) (t : Nat) (i3_4 : Nat) (v2_4 : Bool) : Bool :=
  (if v2_4 = true then true else (if m_isKind W i3_4 3 = true then false else (if m_isSeen W i3_4 = true then (if (nI 1) < (g_far (m_ofFind W i3_4 1) (m_ofTelling W t 1)) then false else true) else false)))
def m_fitsAll (W : Nat → Int32) (t : Nat) : Bool :=
  (if (fr (fun i s => m_fitsAll_b4 W t i s) (tn (W 3)) 0 false) = true then (if m_couldBe W t = true then true else false) else false)
set_option maxHeartbeats 1000000 in
set_option maxRecDepth 100000 in
theorem c_m_fitsAll {G : UG} {adr : Nat → Nat} {h0 : Hp} {μ : Mu} (hJ : MJ (μ 1)) (t : Nat) (ht : t < 20) : Con G yX6_fitsAll cX6_fitsAll 4 (some .boolean) 4 91 0 0 [.ref (adr 0), .int (nI t)] (MS G adr h0 μ) (fun vr_ h' => vr_ = some (.int (b2i (m_fitsAll (μ 1) t))) ∧ MS G adr h0 μ h') nX := by
  refine con_of2 (plainFor_of_name (by decide)) rfl ?_
  intro F R Q RF RL RC RS hQ O hnh hnm
  obtain ⟨res, hres⟩ : ∃ z, z = (m_fitsAll (μ 1) t) := ⟨_, rfl⟩
  rw [← hres] at hQ
  unfold m_fitsAll at hres
  have hI := hJ.1
  have hb3 : tn (μ 1 3) ≤ 120 := (hI 3 (by decide)).2
  refine x_eq (L' := [(0, .ref (adr 0)), (1, .int (nI t))]) ?_ rfl rfl rfl
  refine x_iconst O (nI 0) dX6_fitsAll_0 (by decide) ?_
  refine x_top (v' := b2i false) (by decide) ?_
  refine x_istore_n O [(2, .int (b2i false)), (0, .ref (adr 0)), (1, .int (nI t))] dX6_fitsAll_1 rfl rfl rfl ?_
  refine x_iconst O (nI 0) dX6_fitsAll_2 (by decide) ?_
  refine x_istore_n O [(3, .int (nI 0)), (2, .int (b2i false)), (0, .ref (adr 0)), (1, .int (nI t))] dX6_fitsAll_3 rfl rfl rfl ?_
  have LOOP4 : ∀ (cc_ : Nat) (i3_4 : Nat) (v2_4 : Bool), cc_ = tn (μ 1 3) - i3_4 → i3_4 < 2147483648 → (∀ (y0 : Bool), y0 = fr (fun i s => m_fitsAll_b4 (μ 1) t i s) cc_ i3_4 v2_4 → X G F R Q 4 64 [(2, .int (b2i y0)), (0, .ref (adr 0)), (1, .int (nI t))] [] (MS G adr h0 μ) 0 0) → X G F R Q 4 4 [(3, .int (nI i3_4)), (2, .int (b2i v2_4)), (0, .ref (adr 0)), (1, .int (nI t))] [] (MS G adr h0 μ) 0 0 := by
    intro cc_
    induction cc_ using Nat.strongRecOn with
    | ind cc_ IH_ =>
      intro i3_4 v2_4 hc_ hb_  K_
      refine x_iload_n O 0 dX6_fitsAll_4 rfl rfl ?_
      refine x_aload_n O 2 dX6_fitsAll_5 rfl rfl ?_
      refine x_cV O 0 (c_m_finds (μ := μ)) MS.obj uc6 (lw_V q2042 q2044 qs74 q111 q2045) rfl hd_X6_finds rfl (by rw [RF]; rfl) (by rw [RL]; rfl) ⟨Nat.zero_le _, Nat.zero_le _⟩ rfl rfl dX6_fitsAll_6 ?_
      refine x_top (v' := μ 1 3) (m_finds_u _) ?_
      refine x_top (v' := nI (tn (μ 1 3))) ((hJ.1 3 (by decide)).1) ?_
      refine x_icmpgeN O 64 (by omega) (by omega) dX6_fitsAll_9 (by decide) (fun c9 => ?_) (fun c9 => ?_)
      · refine x_sub [1, 2, 3] (L' := [(2, .int (b2i v2_4)), (0, .ref (adr 0)), (1, .int (nI t))]) rfl ?_
        obtain rfl : cc_ = 0 := by omega
        exact K_ _ rfl
      · refine x_iload_n O 1 dX6_fitsAll_12 rfl rfl ?_
        have J3 : ∀ (y1 : Bool), y1 = (if v2_4 = true then true else (if m_isKind (μ 1) i3_4 3 = true then false else (if m_isSeen (μ 1) i3_4 = true then (if (nI 1) < (g_far (m_ofFind (μ 1) i3_4 1) (m_ofTelling (μ 1) t 1)) then false else true) else false))) → X G F R Q 4 57 [(3, .int (nI i3_4)), (0, .ref (adr 0)), (1, .int (nI t))] [.int (b2i y1)] (MS G adr h0 μ) 0 0 := by
          intro y1 e4
          subst e4
          refine x_istore_n O [(2, .int (b2i ((if v2_4 = true then true else (if m_isKind (μ 1) i3_4 3 = true then false else (if m_isSeen (μ 1) i3_4 = true then (if (nI 1) < (g_far (m_ofFind (μ 1) i3_4 1) (m_ofTelling (μ 1) t 1)) then false else true) else false)))))), (3, .int (nI i3_4)), (0, .ref (adr 0)), (1, .int (nI t))] dX6_fitsAll_57 rfl rfl rfl ?_
          refine x_iincN O 1 [(3, .int (nI (i3_4 + 1))), (2, .int (b2i ((if v2_4 = true then true else (if m_isKind (μ 1) i3_4 3 = true then false else (if m_isSeen (μ 1) i3_4 = true then (if (nI 1) < (g_far (m_ofFind (μ 1) i3_4 1) (m_ofTelling (μ 1) t 1)) then false else true) else false)))))), (0, .ref (adr 0)), (1, .int (nI t))] dX6_fitsAll_58 rfl rfl rfl ?_
          refine x_goto O 4 dX6_fitsAll_61 (by decide) ?_
          obtain ⟨c2_, rfl⟩ : ∃ z, cc_ = z + 1 := ⟨cc_ - 1, by omega⟩
          have hs_ : (fun i s => m_fitsAll_b4 (μ 1) t i s) i3_4 v2_4 = (if v2_4 = true then true else (if m_isKind (μ 1) i3_4 3 = true then false else (if m_isSeen (μ 1) i3_4 = true then (if (nI 1) < (g_far (m_ofFind (μ 1) i3_4 1) (m_ofTelling (μ 1) t 1)) then false else true) else false))) := by show m_fitsAll_b4 (μ 1) t i3_4 v2_4 = _; unfold m_fitsAll_b4; rfl
          exact IH_ c2_ (by omega) _ _ (by omega) (by omega) (fun y0 hy_ => K_ y0 (hy_.trans (fr_step hs_).symm))
        refine x_ifneB O 52 dX6_fitsAll_13 (by decide) (fun c13 => ?_) (fun c13 => ?_)
        · refine x_sub [0, 2, 3] (L' := [(3, .int (nI i3_4)), (0, .ref (adr 0)), (1, .int (nI t))]) rfl ?_
          refine x_iconst O (nI 1) dX6_fitsAll_52 (by decide) ?_
          refine x_goto O 57 dX6_fitsAll_53 (by decide) ?_
          refine x_top (v' := b2i true) (by decide) ?_
          exact J3 true (by rw [if_pos c13])
        · refine x_sub [0, 2, 3] (L' := [(3, .int (nI i3_4)), (0, .ref (adr 0)), (1, .int (nI t))]) rfl ?_
          refine x_aload_n O 1 dX6_fitsAll_16 rfl rfl ?_
          refine x_iload_n O 0 dX6_fitsAll_17 rfl rfl ?_
          refine x_iconst O (nI 3) dX6_fitsAll_18 (by decide) ?_
          refine x_cV O 2 (c_m_isKind (μ := μ) i3_4 3 (by omega)) MS.obj uc6 (lw_V q2070 q2072 qs79 q111 q2073) rfl hd_X6_isKind rfl (by rw [RF]; rfl) (by rw [RL]; rfl) ⟨Nat.zero_le _, Nat.zero_le _⟩ rfl rfl dX6_fitsAll_19 ?_
          refine x_top (v' := b2i (m_isKind (μ 1) i3_4 3)) rfl ?_
          refine x_ifneB O 56 dX6_fitsAll_22 (by decide) (fun c22 => ?_) (fun c22 => ?_)
          · refine x_iconst O (nI 0) dX6_fitsAll_56 (by decide) ?_
            refine x_top (v' := b2i false) (by decide) ?_
            exact J3 false (by first | (rw [if_neg c13, if_pos c22]; done) | simp only [if_neg c13, if_pos c22])
          · refine x_aload_n O 1 dX6_fitsAll_25 rfl rfl ?_
            refine x_iload_n O 0 dX6_fitsAll_26 rfl rfl ?_
            refine x_cV O 1 (c_m_isSeen (μ := μ) i3_4 (by omega)) MS.obj uc6 (lw_V q2058 q2060 qs76 q111 q2061) rfl hd_X6_isSeen rfl (by rw [RF]; rfl) (by rw [RL]; rfl) ⟨Nat.zero_le _, Nat.zero_le _⟩ rfl rfl dX6_fitsAll_27 ?_
            refine x_top (v' := b2i (m_isSeen (μ 1) i3_4)) rfl ?_
            refine x_ifeqB O 56 dX6_fitsAll_30 (by decide) (fun c30 => ?_) (fun c30 => ?_)
            · refine x_iconst O (nI 0) dX6_fitsAll_56 (by decide) ?_
              refine x_top (v' := b2i false) (by decide) ?_
              exact J3 false (by first | (rw [if_neg c13, if_neg c22, if_neg c30]; done) | simp only [if_neg c13, if_neg c22, if_neg c30])
            · refine x_aload_n O 1 dX6_fitsAll_33 rfl rfl ?_
              refine x_iload_n O 0 dX6_fitsAll_34 rfl rfl ?_
              refine x_iconst O (nI 1) dX6_fitsAll_35 (by decide) ?_
              refine x_cV O 2 (c_m_ofFind (μ := μ) i3_4 1 (by omega) (by omega)) MS.obj uc6 (lw_V q2054 q2056 qs75 q111 q2057) rfl hd_X6_ofFind rfl (by rw [RF]; rfl) (by rw [RL]; rfl) ⟨Nat.zero_le _, Nat.zero_le _⟩ rfl rfl dX6_fitsAll_36 ?_
              refine x_top (v' := m_ofFind (μ 1) i3_4 1) rfl ?_
              refine x_aload_n O 1 dX6_fitsAll_39 rfl rfl ?_
              refine x_iload_n O 2 dX6_fitsAll_40 rfl rfl ?_
              refine x_iconst O (nI 1) dX6_fitsAll_41 (by decide) ?_
              refine x_cV O 2 (c_m_ofTelling (μ := μ) t 1 (by omega) (by omega)) MS.obj uc6 (lw_V q2203 q2205 qs95 q111 q2206) rfl hd_X6_ofTelling rfl (by rw [RF]; rfl) (by rw [RL]; rfl) ⟨Nat.zero_le _, Nat.zero_le _⟩ rfl rfl dX6_fitsAll_42 ?_
              refine x_top (v' := m_ofTelling (μ 1) t 1) rfl ?_
              refine x_cS O 2 (c_g_far (m_ofFind (μ 1) i3_4 1) (m_ofTelling (μ 1) t 1)) (lw_S q1795 q1796 q111 q1797) hd_X6_far rfl (by rw [RF]; rfl) (by rw [RL]; rfl) ⟨Nat.zero_le _, Nat.zero_le _⟩ rfl rfl dX6_fitsAll_45 ?_
              refine x_top (v' := g_far (m_ofFind (μ 1) i3_4 1) (m_ofTelling (μ 1) t 1)) rfl ?_
              refine x_iconst O (nI 1) dX6_fitsAll_48 (by decide) ?_
              refine x_icmpgt O 56 dX6_fitsAll_49 (by decide) (fun c49 => ?_) (fun c49 => ?_)
              · refine x_iconst O (nI 0) dX6_fitsAll_56 (by decide) ?_
                refine x_top (v' := b2i false) (by decide) ?_
                exact J3 false (by first | (rw [if_neg c13, if_neg c22, if_pos c30, if_pos c49]; done) | simp only [if_neg c13, if_neg c22, if_pos c30, if_pos c49])
              · refine x_iconst O (nI 1) dX6_fitsAll_52 (by decide) ?_
                refine x_goto O 57 dX6_fitsAll_53 (by decide) ?_
                refine x_top (v' := b2i true) (by decide) ?_
                exact J3 true (by first | (rw [if_neg c13, if_neg c22, if_pos c30, if_neg c49]; done) | simp only [if_neg c13, if_neg c22, if_pos c30, if_neg c49])
  refine LOOP4 (tn (μ 1 3)) 0 false rfl (by omega) (fun y0 hy_4 => ?_)
  subst hy_4
  refine x_iload_n O 0 dX6_fitsAll_64 rfl rfl ?_
  have J5 : ∀ (y2 : Bool), y2 = (if (fr (fun i s => m_fitsAll_b4 (μ 1) t i s) (tn (μ 1 3)) 0 false) = true then (if m_couldBe (μ 1) t = true then true else false) else false) → X G F R Q 4 81 [(0, .ref (adr 0))] [.int (b2i y2)] (MS G adr h0 μ) 0 0 := by
    intro y2 e6
    subst e6
    exact x_zretQ O hQ rfl dX6_fitsAll_81 (fun h m => ⟨by rw [hres], m⟩)
  refine x_ifeqB O 80 dX6_fitsAll_65 (by decide) (fun c65 => ?_) (fun c65 => ?_)
  · refine x_sub [1] (L' := [(0, .ref (adr 0))]) rfl ?_
    refine x_iconst O (nI 0) dX6_fitsAll_80 (by decide) ?_
    refine x_top (v' := b2i false) (by decide) ?_
    exact J5 false (by rw [if_neg c65])
  · refine x_sub [1, 2] (L' := [(0, .ref (adr 0)), (1, .int (nI t))]) rfl ?_
    refine x_aload_n O 0 dX6_fitsAll_68 rfl rfl ?_
    refine x_iload_n O 1 dX6_fitsAll_69 rfl rfl ?_
    refine x_cV O 1 (c_m_couldBe (μ := μ) hJ t (by omega)) MS.obj uc6 (lw_V q2207 q2209 qs96 q111 q2210) rfl hd_X6_couldBe rfl (by rw [RF]; rfl) (by rw [RL]; rfl) ⟨Nat.zero_le _, Nat.zero_le _⟩ rfl rfl dX6_fitsAll_70 ?_
    refine x_top (v' := b2i (m_couldBe (μ 1) t)) rfl ?_
    refine x_ifeqB O 80 dX6_fitsAll_73 (by decide) (fun c73 => ?_) (fun c73 => ?_)
    · refine x_sub [0] (L' := [(0, .ref (adr 0))]) rfl ?_
      refine x_iconst O (nI 0) dX6_fitsAll_80 (by decide) ?_
      refine x_top (v' := b2i false) (by decide) ?_
      exact J5 false (by first | (rw [if_pos c65, if_neg c73]; done) | simp only [if_pos c65, if_neg c73])
    · refine x_sub [0] (L' := [(0, .ref (adr 0))]) rfl ?_
      refine x_iconst O (nI 1) dX6_fitsAll_76 (by decide) ?_
      refine x_goto O 81 dX6_fitsAll_77 (by decide) ?_
      refine x_top (v' := b2i true) (by decide) ?_
      exact J5 true (by first | (rw [if_pos c65, if_pos c73]; done) | simp only [if_pos c65, if_pos c73])

def m_could (W : Nat → Int32) (t : Int32) (fits : Bool) : Bool :=
  (if m_none W t 5 = true then false else (if fits = true then (if m_fitsAll W (tn t) = true then true else false) else (if m_couldBe W (tn t) = true then true else false)))
def m_could_f0 (W : Nat → Int32) (t : Int32) (fits : Bool) : Nat :=
  (if m_none W t 5 = true then 1 else 0)
set_option maxHeartbeats 1000000 in
set_option maxRecDepth 100000 in
theorem c_m_could {G : UG} {adr : Nat → Nat} {h0 : Hp} {μ : Mu} (hJ : MJ (μ 1)) (t : Int32) (fits : Bool)  : Con G yX6_could cX6_could 3 (some .boolean) 5 114 0 0 [.ref (adr 0), .int t, .int (b2i fits)] (MS G adr h0 μ) (fun vr_ h' => vr_ = some (.int (b2i (m_could (μ 1) t fits))) ∧ MS G adr h0 (mset μ 0 0 (nI (m_could_f0 (μ 1) t fits))) h') nX := by
  refine con_of2 (plainFor_of_name (by decide)) rfl ?_
  intro F R Q RF RL RC RS hQ O hnh hnm
  obtain ⟨res, hres⟩ : ∃ z, z = (m_could (μ 1) t fits) := ⟨_, rfl⟩
  rw [← hres] at hQ
  unfold m_could at hres
  obtain ⟨rs0, hrs0⟩ : ∃ z, z = m_could_f0 (μ 1) t fits := ⟨_, rfl⟩
  rw [← hrs0] at hQ
  unfold m_could_f0 at hrs0
  have hI := hJ.1
  have hb5 : tn (μ 1 5) ≤ 20 := (hI 5 (by decide)).2
  refine x_eq (L' := [(0, .ref (adr 0)), (1, .int t), (2, .int (b2i fits))]) ?_ rfl rfl rfl
  refine x_aload_n O 0 dX6_could_0 rfl rfl ?_
  refine x_iconst O (nI 0) dX6_could_1 (by decide) ?_
  refine x_mputQ O p_X6_3_6 (mp_0 _ _ _) rfl dX6_could_2 (μ' := (mset μ 0 0 (nI 0))) rfl ?_
  refine x_aload_n O 0 dX6_could_5 rfl rfl ?_
  refine x_aload_n O 0 dX6_could_6 rfl rfl ?_
  refine x_iload_n O 1 dX6_could_7 rfl rfl ?_
  refine x_iconst O (nI 5) dX6_could_8 (by decide) ?_
  refine x_cV O 2 (c_m_none (μ := (mset μ 0 0 (nI 0))) t 5 (by omega)) MS.obj uc6 (lw_V q1964 q1966 qs59 q111 q1967) rfl hd_X6_none rfl (by rw [RF]; rfl) (by rw [RL]; rfl) ⟨Nat.zero_le _, Nat.zero_le _⟩ rfl rfl dX6_could_9 ?_
  refine x_top (v' := b2i (m_none (μ 1) t 5)) (by rw [show (mset μ 0 0 (nI 0)) 1 = μ 1 from (mset_n (by decide))]) ?_
  refine x_iconst O (nI 1) dX6_could_12 (by decide) ?_
  refine x_bc (m_none (μ 1) t 5) (fun c13 => ?_) (fun c13 => ?_)
  · have hr2 := hres.trans (if_pos c13)
    have hr3 := hrs0.trans (if_pos c13)
    refine x_eq (st' := [.int (nI 1), .int (b2i true), .ref (adr 0)]) ?_ rfl rfl (by rw [c13] <;> rfl)
    refine x_cV O 2 (c_m_throwsIf_t (μ := (mset μ 0 0 (nI 0))) 1) MS.obj uc6 (lw_V q1774 q1776 qs34 q111 q1777) rfl hd_X6_throwsIf rfl (by rw [RF]; rfl) (by rw [RL]; rfl) ⟨Nat.zero_le _, Nat.zero_le _⟩ rfl rfl dX6_could_13 ?_
    refine x_top (v' := b2i true) rfl ?_
    refine x_weak (Ω' := MS G adr h0 (mset μ 0 0 (nI 1))) (fun _ m => m.eq ff_s) ?_
    refine x_ifneB O 46 dX6_could_16 (by decide) (fun _ => ?_) (fun c => absurd rfl c)
    refine x_sub [0] (L' := [(0, .ref (adr 0))]) rfl ?_
    refine x_iconst O (nI 0) dX6_could_46 (by decide) ?_
    refine x_top (v' := b2i false) (by decide) ?_
    exact x_zretQ O hQ rfl dX6_could_47 (fun h m => ⟨by rw [hr2], by rw [hr3]; exact m.eq rfl⟩)
  · have hr4 := hres.trans (if_neg c13)
    have hr5 := hrs0.trans (if_neg c13)
    refine x_eq (st' := [.int (nI 1), .int (b2i false), .ref (adr 0)]) ?_ rfl rfl (by rw [bfalse c13] <;> rfl)
    refine x_cV O 2 (c_m_throwsIf_f (μ := (mset μ 0 0 (nI 0))) 1) MS.obj uc6 (lw_V q1774 q1776 qs34 q111 q1777) rfl hd_X6_throwsIf rfl (by rw [RF]; rfl) (by rw [RL]; rfl) ⟨Nat.zero_le _, Nat.zero_le _⟩ rfl rfl dX6_could_13 ?_
    refine x_top (v' := b2i false) rfl ?_
    refine x_ifneB O 46 dX6_could_16 (by decide) (fun c => absurd c (by decide)) (fun _ => ?_)
    refine x_iload_n O 2 dX6_could_19 rfl rfl ?_
    have J6 : ∀ (y1 : Bool), y1 = (if fits = true then (if m_fitsAll (μ 1) (tn t) = true then true else false) else (if m_couldBe (μ 1) (tn t) = true then true else false)) → X G F R Q 3 47 [(0, .ref (adr 0))] [.int (b2i y1)] (MS G adr h0 ((mset μ 0 0 (nI 0)))) 0 0 := by
      intro y1 e7
      subst e7
      exact x_zretQ O hQ rfl dX6_could_47 (fun h m => ⟨by rw [hr4], by rw [hr5]; exact m.eq rfl⟩)
    refine x_ifeqB O 34 dX6_could_20 (by decide) (fun c20 => ?_) (fun c20 => ?_)
    · refine x_sub [0, 1] (L' := [(0, .ref (adr 0)), (1, .int t)]) rfl ?_
      refine x_aload_n O 0 dX6_could_34 rfl rfl ?_
      refine x_iload_n O 1 dX6_could_35 rfl rfl ?_
      refine x_top (v' := nI (tn t)) ((none_nn (w := 5) (by decide) hI c13).1) ?_
      refine x_cV O 1 (c_m_couldBe (μ := (mset μ 0 0 (nI 0))) hJ (tn t) (by have := (none_nn (w := 5) (by decide) hI c13).2; omega)) MS.obj uc6 (lw_V q2207 q2209 qs96 q111 q2210) rfl hd_X6_couldBe rfl (by rw [RF]; rfl) (by rw [RL]; rfl) ⟨Nat.zero_le _, Nat.zero_le _⟩ rfl rfl dX6_could_36 ?_
      refine x_top (v' := b2i (m_couldBe (μ 1) (tn t))) (by rw [show (mset μ 0 0 (nI 0)) 1 = μ 1 from (mset_n (by decide))]) ?_
      refine x_ifeqB O 46 dX6_could_39 (by decide) (fun c39 => ?_) (fun c39 => ?_)
      · refine x_sub [0] (L' := [(0, .ref (adr 0))]) rfl ?_
        refine x_iconst O (nI 0) dX6_could_46 (by decide) ?_
        refine x_top (v' := b2i false) (by decide) ?_
        exact J6 false (by first | (rw [if_neg c20, if_neg c39]; done) | simp only [if_neg c20, if_neg c39])
      · refine x_sub [0] (L' := [(0, .ref (adr 0))]) rfl ?_
        refine x_iconst O (nI 1) dX6_could_42 (by decide) ?_
        refine x_goto O 47 dX6_could_43 (by decide) ?_
        refine x_top (v' := b2i true) (by decide) ?_
        exact J6 true (by first | (rw [if_neg c20, if_pos c39]; done) | simp only [if_neg c20, if_pos c39])
    · refine x_sub [0, 1] (L' := [(0, .ref (adr 0)), (1, .int t)]) rfl ?_
      refine x_aload_n O 0 dX6_could_23 rfl rfl ?_
      refine x_iload_n O 1 dX6_could_24 rfl rfl ?_
      refine x_top (v' := nI (tn t)) ((none_nn (w := 5) (by decide) hI c13).1) ?_
      refine x_cV O 1 (c_m_fitsAll (μ := (mset μ 0 0 (nI 0))) hJ (tn t) (by have := (none_nn (w := 5) (by decide) hI c13).2; omega)) MS.obj uc6 (lw_V q2199 q2201 qs94 q111 q2202) rfl hd_X6_fitsAll rfl (by rw [RF]; rfl) (by rw [RL]; rfl) ⟨Nat.zero_le _, Nat.zero_le _⟩ rfl rfl dX6_could_25 ?_
      refine x_top (v' := b2i (m_fitsAll (μ 1) (tn t))) (by rw [show (mset μ 0 0 (nI 0)) 1 = μ 1 from (mset_n (by decide))]) ?_
      refine x_ifeqB O 46 dX6_could_28 (by decide) (fun c28 => ?_) (fun c28 => ?_)
      · refine x_sub [0] (L' := [(0, .ref (adr 0))]) rfl ?_
        refine x_iconst O (nI 0) dX6_could_46 (by decide) ?_
        refine x_top (v' := b2i false) (by decide) ?_
        exact J6 false (by first | (rw [if_pos c20, if_neg c28]; done) | simp only [if_pos c20, if_neg c28])
      · refine x_sub [0] (L' := [(0, .ref (adr 0))]) rfl ?_
        refine x_goto O 42 dX6_could_31 (by decide) ?_
        refine x_iconst O (nI 1) dX6_could_42 (by decide) ?_
        refine x_goto O 47 dX6_could_43 (by decide) ?_
        refine x_top (v' := b2i true) (by decide) ?_
        exact J6 true (by first | (rw [if_pos c20, if_pos c28]; done) | simp only [if_pos c20, if_pos c28])

theorem ap_nn {W : Nat → Int32} {t v : Nat} (hJ : MJ W) (ht : t < 20) (hv : v ≤ 255) : nn ((nI v) ||| (if m_fitsAll W t = true then (nI 1) <<< ((m_ofTelling W t 0) &&& 31) else nI 0)) 255 := by
  refine or_nn (nn_nI hv (by decide)) ?_
  split
  · exact shl1_nn (hJ.2.2.2.1 t ht).1
  · exact nn_nI (by omega) (by decide)

def m_apart_b9 (W : Nat → Int32)  (i2_9 : Nat) (v1_9 : Nat) : Nat :=
  tn ((nI v1_9) ||| ((if m_fitsAll W i2_9 = true then (nI 1) <<< ((m_ofTelling W i2_9 0) &&& 31) else nI 0)))
def m_apart_b92 (W : Nat → Int32) (i3_52 : Nat) (i5_82 : Nat) (i6_92 : Nat) (v4_92 : Bool) : Bool :=
  (if v4_92 = true then (if ((((nI i3_52) >>> ((nI i5_82) &&& 31)) &&& ((nI i3_52) >>> ((nI i6_92) &&& 31))) &&& (nI 1)) = 0 then true else (if m_mayHaveTalked W i5_82 i6_92 = true then false else true)) else false)
def m_apart_b82 (W : Nat → Int32) (i3_52 : Nat) (i5_82 : Nat) (v4_82 : Bool) : Bool :=
  (fr (fun i s => m_apart_b92 W i3_52 i5_82 i s) i5_82 0 v4_82)
def m_apart_b52 (W : Nat → Int32)  (i3_52 : Nat) (v2_52 : Int32) : Int32 :=
  (if ((nI i3_52) &&& ((nI ((fr (fun i s => m_apart_b9 W i s) (tn (W 5)) 0 0))) ^^^ ((-1)))) = 0 then (if v2_52 < (j_bits (nI i3_52)) then (if (fr (fun i s => m_apart_b82 W i3_52 i s) 8 0 true) = true then j_bits (nI i3_52) else v2_52) else v2_52) else v2_52)
def m_apart (W : Nat → Int32)  : Int32 :=
  (fr (fun i s => m_apart_b52 W i s) (((fr (fun i s => m_apart_b9 W i s) (tn (W 5)) 0 0)) + 1) 0 (nI 0))
def m_apart_f0 (W : Nat → Int32)  : Nat :=
  0
set_option maxHeartbeats 1000000 in
set_option maxRecDepth 100000 in
theorem c_m_apart {G : UG} {adr : Nat → Nat} {h0 : Hp} {μ : Mu} (hJ : MJ (μ 1))   : Con G yX6_apart cX6_apart 7 (some .int) 5 114 0 0 [.ref (adr 0)] (MS G adr h0 μ) (fun vr_ h' => vr_ = some (.int (m_apart (μ 1))) ∧ MS G adr h0 (mset μ 0 0 (nI (m_apart_f0 (μ 1)))) h') nX := by
  refine con_of2 (plainFor_of_name (by decide)) rfl ?_
  intro F R Q RF RL RC RS hQ O hnh hnm
  obtain ⟨res, hres⟩ : ∃ z, z = (m_apart (μ 1)) := ⟨_, rfl⟩
  rw [← hres] at hQ
  unfold m_apart at hres
  obtain ⟨rs0, hrs0⟩ : ∃ z, z = m_apart_f0 (μ 1) := ⟨_, rfl⟩
  rw [← hrs0] at hQ
  unfold m_apart_f0 at hrs0
  have hI := hJ.1
  have hb5 : tn (μ 1 5) ≤ 20 := (hI 5 (by decide)).2
  refine x_eq (L' := [(0, .ref (adr 0))]) ?_ rfl rfl rfl
  refine x_aload_n O 0 dX6_apart_0 rfl rfl ?_
  refine x_iconst O (nI 0) dX6_apart_1 (by decide) ?_
  refine x_mputQ O p_X6_3_6 (mp_0 _ _ _) rfl dX6_apart_2 (μ' := (mset μ 0 0 (nI 0))) rfl ?_
  refine x_iconst O (nI 0) dX6_apart_5 (by decide) ?_
  refine x_istore_n O [(1, .int (nI 0)), (0, .ref (adr 0))] dX6_apart_6 rfl rfl rfl ?_
  refine x_iconst O (nI 0) dX6_apart_7 (by decide) ?_
  refine x_istore_n O [(2, .int (nI 0)), (1, .int (nI 0)), (0, .ref (adr 0))] dX6_apart_8 rfl rfl rfl ?_
  have LOOP9 : ∀ (cc_ : Nat) (i2_9 : Nat) (v1_9 : Nat), cc_ = tn (μ 1 5) - i2_9 → i2_9 < 2147483648 → (v1_9 ≤ 255) → (∀ (y0 : Nat), y0 = fr (fun i s => m_apart_b9 (μ 1) i s) cc_ i2_9 v1_9 → (y0 ≤ 255) → X G F R Q 7 48 [(1, .int (nI y0)), (0, .ref (adr 0))] [] (MS G adr h0 ((mset μ 0 0 (nI 0)))) 0 0) → X G F R Q 7 9 [(2, .int (nI i2_9)), (1, .int (nI v1_9)), (0, .ref (adr 0))] [] (MS G adr h0 ((mset μ 0 0 (nI 0)))) 0 0 := by
    intro cc_
    induction cc_ using Nat.strongRecOn with
    | ind cc_ IH_ =>
      intro i2_9 v1_9 hc_ hb_ hv_ K_
      refine x_iload_n O 0 dX6_apart_9 rfl rfl ?_
      refine x_aload_n O 2 dX6_apart_10 rfl rfl ?_
      refine x_mget O k_X6_13_6 (mg_1 _ _) dX6_apart_11 ?_
      refine x_iconst O (nI 5) dX6_apart_14 (by decide) ?_
      refine x_ialdN O MS.c1 (by omega) rfl dX6_apart_15 ?_
      refine x_top (v' := μ 1 5) (congrFun (mset_n (by decide)) 5) ?_
      refine x_top (v' := nI (tn (μ 1 5))) ((hJ.1 5 (by decide)).1) ?_
      refine x_icmpgeN O 48 (by omega) (by omega) dX6_apart_16 (by decide) (fun c16 => ?_) (fun c16 => ?_)
      · refine x_sub [1, 2] (L' := [(1, .int (nI v1_9)), (0, .ref (adr 0))]) rfl ?_
        obtain rfl : cc_ = 0 := by omega
        exact K_ _ rfl hv_
      · refine x_iload_n O 1 dX6_apart_19 rfl rfl ?_
        refine x_aload_n O 2 dX6_apart_20 rfl rfl ?_
        refine x_iload_n O 0 dX6_apart_21 rfl rfl ?_
        refine x_cV O 1 (c_m_fitsAll (μ := (mset μ 0 0 (nI 0))) hJ i2_9 (by omega)) MS.obj uc6 (lw_V q2199 q2201 qs94 q111 q2202) rfl hd_X6_fitsAll rfl (by rw [RF]; rfl) (by rw [RL]; rfl) ⟨Nat.zero_le _, Nat.zero_le _⟩ rfl rfl dX6_apart_22 ?_
        refine x_top (v' := b2i (m_fitsAll (μ 1) i2_9)) (by rw [show (mset μ 0 0 (nI 0)) 1 = μ 1 from (mset_n (by decide))]) ?_
        have J4 : ∀ (y1 : Int32), y1 = (if m_fitsAll (μ 1) i2_9 = true then (nI 1) <<< ((m_ofTelling (μ 1) i2_9 0) &&& 31) else nI 0) → X G F R Q 7 40 [(2, .int (nI i2_9)), (0, .ref (adr 0))] [.int y1, .int (nI v1_9)] (MS G adr h0 ((mset μ 0 0 (nI 0)))) 0 0 := by
          intro y1 e5
          subst e5
          refine x_ior O dX6_apart_40 ?_
          refine x_top (v' := nI (tn ((nI v1_9) ||| ((if m_fitsAll (μ 1) i2_9 = true then (nI 1) <<< ((m_ofTelling (μ 1) i2_9 0) &&& 31) else nI 0))))) ((ap_nn hJ (by omega) hv_).1) ?_
          refine x_istore_n O [(1, .int (nI (tn ((nI v1_9) ||| ((if m_fitsAll (μ 1) i2_9 = true then (nI 1) <<< ((m_ofTelling (μ 1) i2_9 0) &&& 31) else nI 0)))))), (2, .int (nI i2_9)), (0, .ref (adr 0))] dX6_apart_41 rfl rfl rfl ?_
          refine x_iincN O 1 [(2, .int (nI (i2_9 + 1))), (1, .int (nI (tn ((nI v1_9) ||| ((if m_fitsAll (μ 1) i2_9 = true then (nI 1) <<< ((m_ofTelling (μ 1) i2_9 0) &&& 31) else nI 0)))))), (0, .ref (adr 0))] dX6_apart_42 rfl rfl rfl ?_
          refine x_goto O 9 dX6_apart_45 (by decide) ?_
          obtain ⟨c2_, rfl⟩ : ∃ z, cc_ = z + 1 := ⟨cc_ - 1, by omega⟩
          have hs_ : (fun i s => m_apart_b9 (μ 1) i s) i2_9 v1_9 = tn ((nI v1_9) ||| ((if m_fitsAll (μ 1) i2_9 = true then (nI 1) <<< ((m_ofTelling (μ 1) i2_9 0) &&& 31) else nI 0))) := by show m_apart_b9 (μ 1) i2_9 v1_9 = _; unfold m_apart_b9; rfl
          exact IH_ c2_ (by omega) _ _ (by omega) (by omega) (ap_nn hJ (by omega) hv_).2 (fun y0 hy_ => K_ y0 (hy_.trans (fr_step hs_).symm))
        refine x_ifeqB O 39 dX6_apart_25 (by decide) (fun c25 => ?_) (fun c25 => ?_)
        · refine x_sub [0, 2] (L' := [(2, .int (nI i2_9)), (0, .ref (adr 0))]) rfl ?_
          refine x_iconst O (nI 0) dX6_apart_39 (by decide) ?_
          exact J4 (nI 0) (by rw [if_neg c25])
        · refine x_sub [0, 2] (L' := [(2, .int (nI i2_9)), (0, .ref (adr 0))]) rfl ?_
          refine x_iconst O (nI 1) dX6_apart_28 (by decide) ?_
          refine x_aload_n O 1 dX6_apart_29 rfl rfl ?_
          refine x_iload_n O 0 dX6_apart_30 rfl rfl ?_
          refine x_iconst O (nI 0) dX6_apart_31 (by decide) ?_
          refine x_cV O 2 (c_m_ofTelling (μ := (mset μ 0 0 (nI 0))) i2_9 0 (by omega) (by omega)) MS.obj uc6 (lw_V q2203 q2205 qs95 q111 q2206) rfl hd_X6_ofTelling rfl (by rw [RF]; rfl) (by rw [RL]; rfl) ⟨Nat.zero_le _, Nat.zero_le _⟩ rfl rfl dX6_apart_32 ?_
          refine x_top (v' := m_ofTelling (μ 1) i2_9 0) (by rw [show (mset μ 0 0 (nI 0)) 1 = μ 1 from (mset_n (by decide))]) ?_
          refine x_ishl O dX6_apart_35 ?_
          refine x_goto O 40 dX6_apart_36 (by decide) ?_
          exact J4 ((nI 1) <<< ((m_ofTelling (μ 1) i2_9 0) &&& 31)) (by rw [if_pos c25])
  refine LOOP9 (tn (μ 1 5)) 0 0 rfl (by omega) (by omega) (fun y0 hy_9 hx_ => ?_)
  subst hy_9
  refine x_iconst O (nI 0) dX6_apart_48 (by decide) ?_
  refine x_istore_n O [(2, .int (nI 0)), (1, .int (nI ((fr (fun i s => m_apart_b9 (μ 1) i s) (tn (μ 1 5)) 0 0)))), (0, .ref (adr 0))] dX6_apart_49 rfl rfl rfl ?_
  refine x_iconst O (nI 0) dX6_apart_50 (by decide) ?_
  refine x_istore_n O [(3, .int (nI 0)), (2, .int (nI 0)), (1, .int (nI ((fr (fun i s => m_apart_b9 (μ 1) i s) (tn (μ 1 5)) 0 0)))), (0, .ref (adr 0))] dX6_apart_51 rfl rfl rfl ?_
  have LOOP52 : ∀ (cc_ : Nat) (i3_52 : Nat) (v2_52 : Int32), cc_ = ((fr (fun i s => m_apart_b9 (μ 1) i s) (tn (μ 1 5)) 0 0)) + 1 - i3_52 → i3_52 < 2147483648 → (∀ (y0 : Int32), y0 = fr (fun i s => m_apart_b52 (μ 1) i s) cc_ i3_52 v2_52 → X G F R Q 7 164 [(2, .int y0), (0, .ref (adr 0))] [] (MS G adr h0 ((mset μ 0 0 (nI 0)))) 0 0) → X G F R Q 7 52 [(3, .int (nI i3_52)), (2, .int v2_52), (1, .int (nI ((fr (fun i s => m_apart_b9 (μ 1) i s) (tn (μ 1 5)) 0 0)))), (0, .ref (adr 0))] [] (MS G adr h0 ((mset μ 0 0 (nI 0)))) 0 0 := by
    intro cc_
    induction cc_ using Nat.strongRecOn with
    | ind cc_ IH_ =>
      intro i3_52 v2_52 hc_ hb_  K_
      refine x_iload_n O 0 dX6_apart_52 rfl rfl ?_
      refine x_iload_n O 2 dX6_apart_53 rfl rfl ?_
      refine x_icmpgtN O 164 (by omega) (by omega) dX6_apart_54 (by decide) (fun c54 => ?_) (fun c54 => ?_)
      · refine x_sub [1, 3] (L' := [(2, .int v2_52), (0, .ref (adr 0))]) rfl ?_
        obtain rfl : cc_ = 0 := by omega
        exact K_ _ rfl
      · refine x_iload_n O 0 dX6_apart_57 rfl rfl ?_
        refine x_iload_n O 2 dX6_apart_58 rfl rfl ?_
        refine x_iconst O ((-1)) dX6_apart_59 (by decide) ?_
        refine x_ixor O dX6_apart_60 ?_
        refine x_iand O dX6_apart_61 ?_
        have J6 : ∀ (y3 : Int32), y3 = (if ((nI i3_52) &&& ((nI ((fr (fun i s => m_apart_b9 (μ 1) i s) (tn (μ 1 5)) 0 0))) ^^^ ((-1)))) = 0 then (if v2_52 < (j_bits (nI i3_52)) then (if (fr (fun i s => m_apart_b82 (μ 1) i3_52 i s) 8 0 true) = true then j_bits (nI i3_52) else v2_52) else v2_52) else v2_52) → X G F R Q 7 158 [(3, .int (nI i3_52)), (2, .int y3), (1, .int (nI ((fr (fun i s => m_apart_b9 (μ 1) i s) (tn (μ 1 5)) 0 0)))), (0, .ref (adr 0))] [] (MS G adr h0 ((mset μ 0 0 (nI 0)))) 0 0 := by
          intro y3 e7
          subst e7
          refine x_iincN O 0 [(3, .int (nI (i3_52 + 1))), (2, .int ((if ((nI i3_52) &&& ((nI ((fr (fun i s => m_apart_b9 (μ 1) i s) (tn (μ 1 5)) 0 0))) ^^^ ((-1)))) = 0 then (if v2_52 < (j_bits (nI i3_52)) then (if (fr (fun i s => m_apart_b82 (μ 1) i3_52 i s) 8 0 true) = true then j_bits (nI i3_52) else v2_52) else v2_52) else v2_52))), (1, .int (nI ((fr (fun i s => m_apart_b9 (μ 1) i s) (tn (μ 1 5)) 0 0)))), (0, .ref (adr 0))] dX6_apart_158 rfl rfl rfl ?_
          refine x_goto O 52 dX6_apart_161 (by decide) ?_
          obtain ⟨c2_, rfl⟩ : ∃ z, cc_ = z + 1 := ⟨cc_ - 1, by omega⟩
          have hs_ : (fun i s => m_apart_b52 (μ 1) i s) i3_52 v2_52 = (if ((nI i3_52) &&& ((nI ((fr (fun i s => m_apart_b9 (μ 1) i s) (tn (μ 1 5)) 0 0))) ^^^ ((-1)))) = 0 then (if v2_52 < (j_bits (nI i3_52)) then (if (fr (fun i s => m_apart_b82 (μ 1) i3_52 i s) 8 0 true) = true then j_bits (nI i3_52) else v2_52) else v2_52) else v2_52) := by show m_apart_b52 (μ 1) i3_52 v2_52 = _; unfold m_apart_b52; rfl
          exact IH_ c2_ (by omega) _ _ (by omega) (by omega) (fun y0 hy_ => K_ y0 (hy_.trans (fr_step hs_).symm))
        refine x_ifne O 158 dX6_apart_62 (by decide) (fun c62 => ?_) (fun c62 => ?_)
        · exact J6 v2_52 (by rw [if_neg c62])
        · refine x_iload_n O 0 dX6_apart_65 rfl rfl ?_
          refine x_cS O 1 (c_j_bits (nI i3_52)) (lw_S q2105 q572 q142 q573) hd_J13_bitCount rfl (by rw [RF]; rfl) (by rw [RL]; rfl) ⟨Nat.zero_le _, Nat.zero_le _⟩ rfl rfl dX6_apart_66 ?_
          refine x_top (v' := j_bits (nI i3_52)) rfl ?_
          refine x_iload_n O 1 dX6_apart_69 rfl rfl ?_
          refine x_icmpgt O 76 dX6_apart_70 (by decide) (fun c70 => ?_) (fun c70 => ?_)
          · refine x_iconst O (nI 1) dX6_apart_76 (by decide) ?_
            refine x_top (v' := b2i true) (by decide) ?_
            refine x_istore O [(4, .int (b2i true)), (3, .int (nI i3_52)), (2, .int v2_52), (1, .int (nI ((fr (fun i s => m_apart_b9 (μ 1) i s) (tn (μ 1 5)) 0 0)))), (0, .ref (adr 0))] dX6_apart_77 rfl rfl ?_
            refine x_iconst O (nI 0) dX6_apart_79 (by decide) ?_
            refine x_istore O [(5, .int (nI 0)), (4, .int (b2i true)), (3, .int (nI i3_52)), (2, .int v2_52), (1, .int (nI ((fr (fun i s => m_apart_b9 (μ 1) i s) (tn (μ 1 5)) 0 0)))), (0, .ref (adr 0))] dX6_apart_80 rfl rfl ?_
            have LOOP82 : ∀ (cc_ : Nat) (i5_82 : Nat) (v4_82 : Bool), cc_ = 8 - i5_82 → i5_82 < 2147483648 → (∀ (y0 : Bool), y0 = fr (fun i s => m_apart_b82 (μ 1) i3_52 i s) cc_ i5_82 v4_82 → X G F R Q 7 148 [(4, .int (b2i y0)), (3, .int (nI i3_52)), (2, .int v2_52), (1, .int (nI ((fr (fun i s => m_apart_b9 (μ 1) i s) (tn (μ 1 5)) 0 0)))), (0, .ref (adr 0))] [] (MS G adr h0 ((mset μ 0 0 (nI 0)))) 0 0) → X G F R Q 7 82 [(5, .int (nI i5_82)), (4, .int (b2i v4_82)), (3, .int (nI i3_52)), (2, .int v2_52), (1, .int (nI ((fr (fun i s => m_apart_b9 (μ 1) i s) (tn (μ 1 5)) 0 0)))), (0, .ref (adr 0))] [] (MS G adr h0 ((mset μ 0 0 (nI 0)))) 0 0 := by
              intro cc_
              induction cc_ using Nat.strongRecOn with
              | ind cc_ IH_ =>
                intro i5_82 v4_82 hc_ hb_  K_
                refine x_iload O 0 dX6_apart_82 rfl ?_
                refine x_bipush O (nI 8) dX6_apart_84 (by decide) ?_
                refine x_icmpgeN O 148 (by omega) (by omega) dX6_apart_86 (by decide) (fun c86 => ?_) (fun c86 => ?_)
                · refine x_sub [1, 2, 3, 4, 5] (L' := [(4, .int (b2i v4_82)), (3, .int (nI i3_52)), (2, .int v2_52), (1, .int (nI ((fr (fun i s => m_apart_b9 (μ 1) i s) (tn (μ 1 5)) 0 0)))), (0, .ref (adr 0))]) rfl ?_
                  obtain rfl : cc_ = 0 := by omega
                  exact K_ _ rfl
                · refine x_iconst O (nI 0) dX6_apart_89 (by decide) ?_
                  refine x_istore O [(6, .int (nI 0)), (5, .int (nI i5_82)), (4, .int (b2i v4_82)), (3, .int (nI i3_52)), (2, .int v2_52), (1, .int (nI ((fr (fun i s => m_apart_b9 (μ 1) i s) (tn (μ 1 5)) 0 0)))), (0, .ref (adr 0))] dX6_apart_90 rfl rfl ?_
                  have LOOP92 : ∀ (cc_ : Nat) (i6_92 : Nat) (v4_92 : Bool), cc_ = i5_82 - i6_92 → i6_92 < 2147483648 → (∀ (y0 : Bool), y0 = fr (fun i s => m_apart_b92 (μ 1) i3_52 i5_82 i s) cc_ i6_92 v4_92 → X G F R Q 7 142 [(5, .int (nI i5_82)), (4, .int (b2i y0)), (3, .int (nI i3_52)), (2, .int v2_52), (1, .int (nI ((fr (fun i s => m_apart_b9 (μ 1) i s) (tn (μ 1 5)) 0 0)))), (0, .ref (adr 0))] [] (MS G adr h0 ((mset μ 0 0 (nI 0)))) 0 0) → X G F R Q 7 92 [(6, .int (nI i6_92)), (5, .int (nI i5_82)), (4, .int (b2i v4_92)), (3, .int (nI i3_52)), (2, .int v2_52), (1, .int (nI ((fr (fun i s => m_apart_b9 (μ 1) i s) (tn (μ 1 5)) 0 0)))), (0, .ref (adr 0))] [] (MS G adr h0 ((mset μ 0 0 (nI 0)))) 0 0 := by
                    intro cc_
                    induction cc_ using Nat.strongRecOn with
                    | ind cc_ IH_ =>
                      intro i6_92 v4_92 hc_ hb_  K_
                      refine x_iload O 0 dX6_apart_92 rfl ?_
                      refine x_iload O 1 dX6_apart_94 rfl ?_
                      refine x_icmpgeN O 142 (by omega) (by omega) dX6_apart_96 (by decide) (fun c96 => ?_) (fun c96 => ?_)
                      · refine x_sub [1, 2, 3, 4, 5, 6] (L' := [(5, .int (nI i5_82)), (4, .int (b2i v4_92)), (3, .int (nI i3_52)), (2, .int v2_52), (1, .int (nI ((fr (fun i s => m_apart_b9 (μ 1) i s) (tn (μ 1 5)) 0 0)))), (0, .ref (adr 0))]) rfl ?_
                        obtain rfl : cc_ = 0 := by omega
                        exact K_ _ rfl
                      · refine x_iload O 2 dX6_apart_99 rfl ?_
                        have J8 : ∀ (y2 : Bool), y2 = (if v4_92 = true then (if ((((nI i3_52) >>> ((nI i5_82) &&& 31)) &&& ((nI i3_52) >>> ((nI i6_92) &&& 31))) &&& (nI 1)) = 0 then true else (if m_mayHaveTalked (μ 1) i5_82 i6_92 = true then false else true)) else false) → X G F R Q 7 134 [(6, .int (nI i6_92)), (5, .int (nI i5_82)), (3, .int (nI i3_52)), (2, .int v2_52), (1, .int (nI ((fr (fun i s => m_apart_b9 (μ 1) i s) (tn (μ 1 5)) 0 0)))), (0, .ref (adr 0))] [.int (b2i y2)] (MS G adr h0 ((mset μ 0 0 (nI 0)))) 0 0 := by
                          intro y2 e9
                          subst e9
                          refine x_istore O [(4, .int (b2i ((if v4_92 = true then (if ((((nI i3_52) >>> ((nI i5_82) &&& 31)) &&& ((nI i3_52) >>> ((nI i6_92) &&& 31))) &&& (nI 1)) = 0 then true else (if m_mayHaveTalked (μ 1) i5_82 i6_92 = true then false else true)) else false)))), (6, .int (nI i6_92)), (5, .int (nI i5_82)), (3, .int (nI i3_52)), (2, .int v2_52), (1, .int (nI ((fr (fun i s => m_apart_b9 (μ 1) i s) (tn (μ 1 5)) 0 0)))), (0, .ref (adr 0))] dX6_apart_134 rfl rfl ?_
                          refine x_iincN O 1 [(6, .int (nI (i6_92 + 1))), (4, .int (b2i ((if v4_92 = true then (if ((((nI i3_52) >>> ((nI i5_82) &&& 31)) &&& ((nI i3_52) >>> ((nI i6_92) &&& 31))) &&& (nI 1)) = 0 then true else (if m_mayHaveTalked (μ 1) i5_82 i6_92 = true then false else true)) else false)))), (5, .int (nI i5_82)), (3, .int (nI i3_52)), (2, .int v2_52), (1, .int (nI ((fr (fun i s => m_apart_b9 (μ 1) i s) (tn (μ 1 5)) 0 0)))), (0, .ref (adr 0))] dX6_apart_136 rfl rfl rfl ?_
                          refine x_goto O 92 dX6_apart_139 (by decide) ?_
                          obtain ⟨c2_, rfl⟩ : ∃ z, cc_ = z + 1 := ⟨cc_ - 1, by omega⟩
                          refine x_sub [0, 2, 1, 3, 4, 5, 6] rfl ?_
                          have hs_ : (fun i s => m_apart_b92 (μ 1) i3_52 i5_82 i s) i6_92 v4_92 = (if v4_92 = true then (if ((((nI i3_52) >>> ((nI i5_82) &&& 31)) &&& ((nI i3_52) >>> ((nI i6_92) &&& 31))) &&& (nI 1)) = 0 then true else (if m_mayHaveTalked (μ 1) i5_82 i6_92 = true then false else true)) else false) := by show m_apart_b92 (μ 1) i3_52 i5_82 i6_92 v4_92 = _; unfold m_apart_b92; rfl
                          exact IH_ c2_ (by omega) _ _ (by omega) (by omega) (fun y0 hy_ => K_ y0 (hy_.trans (fr_step hs_).symm))
                        refine x_ifeqB O 133 dX6_apart_101 (by decide) (fun c101 => ?_) (fun c101 => ?_)
                        · refine x_sub [0, 1, 3, 4, 5, 6] (L' := [(6, .int (nI i6_92)), (5, .int (nI i5_82)), (3, .int (nI i3_52)), (2, .int v2_52), (1, .int (nI ((fr (fun i s => m_apart_b9 (μ 1) i s) (tn (μ 1 5)) 0 0)))), (0, .ref (adr 0))]) rfl ?_
                          refine x_iconst O (nI 0) dX6_apart_133 (by decide) ?_
                          refine x_top (v' := b2i false) (by decide) ?_
                          exact J8 false (by rw [if_neg c101])
                        · refine x_sub [0, 1, 3, 4, 5, 6] (L' := [(6, .int (nI i6_92)), (5, .int (nI i5_82)), (3, .int (nI i3_52)), (2, .int v2_52), (1, .int (nI ((fr (fun i s => m_apart_b9 (μ 1) i s) (tn (μ 1 5)) 0 0)))), (0, .ref (adr 0))]) rfl ?_
                          refine x_iload_n O 2 dX6_apart_104 rfl rfl ?_
                          refine x_iload O 1 dX6_apart_105 rfl ?_
                          refine x_ishr O dX6_apart_107 ?_
                          refine x_iload_n O 2 dX6_apart_108 rfl rfl ?_
                          refine x_iload O 0 dX6_apart_109 rfl ?_
                          refine x_ishr O dX6_apart_111 ?_
                          refine x_iand O dX6_apart_112 ?_
                          refine x_iconst O (nI 1) dX6_apart_113 (by decide) ?_
                          refine x_iand O dX6_apart_114 ?_
                          refine x_ifeq O 129 dX6_apart_115 (by decide) (fun c115 => ?_) (fun c115 => ?_)
                          · refine x_iconst O (nI 1) dX6_apart_129 (by decide) ?_
                            refine x_goto O 134 dX6_apart_130 (by decide) ?_
                            refine x_top (v' := b2i true) (by decide) ?_
                            exact J8 true (by first | (rw [if_pos c101, if_pos c115]; done) | simp only [if_pos c101, if_pos c115])
                          · refine x_aload_n O 5 dX6_apart_118 rfl rfl ?_
                            refine x_iload O 1 dX6_apart_119 rfl ?_
                            refine x_iload O 0 dX6_apart_121 rfl ?_
                            refine x_cV O 2 (c_m_mayHaveTalked (μ := (mset μ 0 0 (nI 0))) hI i5_82 i6_92 (by omega) (by omega)) MS.obj uc6 (lw_V q2219 q2221 qs98 q111 q2222) rfl hd_X6_mayHaveTalked rfl (by rw [RF]; rfl) (by rw [RL]; rfl) ⟨Nat.zero_le _, Nat.zero_le _⟩ rfl rfl dX6_apart_123 ?_
                            refine x_top (v' := b2i (m_mayHaveTalked (μ 1) i5_82 i6_92)) (by rw [show (mset μ 0 0 (nI 0)) 1 = μ 1 from (mset_n (by decide))]) ?_
                            refine x_ifneB O 133 dX6_apart_126 (by decide) (fun c126 => ?_) (fun c126 => ?_)
                            · refine x_iconst O (nI 0) dX6_apart_133 (by decide) ?_
                              refine x_top (v' := b2i false) (by decide) ?_
                              exact J8 false (by first | (rw [if_pos c101, if_neg c115, if_pos c126]; done) | simp only [if_pos c101, if_neg c115, if_pos c126])
                            · refine x_iconst O (nI 1) dX6_apart_129 (by decide) ?_
                              refine x_goto O 134 dX6_apart_130 (by decide) ?_
                              refine x_top (v' := b2i true) (by decide) ?_
                              exact J8 true (by first | (rw [if_pos c101, if_neg c115, if_neg c126]; done) | simp only [if_pos c101, if_neg c115, if_neg c126])
                  refine LOOP92 i5_82 0 v4_82 rfl (by omega) (fun y0 hy_92 => ?_)
                  subst hy_92
                  refine x_iincN O 0 [(5, .int (nI (i5_82 + 1))), (4, .int (b2i ((fr (fun i s => m_apart_b92 (μ 1) i3_52 i5_82 i s) i5_82 0 v4_82)))), (3, .int (nI i3_52)), (2, .int v2_52), (1, .int (nI ((fr (fun i s => m_apart_b9 (μ 1) i s) (tn (μ 1 5)) 0 0)))), (0, .ref (adr 0))] dX6_apart_142 rfl rfl rfl ?_
                  refine x_goto O 82 dX6_apart_145 (by decide) ?_
                  obtain ⟨c2_, rfl⟩ : ∃ z, cc_ = z + 1 := ⟨cc_ - 1, by omega⟩
                  have hs_ : (fun i s => m_apart_b82 (μ 1) i3_52 i s) i5_82 v4_82 = (fr (fun i s => m_apart_b92 (μ 1) i3_52 i5_82 i s) i5_82 0 v4_82) := by show m_apart_b82 (μ 1) i3_52 i5_82 v4_82 = _; unfold m_apart_b82; rfl
                  exact IH_ c2_ (by omega) _ _ (by omega) (by omega) (fun y0 hy_ => K_ y0 (hy_.trans (fr_step hs_).symm))
            refine LOOP82 8 0 true rfl (by omega) (fun y0 hy_82 => ?_)
            subst hy_82
            refine x_iload O 0 dX6_apart_148 rfl ?_
            refine x_ifeqB O 158 dX6_apart_150 (by decide) (fun c150 => ?_) (fun c150 => ?_)
            · refine x_sub [1, 2, 3, 4] (L' := [(3, .int (nI i3_52)), (2, .int v2_52), (1, .int (nI ((fr (fun i s => m_apart_b9 (μ 1) i s) (tn (μ 1 5)) 0 0)))), (0, .ref (adr 0))]) rfl ?_
              exact J6 v2_52 (by first | (rw [if_pos c62, if_pos c70, if_neg c150]; done) | simp only [if_pos c62, if_pos c70, if_neg c150])
            · refine x_sub [1, 3, 4] (L' := [(3, .int (nI i3_52)), (1, .int (nI ((fr (fun i s => m_apart_b9 (μ 1) i s) (tn (μ 1 5)) 0 0)))), (0, .ref (adr 0))]) rfl ?_
              refine x_iload_n O 0 dX6_apart_153 rfl rfl ?_
              refine x_cS O 1 (c_j_bits (nI i3_52)) (lw_S q2105 q572 q142 q573) hd_J13_bitCount rfl (by rw [RF]; rfl) (by rw [RL]; rfl) ⟨Nat.zero_le _, Nat.zero_le _⟩ rfl rfl dX6_apart_154 ?_
              refine x_top (v' := j_bits (nI i3_52)) rfl ?_
              refine x_istore_n O [(2, .int (j_bits (nI i3_52))), (3, .int (nI i3_52)), (1, .int (nI ((fr (fun i s => m_apart_b9 (μ 1) i s) (tn (μ 1 5)) 0 0)))), (0, .ref (adr 0))] dX6_apart_157 rfl rfl rfl ?_
              refine x_sub [1, 0, 2, 3] rfl ?_
              exact J6 (j_bits (nI i3_52)) (by first | (rw [if_pos c62, if_pos c70, if_pos c150]; done) | simp only [if_pos c62, if_pos c70, if_pos c150])
          · refine x_goto O 158 dX6_apart_73 (by decide) ?_
            exact J6 v2_52 (by first | (rw [if_pos c62, if_neg c70]; done) | simp only [if_pos c62, if_neg c70])
  refine LOOP52 (((fr (fun i s => m_apart_b9 (μ 1) i s) (tn (μ 1 5)) 0 0)) + 1) 0 (nI 0) rfl (by omega) (fun y0 hy_52 => ?_)
  subst hy_52
  refine x_iload_n O 0 dX6_apart_164 rfl rfl ?_
  exact x_iretQ O hQ rfl dX6_apart_165 (fun h m => ⟨by rw [hres], by rw [hrs0]; exact m.eq rfl⟩)

def m_about (W : Nat → Int32) (find : Int32) (what : Int32) : Int32 :=
  (if m_none W find 3 = true then nI 0 else (if (if m_in what (nI 0) (nI 7) = true then false else true) = true then nI 0 else (if (nI 4) ≤ what then (if what = (nI 4) then (if m_isSeen W (tn find) = true then nI 1 else nI 0) else (if what = (nI 5) then m_mayBe W (tn find) else m_ofFind W (tn find) (tn what - 2))) else m_ofFind W (tn find) (tn what))))
def m_about_f0 (W : Nat → Int32) (find : Int32) (what : Int32) : Nat :=
  (if m_none W find 3 = true then 1 else (if (if m_in what (nI 0) (nI 7) = true then false else true) = true then 2 else 0))
set_option maxHeartbeats 1000000 in
set_option maxRecDepth 100000 in
theorem c_m_about {G : UG} {adr : Nat → Nat} {h0 : Hp} {μ : Mu} (hI : MI (μ 1)) (find : Int32) (what : Int32)  : Con G yX6_about cX6_about 3 (some .int) 3 67 0 0 [.ref (adr 0), .int find, .int what] (MS G adr h0 μ) (fun vr_ h' => vr_ = some (.int (m_about (μ 1) find what)) ∧ MS G adr h0 (mset μ 0 0 (nI (m_about_f0 (μ 1) find what))) h') nX := by
  refine con_of2 (plainFor_of_name (by decide)) rfl ?_
  intro F R Q RF RL RC RS hQ O hnh hnm
  obtain ⟨res, hres⟩ : ∃ z, z = (m_about (μ 1) find what) := ⟨_, rfl⟩
  rw [← hres] at hQ
  unfold m_about at hres
  obtain ⟨rs0, hrs0⟩ : ∃ z, z = m_about_f0 (μ 1) find what := ⟨_, rfl⟩
  rw [← hrs0] at hQ
  unfold m_about_f0 at hrs0
  have hb3 : tn (μ 1 3) ≤ 120 := (hI 3 (by decide)).2
  refine x_eq (L' := [(0, .ref (adr 0)), (1, .int find), (2, .int what)]) ?_ rfl rfl rfl
  refine x_aload_n O 0 dX6_about_0 rfl rfl ?_
  refine x_iconst O (nI 0) dX6_about_1 (by decide) ?_
  refine x_mputQ O p_X6_3_6 (mp_0 _ _ _) rfl dX6_about_2 (μ' := (mset μ 0 0 (nI 0))) rfl ?_
  refine x_aload_n O 0 dX6_about_5 rfl rfl ?_
  refine x_aload_n O 0 dX6_about_6 rfl rfl ?_
  refine x_iload_n O 1 dX6_about_7 rfl rfl ?_
  refine x_iconst O (nI 3) dX6_about_8 (by decide) ?_
  refine x_cV O 2 (c_m_none (μ := (mset μ 0 0 (nI 0))) find 3 (by omega)) MS.obj uc6 (lw_V q1964 q1966 qs59 q111 q1967) rfl hd_X6_none rfl (by rw [RF]; rfl) (by rw [RL]; rfl) ⟨Nat.zero_le _, Nat.zero_le _⟩ rfl rfl dX6_about_9 ?_
  refine x_top (v' := b2i (m_none (μ 1) find 3)) (by rw [show (mset μ 0 0 (nI 0)) 1 = μ 1 from (mset_n (by decide))]) ?_
  refine x_iconst O (nI 1) dX6_about_12 (by decide) ?_
  refine x_bc (m_none (μ 1) find 3) (fun c13 => ?_) (fun c13 => ?_)
  · have hr3 := hres.trans (if_pos c13)
    have hr4 := hrs0.trans (if_pos c13)
    refine x_eq (st' := [.int (nI 1), .int (b2i true), .ref (adr 0)]) ?_ rfl rfl (by rw [c13] <;> rfl)
    refine x_cV O 2 (c_m_throwsIf_t (μ := (mset μ 0 0 (nI 0))) 1) MS.obj uc6 (lw_V q1774 q1776 qs34 q111 q1777) rfl hd_X6_throwsIf rfl (by rw [RF]; rfl) (by rw [RL]; rfl) ⟨Nat.zero_le _, Nat.zero_le _⟩ rfl rfl dX6_about_13 ?_
    refine x_top (v' := b2i true) rfl ?_
    refine x_weak (Ω' := MS G adr h0 (mset μ 0 0 (nI 1))) (fun _ m => m.eq ff_s) ?_
    refine x_ifneB O 42 dX6_about_16 (by decide) (fun _ => ?_) (fun c => absurd rfl c)
    refine x_sub [0] (L' := [(0, .ref (adr 0))]) rfl ?_
    refine x_iconst O (nI 0) dX6_about_42 (by decide) ?_
    exact x_iretQ O hQ rfl dX6_about_43 (fun h m => ⟨by rw [hr3], by rw [hr4]; exact m.eq rfl⟩)
  · have hr5 := hres.trans (if_neg c13)
    have hr6 := hrs0.trans (if_neg c13)
    refine x_eq (st' := [.int (nI 1), .int (b2i false), .ref (adr 0)]) ?_ rfl rfl (by rw [bfalse c13] <;> rfl)
    refine x_cV O 2 (c_m_throwsIf_f (μ := (mset μ 0 0 (nI 0))) 1) MS.obj uc6 (lw_V q1774 q1776 qs34 q111 q1777) rfl hd_X6_throwsIf rfl (by rw [RF]; rfl) (by rw [RL]; rfl) ⟨Nat.zero_le _, Nat.zero_le _⟩ rfl rfl dX6_about_13 ?_
    refine x_top (v' := b2i false) rfl ?_
    refine x_ifneB O 42 dX6_about_16 (by decide) (fun c => absurd c (by decide)) (fun _ => ?_)
    refine x_aload_n O 0 dX6_about_19 rfl rfl ?_
    refine x_iload_n O 2 dX6_about_20 rfl rfl ?_
    refine x_iconst O (nI 0) dX6_about_21 (by decide) ?_
    refine x_bipush O (nI 7) dX6_about_22 (by decide) ?_
    refine x_cS O 3 (c_m_in what (nI 0) (nI 7)) (lw_S q1771 q1772 q111 q1773) hd_X6_in rfl (by rw [RF]; rfl) (by rw [RL]; rfl) ⟨Nat.zero_le _, Nat.zero_le _⟩ rfl rfl dX6_about_24 ?_
    refine x_top (v' := b2i (m_in what (nI 0) (nI 7))) rfl ?_
    have J7 : ∀ (y1 : Bool), y1 = (if m_in what (nI 0) (nI 7) = true then false else true) → X G F R Q 3 35 [(0, .ref (adr 0)), (1, .int find), (2, .int what)] [.int (b2i y1), .ref (adr 0)] (MS G adr h0 ((mset μ 0 0 (nI 0)))) 0 0 := by
      intro y1 e8
      subst e8
      refine x_iconst O (nI 2) dX6_about_35 (by decide) ?_
      refine x_bc ((if m_in what (nI 0) (nI 7) = true then false else true)) (fun c36 => ?_) (fun c36 => ?_)
      · have hr9 := hr5.trans (if_pos c36)
        have hr10 := hr6.trans (if_pos c36)
        refine x_eq (st' := [.int (nI 2), .int (b2i true), .ref (adr 0)]) ?_ rfl rfl (by rw [c36] <;> rfl)
        refine x_cV O 2 (c_m_throwsIf_t (μ := (mset μ 0 0 (nI 0))) 2) MS.obj uc6 (lw_V q1774 q1776 qs34 q111 q1777) rfl hd_X6_throwsIf rfl (by rw [RF]; rfl) (by rw [RL]; rfl) ⟨Nat.zero_le _, Nat.zero_le _⟩ rfl rfl dX6_about_36 ?_
        refine x_top (v' := b2i true) rfl ?_
        refine x_weak (Ω' := MS G adr h0 (mset μ 0 0 (nI 2))) (fun _ m => m.eq ff_s) ?_
        refine x_ifeqB O 44 dX6_about_39 (by decide) (fun c => absurd rfl c) (fun _ => ?_)
        refine x_sub [0] (L' := [(0, .ref (adr 0))]) rfl ?_
        refine x_iconst O (nI 0) dX6_about_42 (by decide) ?_
        exact x_iretQ O hQ rfl dX6_about_43 (fun h m => ⟨by rw [hr9], by rw [hr10]; exact m.eq rfl⟩)
      · have hr11 := hr5.trans (if_neg c36)
        have hr12 := hr6.trans (if_neg c36)
        refine x_eq (st' := [.int (nI 2), .int (b2i false), .ref (adr 0)]) ?_ rfl rfl (by rw [bfalse c36] <;> rfl)
        refine x_cV O 2 (c_m_throwsIf_f (μ := (mset μ 0 0 (nI 0))) 2) MS.obj uc6 (lw_V q1774 q1776 qs34 q111 q1777) rfl hd_X6_throwsIf rfl (by rw [RF]; rfl) (by rw [RL]; rfl) ⟨Nat.zero_le _, Nat.zero_le _⟩ rfl rfl dX6_about_36 ?_
        refine x_top (v' := b2i false) rfl ?_
        refine x_ifeqB O 44 dX6_about_39 (by decide) (fun _ => ?_) (fun c => absurd c (by decide))
        refine x_iload_n O 2 dX6_about_44 rfl rfl ?_
        refine x_iconst O (nI 4) dX6_about_45 (by decide) ?_
        have J13 : ∀ (y2 : Int32), y2 = (if (nI 4) ≤ what then (if what = (nI 4) then (if m_isSeen (μ 1) (tn find) = true then nI 1 else nI 0) else (if what = (nI 5) then m_mayBe (μ 1) (tn find) else m_ofFind (μ 1) (tn find) (tn what - 2))) else m_ofFind (μ 1) (tn find) (tn what)) → X G F R Q 3 100 [(0, .ref (adr 0))] [.int y2] (MS G adr h0 ((mset μ 0 0 (nI 0)))) 0 0 := by
          intro y2 e14
          subst e14
          exact x_iretQ O hQ rfl dX6_about_100 (fun h m => ⟨by rw [hr11], by rw [hr12]; exact m.eq rfl⟩)
        refine x_icmpge O 58 dX6_about_46 (by decide) (fun c46 => ?_) (fun c46 => ?_)
        · refine x_iload_n O 2 dX6_about_58 rfl rfl ?_
          refine x_iconst O (nI 4) dX6_about_59 (by decide) ?_
          refine x_icmpne O 79 dX6_about_60 (by decide) (fun c60 => ?_) (fun c60 => ?_)
          · refine x_iload_n O 2 dX6_about_79 rfl rfl ?_
            refine x_iconst O (nI 5) dX6_about_80 (by decide) ?_
            refine x_icmpne O 92 dX6_about_81 (by decide) (fun c81 => ?_) (fun c81 => ?_)
            · refine x_aload_n O 0 dX6_about_92 rfl rfl ?_
              refine x_iload_n O 1 dX6_about_93 rfl rfl ?_
              refine x_top (v' := nI (tn find)) ((none_nn (w := 3) (by decide) hI c13).1) ?_
              refine x_iload_n O 2 dX6_about_94 rfl rfl ?_
              refine x_iconst O (nI 2) dX6_about_95 (by decide) ?_
              refine x_isub O dX6_about_96 ?_
              refine x_top (v' := nI (tn what - 2)) ((about67 (in_nn (ntf c36) (by decide)) c46 c60 c81).1) ?_
              refine x_cV O 2 (c_m_ofFind (μ := (mset μ 0 0 (nI 0))) (tn find) (tn what - 2) (by have := (none_nn (w := 3) (by decide) hI c13).2; omega) (about67 (in_nn (ntf c36) (by decide)) c46 c60 c81).2) MS.obj uc6 (lw_V q2054 q2056 qs75 q111 q2057) rfl hd_X6_ofFind rfl (by rw [RF]; rfl) (by rw [RL]; rfl) ⟨Nat.zero_le _, Nat.zero_le _⟩ rfl rfl dX6_about_97 ?_
              refine x_top (v' := m_ofFind (μ 1) (tn find) (tn what - 2)) (by rw [show (mset μ 0 0 (nI 0)) 1 = μ 1 from (mset_n (by decide))]) ?_
              refine x_sub [0] rfl ?_
              exact J13 (m_ofFind (μ 1) (tn find) (tn what - 2)) (by first | (rw [if_pos c46, if_neg c60, if_neg c81]; done) | simp only [if_pos c46, if_neg c60, if_neg c81])
            · refine x_sub [0, 1] (L' := [(0, .ref (adr 0)), (1, .int find)]) rfl ?_
              refine x_aload_n O 0 dX6_about_84 rfl rfl ?_
              refine x_iload_n O 1 dX6_about_85 rfl rfl ?_
              refine x_top (v' := nI (tn find)) ((none_nn (w := 3) (by decide) hI c13).1) ?_
              refine x_cV O 1 (c_m_mayBe (μ := (mset μ 0 0 (nI 0))) hI (tn find) (by have := (none_nn (w := 3) (by decide) hI c13).2; omega)) MS.obj uc6 (lw_V q2066 q2068 qs78 q111 q2069) rfl hd_X6_mayBe rfl (by rw [RF]; rfl) (by rw [RL]; rfl) ⟨Nat.zero_le _, Nat.zero_le _⟩ rfl rfl dX6_about_86 ?_
              refine x_top (v' := m_mayBe (μ 1) (tn find)) (by rw [show (mset μ 0 0 (nI 0)) 1 = μ 1 from (mset_n (by decide))]) ?_
              refine x_goto O 100 dX6_about_89 (by decide) ?_
              refine x_sub [0] (L' := [(0, .ref (adr 0))]) rfl ?_
              exact J13 (m_mayBe (μ 1) (tn find)) (by first | (rw [if_pos c46, if_neg c60, if_pos c81]; done) | simp only [if_pos c46, if_neg c60, if_pos c81])
          · refine x_sub [0, 1] (L' := [(0, .ref (adr 0)), (1, .int find)]) rfl ?_
            refine x_aload_n O 0 dX6_about_63 rfl rfl ?_
            refine x_iload_n O 1 dX6_about_64 rfl rfl ?_
            refine x_top (v' := nI (tn find)) ((none_nn (w := 3) (by decide) hI c13).1) ?_
            refine x_cV O 1 (c_m_isSeen (μ := (mset μ 0 0 (nI 0))) (tn find) (by have := (none_nn (w := 3) (by decide) hI c13).2; omega)) MS.obj uc6 (lw_V q2058 q2060 qs76 q111 q2061) rfl hd_X6_isSeen rfl (by rw [RF]; rfl) (by rw [RL]; rfl) ⟨Nat.zero_le _, Nat.zero_le _⟩ rfl rfl dX6_about_65 ?_
            refine x_top (v' := b2i (m_isSeen (μ 1) (tn find))) (by rw [show (mset μ 0 0 (nI 0)) 1 = μ 1 from (mset_n (by decide))]) ?_
            refine x_ifeqB O 75 dX6_about_68 (by decide) (fun c68 => ?_) (fun c68 => ?_)
            · refine x_sub [0] (L' := [(0, .ref (adr 0))]) rfl ?_
              refine x_iconst O (nI 0) dX6_about_75 (by decide) ?_
              refine x_goto O 100 dX6_about_76 (by decide) ?_
              exact J13 (nI 0) (by first | (rw [if_pos c46, if_pos c60, if_neg c68]; done) | simp only [if_pos c46, if_pos c60, if_neg c68])
            · refine x_sub [0] (L' := [(0, .ref (adr 0))]) rfl ?_
              refine x_iconst O (nI 1) dX6_about_71 (by decide) ?_
              refine x_goto O 100 dX6_about_72 (by decide) ?_
              exact J13 (nI 1) (by first | (rw [if_pos c46, if_pos c60, if_pos c68]; done) | simp only [if_pos c46, if_pos c60, if_pos c68])
        · refine x_aload_n O 0 dX6_about_49 rfl rfl ?_
          refine x_iload_n O 1 dX6_about_50 rfl rfl ?_
          refine x_top (v' := nI (tn find)) ((none_nn (w := 3) (by decide) hI c13).1) ?_
          refine x_iload_n O 2 dX6_about_51 rfl rfl ?_
          refine x_top (v' := nI (tn what)) ((nn_lt (b := 3) (in_spec.mp (ntf c36)).1 c46 (by decide)).1) ?_
          refine x_cV O 2 (c_m_ofFind (μ := (mset μ 0 0 (nI 0))) (tn find) (tn what) (by have := (none_nn (w := 3) (by decide) hI c13).2; omega) (by have := (nn_lt (b := 3) (in_spec.mp (ntf c36)).1 c46 (by decide)).2; omega)) MS.obj uc6 (lw_V q2054 q2056 qs75 q111 q2057) rfl hd_X6_ofFind rfl (by rw [RF]; rfl) (by rw [RL]; rfl) ⟨Nat.zero_le _, Nat.zero_le _⟩ rfl rfl dX6_about_52 ?_
          refine x_top (v' := m_ofFind (μ 1) (tn find) (tn what)) (by rw [show (mset μ 0 0 (nI 0)) 1 = μ 1 from (mset_n (by decide))]) ?_
          refine x_goto O 100 dX6_about_55 (by decide) ?_
          refine x_sub [0] (L' := [(0, .ref (adr 0))]) rfl ?_
          exact J13 (m_ofFind (μ 1) (tn find) (tn what)) (by rw [if_neg c46])
    refine x_ifneB O 34 dX6_about_27 (by decide) (fun c27 => ?_) (fun c27 => ?_)
    · refine x_iconst O (nI 0) dX6_about_34 (by decide) ?_
      refine x_top (v' := b2i false) (by decide) ?_
      exact J7 false (by rw [if_pos c27])
    · refine x_iconst O (nI 1) dX6_about_30 (by decide) ?_
      refine x_goto O 35 dX6_about_31 (by decide) ?_
      refine x_top (v' := b2i true) (by decide) ?_
      exact J7 true (by rw [if_neg c27])

def m_feed_b60 (C3 : Nat → Int32) (C4 : Nat → Int32) (F5 : Int32) (a : Int32) (b : Int32) (c : Int32) (d : Int32) (e : Int32) (i6_60 : Nat) (a3_60 : (Nat → Int32)) : (Nat → Int32) :=
  ups a3_60 (tn F5 + i6_60) ((((ups (ups (ups (ups (ups C4 0 a) 1 b) 2 c) 3 d) 4 e) (i6_60 / 4)) >>> (((nI 24) - (nI (8 * (i6_60 % 4)))) &&& 31)).toInt8.toInt32)
def m_feed (C3 : Nat → Int32) (C4 : Nat → Int32) (F5 : Int32) (a : Int32) (b : Int32) (c : Int32) (d : Int32) (e : Int32) : Int32 :=
  (if tn F5 + 20 ≤ 400 then nI (tn F5 + 20) else (-1))
def m_feed_f0 (C3 : Nat → Int32) (C4 : Nat → Int32) (F5 : Int32) (a : Int32) (b : Int32) (c : Int32) (d : Int32) (e : Int32) : Nat :=
  0
def m_feed_f5 (C3 : Nat → Int32) (C4 : Nat → Int32) (F5 : Int32) (a : Int32) (b : Int32) (c : Int32) (d : Int32) (e : Int32) : Nat :=
  (if tn F5 + 20 ≤ 400 then tn F5 + 20 else tn F5)
def m_feed_c3 (C3 : Nat → Int32) (C4 : Nat → Int32) (F5 : Int32) (a : Int32) (b : Int32) (c : Int32) (d : Int32) (e : Int32) : Nat → Int32 :=
  (if tn F5 + 20 ≤ 400 then (fr (fun i s => m_feed_b60 C3 C4 F5 a b c d e i s) 20 0 C3) else C3)
def m_feed_c4 (C3 : Nat → Int32) (C4 : Nat → Int32) (F5 : Int32) (a : Int32) (b : Int32) (c : Int32) (d : Int32) (e : Int32) : Nat → Int32 :=
  (if tn F5 + 20 ≤ 400 then ups (ups (ups (ups (ups C4 0 a) 1 b) 2 c) 3 d) 4 e else C4)
set_option maxHeartbeats 1000000 in
set_option maxRecDepth 100000 in
theorem c_m_feed {G : UG} {adr : Nat → Nat} {h0 : Hp} {μ : Mu} (ht : nn (μ 0 5) 400) (a : Int32) (b : Int32) (c : Int32) (d : Int32) (e : Int32)  : Con G yX6_feed cX6_feed 7 (some .int) 0 0 0 0 [.ref (adr 0), .int a, .int b, .int c, .int d, .int e] (MS G adr h0 μ) (fun vr_ h' => vr_ = some (.int (m_feed (μ 3) (μ 4) (μ 0 5) a b c d e)) ∧ MS G adr h0 (mc (mc (mset (mset μ 0 0 (nI (m_feed_f0 (μ 3) (μ 4) (μ 0 5) a b c d e))) 0 5 (nI (m_feed_f5 (μ 3) (μ 4) (μ 0 5) a b c d e))) 3 (m_feed_c3 (μ 3) (μ 4) (μ 0 5) a b c d e)) 4 (m_feed_c4 (μ 3) (μ 4) (μ 0 5) a b c d e)) h') nX := by
  refine con_of2 (plainFor_of_name (by decide)) rfl ?_
  intro F R Q RF RL RC RS hQ O hnh hnm
  obtain ⟨res, hres⟩ : ∃ z, z = (m_feed (μ 3) (μ 4) (μ 0 5) a b c d e) := ⟨_, rfl⟩
  rw [← hres] at hQ
  unfold m_feed at hres
  obtain ⟨rs0, hrs0⟩ : ∃ z, z = m_feed_f0 (μ 3) (μ 4) (μ 0 5) a b c d e := ⟨_, rfl⟩
  rw [← hrs0] at hQ
  unfold m_feed_f0 at hrs0
  obtain ⟨rs1, hrs1⟩ : ∃ z, z = m_feed_f5 (μ 3) (μ 4) (μ 0 5) a b c d e := ⟨_, rfl⟩
  rw [← hrs1] at hQ
  unfold m_feed_f5 at hrs1
  obtain ⟨rs2, hrs2⟩ : ∃ z, z = m_feed_c3 (μ 3) (μ 4) (μ 0 5) a b c d e := ⟨_, rfl⟩
  rw [← hrs2] at hQ
  unfold m_feed_c3 at hrs2
  obtain ⟨rs3, hrs3⟩ : ∃ z, z = m_feed_c4 (μ 3) (μ 4) (μ 0 5) a b c d e := ⟨_, rfl⟩
  rw [← hrs3] at hQ
  unfold m_feed_c4 at hrs3
  have htb := ht.2
  refine x_eq (L' := [(0, .ref (adr 0)), (1, .int a), (2, .int b), (3, .int c), (4, .int d), (5, .int e)]) ?_ rfl rfl rfl
  refine x_aload_n O 0 dX6_feed_0 rfl rfl ?_
  refine x_iconst O (nI 0) dX6_feed_1 (by decide) ?_
  refine x_mputQ O p_X6_3_6 (mp_0 _ _ _) rfl dX6_feed_2 (μ' := (mset μ 0 0 (nI 0))) rfl ?_
  refine x_aload_n O 0 dX6_feed_5 rfl rfl ?_
  refine x_mget O k_X6_103_6 (mg_5 _ _) dX6_feed_6 ?_
  refine x_top (v' := nI (tn (μ 0 5))) ((rd_skip (by decide)).trans (ht.1)) ?_
  refine x_bipush O (nI 20) dX6_feed_9 (by decide) ?_
  refine x_iaddN O dX6_feed_11 ?_
  refine x_sipush O (nI 400) dX6_feed_12 (by decide) ?_
  refine x_icmpleN O 20 (by omega) (by omega) dX6_feed_15 (by decide) (fun c15 => ?_) (fun c15 => ?_)
  · have hr1 := hres.trans (if_pos c15)
    have hr2 := hrs1.trans (if_pos c15)
    have hr3 := hrs2.trans (if_pos c15)
    have hr4 := hrs3.trans (if_pos c15)
    refine x_aload_n O 0 dX6_feed_20 rfl rfl ?_
    refine x_mget O k_X6_27_6 (mg_11 _ _) dX6_feed_21 ?_
    refine x_iconst O (nI 0) dX6_feed_24 (by decide) ?_
    refine x_iload_n O 1 dX6_feed_25 rfl rfl ?_
    refine x_mastQ O 3 MS.c4 rfl rfl rfl (by omega) rfl dX6_feed_26 (μ' := (mc (mset μ 0 0 (nI 0)) 4 (ups (μ 4) 0 a))) (w_new (f := μ 4) (by rfl)) ?_
    refine x_aload_n O 0 dX6_feed_27 rfl rfl ?_
    refine x_mget O k_X6_27_6 (mg_11 _ _) dX6_feed_28 ?_
    refine x_iconst O (nI 1) dX6_feed_31 (by decide) ?_
    refine x_iload_n O 2 dX6_feed_32 rfl rfl ?_
    refine x_mastQ O 3 MS.c4 rfl rfl rfl (by omega) rfl dX6_feed_33 (μ' := (mc (mset μ 0 0 (nI 0)) 4 (ups (ups (μ 4) 0 a) 1 b))) wc_s ?_
    refine x_aload_n O 0 dX6_feed_34 rfl rfl ?_
    refine x_mget O k_X6_27_6 (mg_11 _ _) dX6_feed_35 ?_
    refine x_iconst O (nI 2) dX6_feed_38 (by decide) ?_
    refine x_iload_n O 3 dX6_feed_39 rfl rfl ?_
    refine x_mastQ O 3 MS.c4 rfl rfl rfl (by omega) rfl dX6_feed_40 (μ' := (mc (mset μ 0 0 (nI 0)) 4 (ups (ups (ups (μ 4) 0 a) 1 b) 2 c))) wc_s ?_
    refine x_aload_n O 0 dX6_feed_41 rfl rfl ?_
    refine x_mget O k_X6_27_6 (mg_11 _ _) dX6_feed_42 ?_
    refine x_iconst O (nI 3) dX6_feed_45 (by decide) ?_
    refine x_iload O 4 dX6_feed_46 rfl ?_
    refine x_mastQ O 3 MS.c4 rfl rfl rfl (by omega) rfl dX6_feed_48 (μ' := (mc (mset μ 0 0 (nI 0)) 4 (ups (ups (ups (ups (μ 4) 0 a) 1 b) 2 c) 3 d))) wc_s ?_
    refine x_aload_n O 0 dX6_feed_49 rfl rfl ?_
    refine x_mget O k_X6_27_6 (mg_11 _ _) dX6_feed_50 ?_
    refine x_iconst O (nI 4) dX6_feed_53 (by decide) ?_
    refine x_iload O 5 dX6_feed_54 rfl ?_
    refine x_mastQ O 3 MS.c4 rfl rfl rfl (by omega) rfl dX6_feed_56 (μ' := (mc (mset μ 0 0 (nI 0)) 4 (ups (ups (ups (ups (ups (μ 4) 0 a) 1 b) 2 c) 3 d) 4 e))) wc_s ?_
    refine x_iconst O (nI 0) dX6_feed_57 (by decide) ?_
    refine x_istore O [(6, .int (nI 0)), (0, .ref (adr 0)), (1, .int a), (2, .int b), (3, .int c), (4, .int d), (5, .int e)] dX6_feed_58 rfl rfl ?_
    refine x_sub [0, 1] (L' := [(6, .int (nI 0)), (0, .ref (adr 0))]) rfl ?_
    have LOOP60 : ∀ (cc_ : Nat) (i6_60 : Nat) (a3_60 : (Nat → Int32)), cc_ = 20 - i6_60 → i6_60 < 2147483648 → (∀ (y0 : (Nat → Int32)), y0 = fr (fun i s => m_feed_b60 (μ 3) (μ 4) (μ 0 5) a b c d e i s) cc_ i6_60 a3_60 → X G F R Q 7 106 [(0, .ref (adr 0))] [] (MS G adr h0 ((mc (mc (mset μ 0 0 (nI 0)) 3 y0) 4 (ups (ups (ups (ups (ups (μ 4) 0 a) 1 b) 2 c) 3 d) 4 e)))) 0 0) → X G F R Q 7 60 [(6, .int (nI i6_60)), (0, .ref (adr 0))] [] (MS G adr h0 ((mc (mc (mset μ 0 0 (nI 0)) 3 a3_60) 4 (ups (ups (ups (ups (ups (μ 4) 0 a) 1 b) 2 c) 3 d) 4 e)))) 0 0 := by
      intro cc_
      induction cc_ using Nat.strongRecOn with
      | ind cc_ IH_ =>
        intro i6_60 a3_60 hc_ hb_  K_
        refine x_iload O 0 dX6_feed_60 rfl ?_
        refine x_bipush O (nI 20) dX6_feed_62 (by decide) ?_
        refine x_icmpgeN O 106 (by omega) (by omega) dX6_feed_64 (by decide) (fun c64 => ?_) (fun c64 => ?_)
        · refine x_sub [1] (L' := [(0, .ref (adr 0))]) rfl ?_
          obtain rfl : cc_ = 0 := by omega
          exact K_ _ rfl
        · refine x_aload_n O 1 dX6_feed_67 rfl rfl ?_
          refine x_mget O k_X6_20_6 (mg_4 _ _) dX6_feed_68 ?_
          refine x_aload_n O 1 dX6_feed_71 rfl rfl ?_
          refine x_mget O k_X6_103_6 (mg_5 _ _) dX6_feed_72 ?_
          refine x_top (v' := nI (tn (μ 0 5))) ((congrFun (mc_n (by decide)) 5).trans ((congrFun (mc_n (by decide)) 5).trans ((rd_skip (by decide)).trans (ht.1)))) ?_
          refine x_iload O 0 dX6_feed_75 rfl ?_
          refine x_iaddN O dX6_feed_77 ?_
          refine x_aload_n O 1 dX6_feed_78 rfl rfl ?_
          refine x_mget O k_X6_27_6 (mg_11 _ _) dX6_feed_79 ?_
          refine x_iload O 0 dX6_feed_82 rfl ?_
          refine x_iconst O (nI 4) dX6_feed_84 (by decide) ?_
          refine x_idivN O (by omega) (by decide) (by decide) dX6_feed_85 ?_
          refine x_ialdN O MS.c4 (by omega) rfl dX6_feed_86 ?_
          refine x_top (v' := (ups (ups (ups (ups (ups (μ 4) 0 a) 1 b) 2 c) 3 d) 4 e) (i6_60 / 4)) (congrFun mc_s (i6_60 / 4)) ?_
          refine x_bipush O (nI 24) dX6_feed_87 (by decide) ?_
          refine x_bipush O (nI 8) dX6_feed_89 (by decide) ?_
          refine x_iload O 0 dX6_feed_91 rfl ?_
          refine x_iconst O (nI 4) dX6_feed_93 (by decide) ?_
          refine x_iremN O (by omega) (by decide) (by decide) dX6_feed_94 ?_
          refine x_imulN O dX6_feed_95 ?_
          refine x_isub O dX6_feed_96 ?_
          refine x_ishr O dX6_feed_97 ?_
          refine x_i2b O dX6_feed_98 ?_
          refine x_mbstQ O 2 MS.c3 rfl rfl rfl (by omega) rfl dX6_feed_99 (pk_vb _) (μ' := (mc (mc (mset μ 0 0 (nI 0)) 3 (ups a3_60 (tn (μ 0 5) + i6_60) ((((ups (ups (ups (ups (ups (μ 4) 0 a) 1 b) 2 c) 3 d) 4 e) (i6_60 / 4)) >>> (((nI 24) - (nI (8 * (i6_60 % 4)))) &&& 31)).toInt8.toInt32))) 4 (ups (ups (ups (ups (ups (μ 4) 0 a) 1 b) 2 c) 3 d) 4 e))) ((wc_n (by decide)).trans (congrArg (fun m_ => mc m_ 4 _) wc_s)) ?_
          refine x_iincN O 0 [(6, .int (nI (i6_60 + 1))), (0, .ref (adr 0))] dX6_feed_100 rfl rfl rfl ?_
          refine x_goto O 60 dX6_feed_103 (by decide) ?_
          obtain ⟨c2_, rfl⟩ : ∃ z, cc_ = z + 1 := ⟨cc_ - 1, by omega⟩
          have hs_ : (fun i s => m_feed_b60 (μ 3) (μ 4) (μ 0 5) a b c d e i s) i6_60 a3_60 = ups a3_60 (tn (μ 0 5) + i6_60) ((((ups (ups (ups (ups (ups (μ 4) 0 a) 1 b) 2 c) 3 d) 4 e) (i6_60 / 4)) >>> (((nI 24) - (nI (8 * (i6_60 % 4)))) &&& 31)).toInt8.toInt32) := by show m_feed_b60 (μ 3) (μ 4) (μ 0 5) a b c d e i6_60 a3_60 = _; unfold m_feed_b60; rfl
          exact IH_ c2_ (by omega) _ _ (by omega) (by omega) (fun y0 hy_ => K_ y0 (hy_.trans (fr_step hs_).symm))
    refine x_weak (Ω' := MS G adr h0 ((mc (mc (mset μ 0 0 (nI 0)) 3 (μ 3)) 4 (ups (ups (ups (ups (ups (μ 4) 0 a) 1 b) 2 c) 3 d) 4 e)))) (fun _ m => m.eq ((mc_id (c := 3) (f := μ 3) (by rfl)).symm.trans (cc_n (by decide)))) ?_
    refine LOOP60 20 0 (μ 3) rfl (by omega) (fun y0 hy_60 => ?_)
    subst hy_60
    refine x_aload_n O 0 dX6_feed_106 rfl rfl ?_
    refine x_dup O dX6_feed_107 rfl ?_
    refine x_mget O k_X6_103_6 (mg_5 _ _) dX6_feed_108 ?_
    refine x_top (v' := nI (tn (μ 0 5))) ((congrFun (mc_n (by decide)) 5).trans ((congrFun (mc_n (by decide)) 5).trans ((rd_skip (by decide)).trans (ht.1)))) ?_
    refine x_bipush O (nI 20) dX6_feed_111 (by decide) ?_
    refine x_iaddN O dX6_feed_113 ?_
    refine x_mputQ O p_X6_103_6 (mp_5 _ _ _) rfl dX6_feed_114 (μ' := (mc (mc (mset (mset μ 0 0 (nI 0)) 0 5 (nI (tn (μ 0 5) + 20))) 3 ((fr (fun i s => m_feed_b60 (μ 3) (μ 4) (μ 0 5) a b c d e i s) 20 0 (μ 3)))) 4 (ups (ups (ups (ups (ups (μ 4) 0 a) 1 b) 2 c) 3 d) 4 e))) ((wc_n (by decide)).trans (congrArg (fun m_ => mc m_ 4 _) (wc_n (by decide)))) ?_
    refine x_aload_n O 0 dX6_feed_117 rfl rfl ?_
    refine x_mget O k_X6_103_6 (mg_5 _ _) dX6_feed_118 ?_
    refine x_top (v' := nI (tn (μ 0 5) + 20)) ((congrFun (mc_n (by decide)) 5).trans ((congrFun (mc_n (by decide)) 5).trans rd_hit)) ?_
    exact x_iretQ O hQ rfl dX6_feed_121 (fun h m => ⟨by rw [hr1], by rw [hrs0, hr2, hr3, hr4]; exact m.eq rfl⟩)
  · have hr5 := hres.trans (if_neg c15)
    have hr6 := hrs1.trans (if_neg c15)
    have hr7 := hrs2.trans (if_neg c15)
    have hr8 := hrs3.trans (if_neg c15)
    refine x_sub [0] (L' := [(0, .ref (adr 0))]) rfl ?_
    refine x_iconst O ((-1)) dX6_feed_18 (by decide) ?_
    exact x_iretQ O hQ rfl dX6_feed_19 (fun h m => ⟨by rw [hr5], by rw [hrs0, hr6, hr7, hr8]; exact m.eq ((mf_id (k := 5) (v := nI (tn (μ 0 5))) (by exact (ht.1))).symm.trans ((mc_id (c := 3) (f := μ 3) (by rfl)).symm.trans (mc_id (c := 4) (f := μ 4) (by rfl)).symm))⟩)

def m_count_b88 (W : Nat → Int32)  (i3_88 : Nat) (v2_88 : Int32) : Int32 :=
  v2_88 + (m_of W i3_88 3)
def m_count_b175 (W : Nat → Int32)  (i3_175 : Nat) (v2_175 : Int32) : Int32 :=
  v2_175 + (W (269 + 4 * i3_175 + 3))
def m_count (W : Nat → Int32) (what : Int32) : Int32 :=
  (if what = nI 0 then nI (tn (W 0)) else (if what = nI 1 then nI (tn (W 1)) else (if what = nI 2 then (fr (fun i s => m_count_b88 W i s) (tn (W 1)) 0 (nI 0)) else (if what = nI 3 then nI (tn (W 2)) else (if what = nI 4 then nI (tn (W 3)) else (if what = nI 5 then nI (m_seenMany W) else (if what = nI 6 then nI (tn (W 7)) else (if what = nI 7 then nI (tn (W 4)) else (if what = nI 8 then nI (tn (W 5)) else (if what = nI 9 then nI (tn (W 6)) else (if what = nI 10 then j_bits (W 12) else (if what = nI 11 then (fr (fun i s => m_count_b175 W i s) (tn (W 0)) 0 (nI 0)) else (-1)))))))))))))
def m_count_f0 (W : Nat → Int32) (what : Int32) : Nat :=
  0
set_option maxHeartbeats 1000000 in
set_option maxRecDepth 100000 in
theorem c_m_count {G : UG} {adr : Nat → Nat} {h0 : Hp} {μ : Mu} (hI : MI (μ 1)) (what : Int32)  : Con G yX6_count cX6_count 4 (some .int) 4 86 0 0 [.ref (adr 0), .int what] (MS G adr h0 μ) (fun vr_ h' => vr_ = some (.int (m_count (μ 1) what)) ∧ MS G adr h0 (mset μ 0 0 (nI (m_count_f0 (μ 1) what))) h') nX := by
  refine con_of2 (plainFor_of_name (by decide)) rfl ?_
  intro F R Q RF RL RC RS hQ O hnh hnm
  obtain ⟨res, hres⟩ : ∃ z, z = (m_count (μ 1) what) := ⟨_, rfl⟩
  rw [← hres] at hQ
  unfold m_count at hres
  obtain ⟨rs0, hrs0⟩ : ∃ z, z = m_count_f0 (μ 1) what := ⟨_, rfl⟩
  rw [← hrs0] at hQ
  unfold m_count_f0 at hrs0
  have hb0 : tn (μ 1 0) ≤ 8 := (hI 0 (by decide)).2
  have hb1 : tn (μ 1 1) ≤ 8 := (hI 1 (by decide)).2
  refine x_eq (L' := [(0, .ref (adr 0)), (1, .int what)]) ?_ rfl rfl rfl
  refine x_aload_n O 0 dX6_count_0 rfl rfl ?_
  refine x_iconst O (nI 0) dX6_count_1 (by decide) ?_
  refine x_mputQ O p_X6_3_6 (mp_0 _ _ _) rfl dX6_count_2 (μ' := (mset μ 0 0 (nI 0))) rfl ?_
  refine x_iconst O (nI 0) dX6_count_5 (by decide) ?_
  refine x_istore_n O [(2, .int (nI 0)), (0, .ref (adr 0)), (1, .int what)] dX6_count_6 rfl rfl rfl ?_
  refine x_iload_n O 2 dX6_count_7 rfl rfl ?_
  refine x_dc (what = nI 0) (fun c8_0 => ?_) (fun c8_0 => ?_)
  · have hr1 := hres.trans (if_pos c8_0)
    refine x_tabIn O 72 dX6_count_8 (by rw [c8_0]; decide) (by rw [c8_0]; decide) (by rw [c8_0]; rfl) (by decide) ?_
    refine x_sub [1] (L' := [(0, .ref (adr 0))]) rfl ?_
    refine x_aload_n O 0 dX6_count_72 rfl rfl ?_
    refine x_mget O k_X6_13_6 (mg_1 _ _) dX6_count_73 ?_
    refine x_iconst O (nI 0) dX6_count_76 (by decide) ?_
    refine x_ialdN O MS.c1 (by omega) rfl dX6_count_77 ?_
    refine x_top (v' := μ 1 0) (congrFun (mset_n (by decide)) 0) ?_
    refine x_top (v' := nI (tn (μ 1 0))) ((hI 0 (by decide)).1) ?_
    exact x_iretQ O hQ rfl dX6_count_78 (fun h m => ⟨by rw [hr1], by rw [hrs0]; exact m.eq rfl⟩)
  · have hr2 := hres.trans (if_neg c8_0)
    refine x_dc (what = nI 1) (fun c8_1 => ?_) (fun c8_1 => ?_)
    · have hr3 := hr2.trans (if_pos c8_1)
      refine x_tabIn O 79 dX6_count_8 (by rw [c8_1]; decide) (by rw [c8_1]; decide) (by rw [c8_1]; rfl) (by decide) ?_
      refine x_sub [1] (L' := [(0, .ref (adr 0))]) rfl ?_
      refine x_aload_n O 0 dX6_count_79 rfl rfl ?_
      refine x_mget O k_X6_13_6 (mg_1 _ _) dX6_count_80 ?_
      refine x_iconst O (nI 1) dX6_count_83 (by decide) ?_
      refine x_ialdN O MS.c1 (by omega) rfl dX6_count_84 ?_
      refine x_top (v' := μ 1 1) (congrFun (mset_n (by decide)) 1) ?_
      refine x_top (v' := nI (tn (μ 1 1))) ((hI 1 (by decide)).1) ?_
      exact x_iretQ O hQ rfl dX6_count_85 (fun h m => ⟨by rw [hr3], by rw [hrs0]; exact m.eq rfl⟩)
    · have hr4 := hr2.trans (if_neg c8_1)
      refine x_dc (what = nI 2) (fun c8_2 => ?_) (fun c8_2 => ?_)
      · have hr5 := hr4.trans (if_pos c8_2)
        refine x_tabIn O 86 dX6_count_8 (by rw [c8_2]; decide) (by rw [c8_2]; decide) (by rw [c8_2]; rfl) (by decide) ?_
        refine x_sub [0, 1] (L' := [(2, .int (nI 0)), (0, .ref (adr 0))]) rfl ?_
        refine x_iconst O (nI 0) dX6_count_86 (by decide) ?_
        refine x_istore_n O [(3, .int (nI 0)), (2, .int (nI 0)), (0, .ref (adr 0))] dX6_count_87 rfl rfl rfl ?_
        have LOOP88 : ∀ (cc_ : Nat) (i3_88 : Nat) (v2_88 : Int32), cc_ = tn (μ 1 1) - i3_88 → i3_88 < 2147483648 → (∀ (y0 : Int32), y0 = fr (fun i s => m_count_b88 (μ 1) i s) cc_ i3_88 v2_88 → X G F R Q 4 113 [(2, .int y0), (0, .ref (adr 0))] [] (MS G adr h0 ((mset μ 0 0 (nI 0)))) 0 0) → X G F R Q 4 88 [(3, .int (nI i3_88)), (2, .int v2_88), (0, .ref (adr 0))] [] (MS G adr h0 ((mset μ 0 0 (nI 0)))) 0 0 := by
          intro cc_
          induction cc_ using Nat.strongRecOn with
          | ind cc_ IH_ =>
            intro i3_88 v2_88 hc_ hb_  K_
            refine x_iload_n O 0 dX6_count_88 rfl rfl ?_
            refine x_aload_n O 2 dX6_count_89 rfl rfl ?_
            refine x_mget O k_X6_13_6 (mg_1 _ _) dX6_count_90 ?_
            refine x_iconst O (nI 1) dX6_count_93 (by decide) ?_
            refine x_ialdN O MS.c1 (by omega) rfl dX6_count_94 ?_
            refine x_top (v' := μ 1 1) (congrFun (mset_n (by decide)) 1) ?_
            refine x_top (v' := nI (tn (μ 1 1))) ((hI 1 (by decide)).1) ?_
            refine x_icmpgeN O 113 (by omega) (by omega) dX6_count_95 (by decide) (fun c95 => ?_) (fun c95 => ?_)
            · refine x_sub [1, 2] (L' := [(2, .int v2_88), (0, .ref (adr 0))]) rfl ?_
              obtain rfl : cc_ = 0 := by omega
              exact K_ _ rfl
            · refine x_iload_n O 1 dX6_count_98 rfl rfl ?_
              refine x_aload_n O 2 dX6_count_99 rfl rfl ?_
              refine x_iload_n O 0 dX6_count_100 rfl rfl ?_
              refine x_iconst O (nI 3) dX6_count_101 (by decide) ?_
              refine x_cV O 2 (c_m_of (μ := (mset μ 0 0 (nI 0))) i3_88 3 (by omega) (by omega)) MS.obj uc6 (lw_V q1968 q1970 qs60 q111 q1971) rfl hd_X6_of rfl (by rw [RF]; rfl) (by rw [RL]; rfl) ⟨Nat.zero_le _, Nat.zero_le _⟩ rfl rfl dX6_count_102 ?_
              refine x_top (v' := m_of (μ 1) i3_88 3) (by rw [show (mset μ 0 0 (nI 0)) 1 = μ 1 from (mset_n (by decide))]) ?_
              refine x_iadd O dX6_count_105 ?_
              refine x_istore_n O [(2, .int (v2_88 + (m_of (μ 1) i3_88 3))), (3, .int (nI i3_88)), (0, .ref (adr 0))] dX6_count_106 rfl rfl rfl ?_
              refine x_iincN O 1 [(3, .int (nI (i3_88 + 1))), (2, .int (v2_88 + (m_of (μ 1) i3_88 3))), (0, .ref (adr 0))] dX6_count_107 rfl rfl rfl ?_
              refine x_goto O 88 dX6_count_110 (by decide) ?_
              obtain ⟨c2_, rfl⟩ : ∃ z, cc_ = z + 1 := ⟨cc_ - 1, by omega⟩
              have hs_ : (fun i s => m_count_b88 (μ 1) i s) i3_88 v2_88 = v2_88 + (m_of (μ 1) i3_88 3) := by show m_count_b88 (μ 1) i3_88 v2_88 = _; unfold m_count_b88; rfl
              exact IH_ c2_ (by omega) _ _ (by omega) (by omega) (fun y0 hy_ => K_ y0 (hy_.trans (fr_step hs_).symm))
        refine LOOP88 (tn (μ 1 1)) 0 (nI 0) rfl (by omega) (fun y0 hy_88 => ?_)
        subst hy_88
        refine x_iload_n O 0 dX6_count_113 rfl rfl ?_
        exact x_iretQ O hQ rfl dX6_count_114 (fun h m => ⟨by rw [hr5], by rw [hrs0]; exact m.eq rfl⟩)
      · have hr6 := hr4.trans (if_neg c8_2)
        refine x_dc (what = nI 3) (fun c8_3 => ?_) (fun c8_3 => ?_)
        · have hr7 := hr6.trans (if_pos c8_3)
          refine x_tabIn O 115 dX6_count_8 (by rw [c8_3]; decide) (by rw [c8_3]; decide) (by rw [c8_3]; rfl) (by decide) ?_
          refine x_sub [1] (L' := [(0, .ref (adr 0))]) rfl ?_
          refine x_aload_n O 0 dX6_count_115 rfl rfl ?_
          refine x_mget O k_X6_13_6 (mg_1 _ _) dX6_count_116 ?_
          refine x_iconst O (nI 2) dX6_count_119 (by decide) ?_
          refine x_ialdN O MS.c1 (by omega) rfl dX6_count_120 ?_
          refine x_top (v' := μ 1 2) (congrFun (mset_n (by decide)) 2) ?_
          refine x_top (v' := nI (tn (μ 1 2))) ((hI 2 (by decide)).1) ?_
          exact x_iretQ O hQ rfl dX6_count_121 (fun h m => ⟨by rw [hr7], by rw [hrs0]; exact m.eq rfl⟩)
        · have hr8 := hr6.trans (if_neg c8_3)
          refine x_dc (what = nI 4) (fun c8_4 => ?_) (fun c8_4 => ?_)
          · have hr9 := hr8.trans (if_pos c8_4)
            refine x_tabIn O 122 dX6_count_8 (by rw [c8_4]; decide) (by rw [c8_4]; decide) (by rw [c8_4]; rfl) (by decide) ?_
            refine x_sub [1] (L' := [(0, .ref (adr 0))]) rfl ?_
            refine x_aload_n O 0 dX6_count_122 rfl rfl ?_
            refine x_cV O 0 (c_m_finds (μ := (mset μ 0 0 (nI 0)))) MS.obj uc6 (lw_V q2042 q2044 qs74 q111 q2045) rfl hd_X6_finds rfl (by rw [RF]; rfl) (by rw [RL]; rfl) ⟨Nat.zero_le _, Nat.zero_le _⟩ rfl rfl dX6_count_123 ?_
            refine x_top (v' := μ 1 3) (m_finds_u _) ?_
            refine x_top (v' := nI (tn (μ 1 3))) ((hI 3 (by decide)).1) ?_
            exact x_iretQ O hQ rfl dX6_count_126 (fun h m => ⟨by rw [hr9], by rw [hrs0]; exact m.eq rfl⟩)
          · have hr10 := hr8.trans (if_neg c8_4)
            refine x_dc (what = nI 5) (fun c8_5 => ?_) (fun c8_5 => ?_)
            · have hr11 := hr10.trans (if_pos c8_5)
              refine x_tabIn O 127 dX6_count_8 (by rw [c8_5]; decide) (by rw [c8_5]; decide) (by rw [c8_5]; rfl) (by decide) ?_
              refine x_sub [1] (L' := [(0, .ref (adr 0))]) rfl ?_
              refine x_aload_n O 0 dX6_count_127 rfl rfl ?_
              refine x_cV O 0 (c_m_seenMany (μ := (mset μ 0 0 (nI 0))) hI) MS.obj uc6 (lw_V q2089 q2091 qs80 q111 q2092) rfl hd_X6_seenMany rfl (by rw [RF]; rfl) (by rw [RL]; rfl) ⟨Nat.zero_le _, Nat.zero_le _⟩ rfl rfl dX6_count_128 ?_
              refine x_top (v' := nI (m_seenMany (μ 1))) (by rw [show (mset μ 0 0 (nI 0)) 1 = μ 1 from (mset_n (by decide))]) ?_
              exact x_iretQ O hQ rfl dX6_count_131 (fun h m => ⟨by rw [hr11], by rw [hrs0]; exact m.eq rfl⟩)
            · have hr12 := hr10.trans (if_neg c8_5)
              refine x_dc (what = nI 6) (fun c8_6 => ?_) (fun c8_6 => ?_)
              · have hr13 := hr12.trans (if_pos c8_6)
                refine x_tabIn O 132 dX6_count_8 (by rw [c8_6]; decide) (by rw [c8_6]; decide) (by rw [c8_6]; rfl) (by decide) ?_
                refine x_sub [1] (L' := [(0, .ref (adr 0))]) rfl ?_
                refine x_aload_n O 0 dX6_count_132 rfl rfl ?_
                refine x_mget O k_X6_13_6 (mg_1 _ _) dX6_count_133 ?_
                refine x_bipush O (nI 7) dX6_count_136 (by decide) ?_
                refine x_ialdN O MS.c1 (by omega) rfl dX6_count_138 ?_
                refine x_top (v' := μ 1 7) (congrFun (mset_n (by decide)) 7) ?_
                refine x_top (v' := nI (tn (μ 1 7))) ((hI 7 (by decide)).1) ?_
                exact x_iretQ O hQ rfl dX6_count_139 (fun h m => ⟨by rw [hr13], by rw [hrs0]; exact m.eq rfl⟩)
              · have hr14 := hr12.trans (if_neg c8_6)
                refine x_dc (what = nI 7) (fun c8_7 => ?_) (fun c8_7 => ?_)
                · have hr15 := hr14.trans (if_pos c8_7)
                  refine x_tabIn O 140 dX6_count_8 (by rw [c8_7]; decide) (by rw [c8_7]; decide) (by rw [c8_7]; rfl) (by decide) ?_
                  refine x_sub [1] (L' := [(0, .ref (adr 0))]) rfl ?_
                  refine x_aload_n O 0 dX6_count_140 rfl rfl ?_
                  refine x_mget O k_X6_13_6 (mg_1 _ _) dX6_count_141 ?_
                  refine x_iconst O (nI 4) dX6_count_144 (by decide) ?_
                  refine x_ialdN O MS.c1 (by omega) rfl dX6_count_145 ?_
                  refine x_top (v' := μ 1 4) (congrFun (mset_n (by decide)) 4) ?_
                  refine x_top (v' := nI (tn (μ 1 4))) ((hI 4 (by decide)).1) ?_
                  exact x_iretQ O hQ rfl dX6_count_146 (fun h m => ⟨by rw [hr15], by rw [hrs0]; exact m.eq rfl⟩)
                · have hr16 := hr14.trans (if_neg c8_7)
                  refine x_dc (what = nI 8) (fun c8_8 => ?_) (fun c8_8 => ?_)
                  · have hr17 := hr16.trans (if_pos c8_8)
                    refine x_tabIn O 147 dX6_count_8 (by rw [c8_8]; decide) (by rw [c8_8]; decide) (by rw [c8_8]; rfl) (by decide) ?_
                    refine x_sub [1] (L' := [(0, .ref (adr 0))]) rfl ?_
                    refine x_aload_n O 0 dX6_count_147 rfl rfl ?_
                    refine x_mget O k_X6_13_6 (mg_1 _ _) dX6_count_148 ?_
                    refine x_iconst O (nI 5) dX6_count_151 (by decide) ?_
                    refine x_ialdN O MS.c1 (by omega) rfl dX6_count_152 ?_
                    refine x_top (v' := μ 1 5) (congrFun (mset_n (by decide)) 5) ?_
                    refine x_top (v' := nI (tn (μ 1 5))) ((hI 5 (by decide)).1) ?_
                    exact x_iretQ O hQ rfl dX6_count_153 (fun h m => ⟨by rw [hr17], by rw [hrs0]; exact m.eq rfl⟩)
                  · have hr18 := hr16.trans (if_neg c8_8)
                    refine x_dc (what = nI 9) (fun c8_9 => ?_) (fun c8_9 => ?_)
                    · have hr19 := hr18.trans (if_pos c8_9)
                      refine x_tabIn O 154 dX6_count_8 (by rw [c8_9]; decide) (by rw [c8_9]; decide) (by rw [c8_9]; rfl) (by decide) ?_
                      refine x_sub [1] (L' := [(0, .ref (adr 0))]) rfl ?_
                      refine x_aload_n O 0 dX6_count_154 rfl rfl ?_
                      refine x_mget O k_X6_13_6 (mg_1 _ _) dX6_count_155 ?_
                      refine x_bipush O (nI 6) dX6_count_158 (by decide) ?_
                      refine x_ialdN O MS.c1 (by omega) rfl dX6_count_160 ?_
                      refine x_top (v' := μ 1 6) (congrFun (mset_n (by decide)) 6) ?_
                      refine x_top (v' := nI (tn (μ 1 6))) ((hI 6 (by decide)).1) ?_
                      exact x_iretQ O hQ rfl dX6_count_161 (fun h m => ⟨by rw [hr19], by rw [hrs0]; exact m.eq rfl⟩)
                    · have hr20 := hr18.trans (if_neg c8_9)
                      refine x_dc (what = nI 10) (fun c8_10 => ?_) (fun c8_10 => ?_)
                      · have hr21 := hr20.trans (if_pos c8_10)
                        refine x_tabIn O 162 dX6_count_8 (by rw [c8_10]; decide) (by rw [c8_10]; decide) (by rw [c8_10]; rfl) (by decide) ?_
                        refine x_sub [1] (L' := [(0, .ref (adr 0))]) rfl ?_
                        refine x_aload_n O 0 dX6_count_162 rfl rfl ?_
                        refine x_mget O k_X6_13_6 (mg_1 _ _) dX6_count_163 ?_
                        refine x_bipush O (nI 12) dX6_count_166 (by decide) ?_
                        refine x_ialdN O MS.c1 (by omega) rfl dX6_count_168 ?_
                        refine x_top (v' := μ 1 12) (congrFun (mset_n (by decide)) 12) ?_
                        refine x_cS O 1 (c_j_bits (μ 1 12)) (lw_S q2105 q572 q142 q573) hd_J13_bitCount rfl (by rw [RF]; rfl) (by rw [RL]; rfl) ⟨Nat.zero_le _, Nat.zero_le _⟩ rfl rfl dX6_count_169 ?_
                        refine x_top (v' := j_bits (μ 1 12)) rfl ?_
                        exact x_iretQ O hQ rfl dX6_count_172 (fun h m => ⟨by rw [hr21], by rw [hrs0]; exact m.eq rfl⟩)
                      · have hr22 := hr20.trans (if_neg c8_10)
                        refine x_dc (what = nI 11) (fun c8_11 => ?_) (fun c8_11 => ?_)
                        · have hr23 := hr22.trans (if_pos c8_11)
                          refine x_tabIn O 173 dX6_count_8 (by rw [c8_11]; decide) (by rw [c8_11]; decide) (by rw [c8_11]; rfl) (by decide) ?_
                          refine x_sub [0, 1] (L' := [(2, .int (nI 0)), (0, .ref (adr 0))]) rfl ?_
                          refine x_iconst O (nI 0) dX6_count_173 (by decide) ?_
                          refine x_istore_n O [(3, .int (nI 0)), (2, .int (nI 0)), (0, .ref (adr 0))] dX6_count_174 rfl rfl rfl ?_
                          have LOOP175 : ∀ (cc_ : Nat) (i3_175 : Nat) (v2_175 : Int32), cc_ = tn (μ 1 0) - i3_175 → i3_175 < 2147483648 → (∀ (y0 : Int32), y0 = fr (fun i s => m_count_b175 (μ 1) i s) cc_ i3_175 v2_175 → X G F R Q 4 208 [(2, .int y0), (0, .ref (adr 0))] [] (MS G adr h0 ((mset μ 0 0 (nI 0)))) 0 0) → X G F R Q 4 175 [(3, .int (nI i3_175)), (2, .int v2_175), (0, .ref (adr 0))] [] (MS G adr h0 ((mset μ 0 0 (nI 0)))) 0 0 := by
                            intro cc_
                            induction cc_ using Nat.strongRecOn with
                            | ind cc_ IH_ =>
                              intro i3_175 v2_175 hc_ hb_  K_
                              refine x_iload_n O 0 dX6_count_175 rfl rfl ?_
                              refine x_aload_n O 2 dX6_count_176 rfl rfl ?_
                              refine x_mget O k_X6_13_6 (mg_1 _ _) dX6_count_177 ?_
                              refine x_iconst O (nI 0) dX6_count_180 (by decide) ?_
                              refine x_ialdN O MS.c1 (by omega) rfl dX6_count_181 ?_
                              refine x_top (v' := μ 1 0) (congrFun (mset_n (by decide)) 0) ?_
                              refine x_top (v' := nI (tn (μ 1 0))) ((hI 0 (by decide)).1) ?_
                              refine x_icmpgeN O 208 (by omega) (by omega) dX6_count_182 (by decide) (fun c182 => ?_) (fun c182 => ?_)
                              · refine x_sub [1, 2] (L' := [(2, .int v2_175), (0, .ref (adr 0))]) rfl ?_
                                obtain rfl : cc_ = 0 := by omega
                                exact K_ _ rfl
                              · refine x_iload_n O 1 dX6_count_185 rfl rfl ?_
                                refine x_aload_n O 2 dX6_count_186 rfl rfl ?_
                                refine x_mget O k_X6_13_6 (mg_1 _ _) dX6_count_187 ?_
                                refine x_sipush O (nI 269) dX6_count_190 (by decide) ?_
                                refine x_iconst O (nI 4) dX6_count_193 (by decide) ?_
                                refine x_iload_n O 0 dX6_count_194 rfl rfl ?_
                                refine x_imulN O dX6_count_195 ?_
                                refine x_iaddN O dX6_count_196 ?_
                                refine x_iconst O (nI 3) dX6_count_197 (by decide) ?_
                                refine x_iaddN O dX6_count_198 ?_
                                refine x_ialdN O MS.c1 (by omega) rfl dX6_count_199 ?_
                                refine x_top (v' := μ 1 (269 + 4 * i3_175 + 3)) (congrFun (mset_n (by decide)) (269 + 4 * i3_175 + 3)) ?_
                                refine x_iadd O dX6_count_200 ?_
                                refine x_istore_n O [(2, .int (v2_175 + (μ 1 (269 + 4 * i3_175 + 3)))), (3, .int (nI i3_175)), (0, .ref (adr 0))] dX6_count_201 rfl rfl rfl ?_
                                refine x_iincN O 1 [(3, .int (nI (i3_175 + 1))), (2, .int (v2_175 + (μ 1 (269 + 4 * i3_175 + 3)))), (0, .ref (adr 0))] dX6_count_202 rfl rfl rfl ?_
                                refine x_goto O 175 dX6_count_205 (by decide) ?_
                                obtain ⟨c2_, rfl⟩ : ∃ z, cc_ = z + 1 := ⟨cc_ - 1, by omega⟩
                                have hs_ : (fun i s => m_count_b175 (μ 1) i s) i3_175 v2_175 = v2_175 + (μ 1 (269 + 4 * i3_175 + 3)) := by show m_count_b175 (μ 1) i3_175 v2_175 = _; unfold m_count_b175; rfl
                                exact IH_ c2_ (by omega) _ _ (by omega) (by omega) (fun y0 hy_ => K_ y0 (hy_.trans (fr_step hs_).symm))
                          refine LOOP175 (tn (μ 1 0)) 0 (nI 0) rfl (by omega) (fun y0 hy_175 => ?_)
                          subst hy_175
                          refine x_iload_n O 0 dX6_count_208 rfl rfl ?_
                          exact x_iretQ O hQ rfl dX6_count_209 (fun h m => ⟨by rw [hr23], by rw [hrs0]; exact m.eq rfl⟩)
                        · have hr24 := hr22.trans (if_neg c8_11)
                          refine x_tabOut O 210 dX6_count_8 (tab_out (n := 12) (lt_s (lt_s (lt_s (lt_s (lt_s (lt_s (lt_s (lt_s (lt_s (lt_s (lt_s (lt_s lt_0 c8_0) c8_1) c8_2) c8_3) c8_4) c8_5) c8_6) c8_7) c8_8) c8_9) c8_10) c8_11) (by decide)) (by decide) ?_
                          refine x_sub [1] (L' := [(0, .ref (adr 0))]) rfl ?_
                          refine x_iconst O ((-1)) dX6_count_210 (by decide) ?_
                          exact x_iretQ O hQ rfl dX6_count_211 (fun h m => ⟨by rw [hr24], by rw [hrs0]; exact m.eq rfl⟩)

def m_gathersRow_b19 (W : Nat → Int32) (C10 : Nat → Int32) (side : Int32) (row : Nat) (i3_7 : Nat) (i5_19 : Nat) (v4_19 : Bool) : Bool :=
  (if v4_19 = true then true else (if (m_ofFind W i5_19 1) = (nI (16 * row + i3_7)) then (if (m_sureOf W i5_19) < 0 then false else (if (W (269 + 4 * tn (m_sureOf W i5_19))) = side then true else false)) else false))
def m_gathersRow_b7 (W : Nat → Int32) (C10 : Nat → Int32) (side : Int32) (row : Nat) (i3_7 : Nat) (f24_7 : Nat) (a10_7 : (Nat → Int32)) : Nat × (Nat → Int32) :=
  ((if (fr (fun i s => m_gathersRow_b19 W C10 side row i3_7 i s) (tn (W 3)) 0 false) = true then f24_7 + 1 else f24_7), (if (fr (fun i s => m_gathersRow_b19 W C10 side row i3_7 i s) (tn (W 3)) 0 false) = true then ups a10_7 f24_7 (nI i3_7) else a10_7))
def m_gathersRow_f24 (W : Nat → Int32) (C10 : Nat → Int32) (side : Int32) (row : Nat) : Nat :=
  (fr (fun i s => m_gathersRow_b7 W C10 side row i s.1 s.2) 16 0 (0, C10)).1
def m_gathersRow_c10 (W : Nat → Int32) (C10 : Nat → Int32) (side : Int32) (row : Nat) : Nat → Int32 :=
  (fr (fun i s => m_gathersRow_b7 W C10 side row i s.1 s.2) 16 0 (0, C10)).2
set_option maxHeartbeats 1000000 in
set_option maxRecDepth 100000 in
theorem c_m_gathersRow {G : UG} {adr : Nat → Nat} {h0 : Hp} {μ : Mu} (hI : MI (μ 1)) (side : Int32) (row : Nat) (hr : row < 16) : Con G yX6_gathersRow cX6_gathersRow 6 none 5 107 0 0 [.ref (adr 0), .int side, .int (nI row)] (MS G adr h0 μ) (fun vr_ h' => vr_ = none ∧ MS G adr h0 (mc (mset μ 0 24 (nI (m_gathersRow_f24 (μ 1) (μ 10) side row))) 10 (m_gathersRow_c10 (μ 1) (μ 10) side row)) h') nX := by
  refine con_of2 (plainFor_of_name (by decide)) rfl ?_
  intro F R Q RF RL RC RS hQ O hnh hnm
  obtain ⟨rs0, hrs0⟩ : ∃ z, z = m_gathersRow_f24 (μ 1) (μ 10) side row := ⟨_, rfl⟩
  rw [← hrs0] at hQ
  unfold m_gathersRow_f24 at hrs0
  obtain ⟨rs1, hrs1⟩ : ∃ z, z = m_gathersRow_c10 (μ 1) (μ 10) side row := ⟨_, rfl⟩
  rw [← hrs1] at hQ
  unfold m_gathersRow_c10 at hrs1
  have hb0 : tn (μ 1 0) ≤ 8 := (hI 0 (by decide)).2
  have hb3 : tn (μ 1 3) ≤ 120 := (hI 3 (by decide)).2
  refine x_eq (L' := [(0, .ref (adr 0)), (1, .int side), (2, .int (nI row))]) ?_ rfl rfl rfl
  refine x_aload_n O 0 dX6_gathersRow_0 rfl rfl ?_
  refine x_iconst O (nI 0) dX6_gathersRow_1 (by decide) ?_
  refine x_mputQ O p_X6_387_6 (mp_24 _ _ _) rfl dX6_gathersRow_2 (μ' := (mset μ 0 24 (nI 0))) rfl ?_
  refine x_iconst O (nI 0) dX6_gathersRow_5 (by decide) ?_
  refine x_istore_n O [(3, .int (nI 0)), (0, .ref (adr 0)), (1, .int side), (2, .int (nI row))] dX6_gathersRow_6 rfl rfl rfl ?_
  have LOOP7 : ∀ (cc_ : Nat) (i3_7 : Nat) (f24_7 : Nat) (a10_7 : (Nat → Int32)), cc_ = 16 - i3_7 → i3_7 < 2147483648 → (f24_7 ≤ i3_7) → (∀ (y0 : Nat) (y1 : (Nat → Int32)), (y0, y1) = fr (fun i s => m_gathersRow_b7 (μ 1) (μ 10) side row i s.1 s.2) cc_ i3_7 (f24_7, a10_7) → X G F R Q 6 126 [(0, .ref (adr 0))] [] (MS G adr h0 ((mc (mset μ 0 24 (nI y0)) 10 y1))) 0 0) → X G F R Q 6 7 [(3, .int (nI i3_7)), (0, .ref (adr 0)), (1, .int side), (2, .int (nI row))] [] (MS G adr h0 ((mc (mset μ 0 24 (nI f24_7)) 10 a10_7))) 0 0 := by
    intro cc_
    induction cc_ using Nat.strongRecOn with
    | ind cc_ IH_ =>
      intro i3_7 f24_7 a10_7 hc_ hb_ hn_ K_
      refine x_iload_n O 0 dX6_gathersRow_7 rfl rfl ?_
      refine x_bipush O (nI 16) dX6_gathersRow_8 (by decide) ?_
      refine x_icmpgeN O 126 (by omega) (by omega) dX6_gathersRow_10 (by decide) (fun c10 => ?_) (fun c10 => ?_)
      · refine x_sub [1] (L' := [(0, .ref (adr 0))]) rfl ?_
        obtain rfl : cc_ = 0 := by omega
        exact K_ _ _ rfl
      · refine x_iconst O (nI 0) dX6_gathersRow_13 (by decide) ?_
        refine x_top (v' := b2i false) (by decide) ?_
        refine x_istore O [(4, .int (b2i false)), (3, .int (nI i3_7)), (0, .ref (adr 0)), (1, .int side), (2, .int (nI row))] dX6_gathersRow_14 rfl rfl ?_
        refine x_iconst O (nI 0) dX6_gathersRow_16 (by decide) ?_
        refine x_istore O [(5, .int (nI 0)), (4, .int (b2i false)), (3, .int (nI i3_7)), (0, .ref (adr 0)), (1, .int side), (2, .int (nI row))] dX6_gathersRow_17 rfl rfl ?_
        have LOOP19 : ∀ (cc_ : Nat) (i5_19 : Nat) (v4_19 : Bool), cc_ = tn (μ 1 3) - i5_19 → i5_19 < 2147483648 → (∀ (y0 : Bool), y0 = fr (fun i s => m_gathersRow_b19 (μ 1) (μ 10) side row i3_7 i s) cc_ i5_19 v4_19 → X G F R Q 6 92 [(4, .int (b2i y0)), (3, .int (nI i3_7)), (0, .ref (adr 0)), (1, .int side), (2, .int (nI row))] [] (MS G adr h0 ((mc (mset μ 0 24 (nI f24_7)) 10 a10_7))) 0 0) → X G F R Q 6 19 [(5, .int (nI i5_19)), (4, .int (b2i v4_19)), (3, .int (nI i3_7)), (0, .ref (adr 0)), (1, .int side), (2, .int (nI row))] [] (MS G adr h0 ((mc (mset μ 0 24 (nI f24_7)) 10 a10_7))) 0 0 := by
          intro cc_
          induction cc_ using Nat.strongRecOn with
          | ind cc_ IH_ =>
            intro i5_19 v4_19 hc_ hb_  K_
            refine x_iload O 0 dX6_gathersRow_19 rfl ?_
            refine x_aload_n O 3 dX6_gathersRow_21 rfl rfl ?_
            refine x_cV O 0 (c_m_finds (μ := (mc (mset μ 0 24 (nI f24_7)) 10 a10_7))) MS.obj uc6 (lw_V q2042 q2044 qs74 q111 q2045) rfl hd_X6_finds rfl (by rw [RF]; rfl) (by rw [RL]; rfl) ⟨Nat.zero_le _, Nat.zero_le _⟩ rfl rfl dX6_gathersRow_22 ?_
            refine x_top (v' := μ 1 3) (m_finds_u _) ?_
            refine x_top (v' := nI (tn (μ 1 3))) ((hI 3 (by decide)).1) ?_
            refine x_icmpgeN O 92 (by omega) (by omega) dX6_gathersRow_25 (by decide) (fun c25 => ?_) (fun c25 => ?_)
            · refine x_sub [1, 2, 3, 4, 5] (L' := [(4, .int (b2i v4_19)), (3, .int (nI i3_7)), (0, .ref (adr 0)), (1, .int side), (2, .int (nI row))]) rfl ?_
              obtain rfl : cc_ = 0 := by omega
              exact K_ _ rfl
            · refine x_iload O 1 dX6_gathersRow_28 rfl ?_
              have J4 : ∀ (y1 : Bool), y1 = (if v4_19 = true then true else (if (m_ofFind (μ 1) i5_19 1) = (nI (16 * row + i3_7)) then (if (m_sureOf (μ 1) i5_19) < 0 then false else (if (μ 1 (269 + 4 * tn (m_sureOf (μ 1) i5_19))) = side then true else false)) else false)) → X G F R Q 6 84 [(5, .int (nI i5_19)), (3, .int (nI i3_7)), (0, .ref (adr 0)), (1, .int side), (2, .int (nI row))] [.int (b2i y1)] (MS G adr h0 ((mc (mset μ 0 24 (nI f24_7)) 10 a10_7))) 0 0 := by
                intro y1 e5
                subst e5
                refine x_istore O [(4, .int (b2i ((if v4_19 = true then true else (if (m_ofFind (μ 1) i5_19 1) = (nI (16 * row + i3_7)) then (if (m_sureOf (μ 1) i5_19) < 0 then false else (if (μ 1 (269 + 4 * tn (m_sureOf (μ 1) i5_19))) = side then true else false)) else false))))), (5, .int (nI i5_19)), (3, .int (nI i3_7)), (0, .ref (adr 0)), (1, .int side), (2, .int (nI row))] dX6_gathersRow_84 rfl rfl ?_
                refine x_iincN O 1 [(5, .int (nI (i5_19 + 1))), (4, .int (b2i ((if v4_19 = true then true else (if (m_ofFind (μ 1) i5_19 1) = (nI (16 * row + i3_7)) then (if (m_sureOf (μ 1) i5_19) < 0 then false else (if (μ 1 (269 + 4 * tn (m_sureOf (μ 1) i5_19))) = side then true else false)) else false))))), (3, .int (nI i3_7)), (0, .ref (adr 0)), (1, .int side), (2, .int (nI row))] dX6_gathersRow_86 rfl rfl rfl ?_
                refine x_goto O 19 dX6_gathersRow_89 (by decide) ?_
                obtain ⟨c2_, rfl⟩ : ∃ z, cc_ = z + 1 := ⟨cc_ - 1, by omega⟩
                have hs_ : (fun i s => m_gathersRow_b19 (μ 1) (μ 10) side row i3_7 i s) i5_19 v4_19 = (if v4_19 = true then true else (if (m_ofFind (μ 1) i5_19 1) = (nI (16 * row + i3_7)) then (if (m_sureOf (μ 1) i5_19) < 0 then false else (if (μ 1 (269 + 4 * tn (m_sureOf (μ 1) i5_19))) = side then true else false)) else false)) := by show m_gathersRow_b19 (μ 1) (μ 10) side row i3_7 i5_19 v4_19 = _; unfold m_gathersRow_b19; rfl
                exact IH_ c2_ (by omega) _ _ (by omega) (by omega) (fun y0 hy_ => K_ y0 (hy_.trans (fr_step hs_).symm))
              refine x_ifneB O 79 dX6_gathersRow_30 (by decide) (fun c30 => ?_) (fun c30 => ?_)
              · refine x_sub [0, 2, 3, 4, 5] (L' := [(5, .int (nI i5_19)), (3, .int (nI i3_7)), (0, .ref (adr 0)), (1, .int side), (2, .int (nI row))]) rfl ?_
                refine x_iconst O (nI 1) dX6_gathersRow_79 (by decide) ?_
                refine x_goto O 84 dX6_gathersRow_80 (by decide) ?_
                refine x_top (v' := b2i true) (by decide) ?_
                exact J4 true (by rw [if_pos c30])
              · refine x_sub [0, 2, 3, 4, 5] (L' := [(5, .int (nI i5_19)), (3, .int (nI i3_7)), (0, .ref (adr 0)), (1, .int side), (2, .int (nI row))]) rfl ?_
                refine x_aload_n O 2 dX6_gathersRow_33 rfl rfl ?_
                refine x_iload O 0 dX6_gathersRow_34 rfl ?_
                refine x_iconst O (nI 1) dX6_gathersRow_36 (by decide) ?_
                refine x_cV O 2 (c_m_ofFind (μ := (mc (mset μ 0 24 (nI f24_7)) 10 a10_7)) i5_19 1 (by omega) (by omega)) MS.obj uc6 (lw_V q2054 q2056 qs75 q111 q2057) rfl hd_X6_ofFind rfl (by rw [RF]; rfl) (by rw [RL]; rfl) ⟨Nat.zero_le _, Nat.zero_le _⟩ rfl rfl dX6_gathersRow_37 ?_
                refine x_top (v' := m_ofFind (μ 1) i5_19 1) (by rw [show (mc (mset μ 0 24 (nI f24_7)) 10 a10_7) 1 = μ 1 from ((mc_n (by decide)).trans (mset_n (by decide)))]) ?_
                refine x_bipush O (nI 16) dX6_gathersRow_40 (by decide) ?_
                refine x_iload_n O 4 dX6_gathersRow_42 rfl rfl ?_
                refine x_imulN O dX6_gathersRow_43 ?_
                refine x_iload_n O 1 dX6_gathersRow_44 rfl rfl ?_
                refine x_iaddN O dX6_gathersRow_45 ?_
                refine x_icmpne O 83 dX6_gathersRow_46 (by decide) (fun c46 => ?_) (fun c46 => ?_)
                · refine x_iconst O (nI 0) dX6_gathersRow_83 (by decide) ?_
                  refine x_top (v' := b2i false) (by decide) ?_
                  exact J4 false (by first | (rw [if_neg c30, if_neg c46]; done) | simp only [if_neg c30, if_neg c46])
                · refine x_aload_n O 2 dX6_gathersRow_49 rfl rfl ?_
                  refine x_iload O 0 dX6_gathersRow_50 rfl ?_
                  refine x_cV O 1 (c_m_sureOf (μ := (mc (mset μ 0 24 (nI f24_7)) 10 a10_7)) hI i5_19 (by omega)) MS.obj uc6 (lw_V q2130 q2132 qs85 q111 q2133) rfl hd_X6_sureOf rfl (by rw [RF]; rfl) (by rw [RL]; rfl) ⟨Nat.zero_le _, Nat.zero_le _⟩ rfl rfl dX6_gathersRow_52 ?_
                  refine x_top (v' := m_sureOf (μ 1) i5_19) (by rw [show (mc (mset μ 0 24 (nI f24_7)) 10 a10_7) 1 = μ 1 from ((mc_n (by decide)).trans (mset_n (by decide)))]) ?_
                  refine x_iflt O 83 dX6_gathersRow_55 (by decide) (fun c55 => ?_) (fun c55 => ?_)
                  · refine x_iconst O (nI 0) dX6_gathersRow_83 (by decide) ?_
                    refine x_top (v' := b2i false) (by decide) ?_
                    exact J4 false (by first | (rw [if_neg c30, if_pos c46, if_pos c55]; done) | simp only [if_neg c30, if_pos c46, if_pos c55])
                  · refine x_aload_n O 2 dX6_gathersRow_58 rfl rfl ?_
                    refine x_mget O k_X6_13_6 (mg_1 _ _) dX6_gathersRow_59 ?_
                    refine x_sipush O (nI 269) dX6_gathersRow_62 (by decide) ?_
                    refine x_iconst O (nI 4) dX6_gathersRow_65 (by decide) ?_
                    refine x_aload_n O 2 dX6_gathersRow_66 rfl rfl ?_
                    refine x_iload O 0 dX6_gathersRow_67 rfl ?_
                    refine x_cV O 1 (c_m_sureOf (μ := (mc (mset μ 0 24 (nI f24_7)) 10 a10_7)) hI i5_19 (by omega)) MS.obj uc6 (lw_V q2130 q2132 qs85 q111 q2133) rfl hd_X6_sureOf rfl (by rw [RF]; rfl) (by rw [RL]; rfl) ⟨Nat.zero_le _, Nat.zero_le _⟩ rfl rfl dX6_gathersRow_69 ?_
                    refine x_top (v' := m_sureOf (μ 1) i5_19) (by rw [show (mc (mset μ 0 24 (nI f24_7)) 10 a10_7) 1 = μ 1 from ((mc_n (by decide)).trans (mset_n (by decide)))]) ?_
                    refine x_top (v' := nI (tn (m_sureOf (μ 1) i5_19))) ((gO_nn (sureOf_gO hI) c55).1) ?_
                    refine x_imulN O dX6_gathersRow_72 ?_
                    refine x_iaddN O dX6_gathersRow_73 ?_
                    refine x_ialdN O MS.c1 (by have := (gO_nn (sureOf_gO hI) c55).2; omega) rfl dX6_gathersRow_74 ?_
                    refine x_top (v' := μ 1 (269 + 4 * tn (m_sureOf (μ 1) i5_19))) ((congrFun (mc_n (by decide)) (269 + 4 * tn (m_sureOf (μ 1) i5_19))).trans (congrFun (mset_n (by decide)) (269 + 4 * tn (m_sureOf (μ 1) i5_19)))) ?_
                    refine x_iload_n O 3 dX6_gathersRow_75 rfl rfl ?_
                    refine x_icmpne O 83 dX6_gathersRow_76 (by decide) (fun c76 => ?_) (fun c76 => ?_)
                    · refine x_iconst O (nI 0) dX6_gathersRow_83 (by decide) ?_
                      refine x_top (v' := b2i false) (by decide) ?_
                      exact J4 false (by first | (rw [if_neg c30, if_pos c46, if_neg c55, if_neg c76]; done) | simp only [if_neg c30, if_pos c46, if_neg c55, if_neg c76])
                    · refine x_iconst O (nI 1) dX6_gathersRow_79 (by decide) ?_
                      refine x_goto O 84 dX6_gathersRow_80 (by decide) ?_
                      refine x_top (v' := b2i true) (by decide) ?_
                      exact J4 true (by first | (rw [if_neg c30, if_pos c46, if_neg c55, if_pos c76]; done) | simp only [if_neg c30, if_pos c46, if_neg c55, if_pos c76])
        refine LOOP19 (tn (μ 1 3)) 0 false rfl (by omega) (fun y0 hy_19 => ?_)
        subst hy_19
        refine x_iload O 0 dX6_gathersRow_92 rfl ?_
        have J6 : ∀ (y2 : Nat) (y3 : Nat → Int32), y2 = (if (fr (fun i s => m_gathersRow_b19 (μ 1) (μ 10) side row i3_7 i s) (tn (μ 1 3)) 0 false) = true then f24_7 + 1 else f24_7) → y3 = (if (fr (fun i s => m_gathersRow_b19 (μ 1) (μ 10) side row i3_7 i s) (tn (μ 1 3)) 0 false) = true then ups a10_7 f24_7 (nI i3_7) else a10_7) → X G F R Q 6 120 [(3, .int (nI i3_7)), (0, .ref (adr 0)), (1, .int side), (2, .int (nI row))] [] (MS G adr h0 ((mc (mset μ 0 24 (nI y2)) 10 y3))) 0 0 := by
          intro y2 y3 e7 e8
          subst e7; subst e8
          refine x_iincN O 0 [(3, .int (nI (i3_7 + 1))), (0, .ref (adr 0)), (1, .int side), (2, .int (nI row))] dX6_gathersRow_120 rfl rfl rfl ?_
          refine x_goto O 7 dX6_gathersRow_123 (by decide) ?_
          obtain ⟨c2_, rfl⟩ : ∃ z, cc_ = z + 1 := ⟨cc_ - 1, by omega⟩
          have hs_ : (fun i s => m_gathersRow_b7 (μ 1) (μ 10) side row i s.1 s.2) i3_7 (f24_7, a10_7) = ((if (fr (fun i s => m_gathersRow_b19 (μ 1) (μ 10) side row i3_7 i s) (tn (μ 1 3)) 0 false) = true then f24_7 + 1 else f24_7), (if (fr (fun i s => m_gathersRow_b19 (μ 1) (μ 10) side row i3_7 i s) (tn (μ 1 3)) 0 false) = true then ups a10_7 f24_7 (nI i3_7) else a10_7)) := by show m_gathersRow_b7 (μ 1) (μ 10) side row i3_7 f24_7 a10_7 = _; unfold m_gathersRow_b7; rfl
          exact IH_ c2_ (by omega) _ _ _ (by omega) (by omega) (by (repeat' split) <;> omega) (fun y0 y1 hy_ => K_ y0 y1 (hy_.trans (fr_step hs_).symm))
        refine x_ifneB O 100 dX6_gathersRow_94 (by decide) (fun c94 => ?_) (fun c94 => ?_)
        · refine x_sub [1, 2, 3, 4] (L' := [(3, .int (nI i3_7)), (0, .ref (adr 0)), (1, .int side), (2, .int (nI row))]) rfl ?_
          refine x_aload_n O 1 dX6_gathersRow_100 rfl rfl ?_
          refine x_mget O k_X6_45_6 (mg_23 _ _) dX6_gathersRow_101 ?_
          refine x_aload_n O 1 dX6_gathersRow_104 rfl rfl ?_
          refine x_mget O k_X6_387_6 (mg_24 _ _) dX6_gathersRow_105 ?_
          refine x_top (v' := nI f24_7) ((congrFun (mc_n (by decide)) 24).trans rd_hit) ?_
          refine x_iload_n O 0 dX6_gathersRow_108 rfl rfl ?_
          refine x_mastQ O 9 MS.c10 rfl rfl rfl (by omega) rfl dX6_gathersRow_109 (μ' := (mc (mset μ 0 24 (nI f24_7)) 10 (ups a10_7 f24_7 (nI i3_7)))) wc_s ?_
          refine x_aload_n O 1 dX6_gathersRow_110 rfl rfl ?_
          refine x_dup O dX6_gathersRow_111 rfl ?_
          refine x_mget O k_X6_387_6 (mg_24 _ _) dX6_gathersRow_112 ?_
          refine x_top (v' := nI f24_7) ((congrFun (mc_n (by decide)) 24).trans rd_hit) ?_
          refine x_iconst O (nI 1) dX6_gathersRow_115 (by decide) ?_
          refine x_iaddN O dX6_gathersRow_116 ?_
          refine x_mputQ O p_X6_387_6 (mp_24 _ _ _) rfl dX6_gathersRow_117 (μ' := (mc (mset μ 0 24 (nI (f24_7 + 1))) 10 (ups a10_7 f24_7 (nI i3_7)))) ((wc_n (by decide)).trans (congrArg (fun m_ => mc m_ 10 _) ff_s)) ?_
          exact J6 (f24_7 + 1) (ups a10_7 f24_7 (nI i3_7)) (by rw [if_pos c94]) (by rw [if_pos c94])
        · refine x_sub [1, 2, 3, 4] (L' := [(3, .int (nI i3_7)), (0, .ref (adr 0)), (1, .int side), (2, .int (nI row))]) rfl ?_
          refine x_goto O 120 dX6_gathersRow_97 (by decide) ?_
          exact J6 f24_7 a10_7 (by rw [if_neg c94]) (by rw [if_neg c94])
  refine x_weak (Ω' := MS G adr h0 ((mc (mset μ 0 24 (nI 0)) 10 (μ 10)))) (fun _ m => m.eq (mc_id (c := 10) (f := μ 10) (by rfl)).symm) ?_
  refine LOOP7 16 0 0 (μ 10) rfl (by omega) (by omega) (fun y0 y1 hy_7 => ?_)
  obtain rfl : y0 = (fr (fun i s => m_gathersRow_b7 (μ 1) (μ 10) side row i s.1 s.2) 16 0 (0, μ 10)).1 := congrArg (fun z => z.1) hy_7
  obtain rfl : y1 = (fr (fun i s => m_gathersRow_b7 (μ 1) (μ 10) side row i s.1 s.2) 16 0 (0, μ 10)).2 := congrArg (fun z => z.2) hy_7
  exact x_vretQ O hQ rfl dX6_gathersRow_126 (fun h m => ⟨rfl, by rw [hrs0, hrs1]; exact m.eq rfl⟩)

theorem gr_n (W C10 : Nat → Int32) (side : Int32) (row : Nat) : m_gathersRow_f24 W C10 side row ≤ 16 := by
  unfold m_gathersRow_f24
  refine fr_inv (e := 16) (fun (i : Nat) (s : Nat × (Nat → Int32)) => s.1 ≤ i) (fun i s hi hs => ?_) 16 0 _ (by omega) (by show (0 : Nat) ≤ 0; omega)
  show (m_gathersRow_b7 W C10 side row i s.1 s.2).1 ≤ i + 1
  unfold m_gathersRow_b7
  dsimp only
  split <;> omega

def m_longestHeld_b34 (W : Nat → Int32) (C10 : Nat → Int32) (side : Int32) (row : Nat) (off : Int32) (i5_12 : Nat) (i8_34 : Nat) (v7_34 : Int32) (v6_34 : Int32) (v4_34 : Int32) : Int32 × Int32 × Int32 :=
  (j_max v7_34 (((m_gathersRow_c10 W C10 side row) (i8_34 + 1)) - ((m_gathersRow_c10 W C10 side row) i8_34)), j_min v6_34 (((m_gathersRow_c10 W C10 side row) (i8_34 + 1)) - ((m_gathersRow_c10 W C10 side row) i8_34)), (if ((j_min v6_34 (((m_gathersRow_c10 W C10 side row) (i8_34 + 1)) - ((m_gathersRow_c10 W C10 side row) i8_34))) + off) < (j_max v7_34 (((m_gathersRow_c10 W C10 side row) (i8_34 + 1)) - ((m_gathersRow_c10 W C10 side row) i8_34))) then v4_34 else j_max v4_34 (((nI i8_34) - (nI i5_12)) + (nI 1))))
def m_longestHeld_b12 (W : Nat → Int32) (C10 : Nat → Int32) (side : Int32) (row : Nat) (off : Int32) (i5_12 : Nat) (v4_12 : Int32) : Int32 :=
  (fr (fun i s => m_longestHeld_b34 W C10 side row off i5_12 i s.1 s.2.1 s.2.2) ((m_gathersRow_f24 W C10 side row) - 1 - i5_12) i5_12 (nI 0, nI 16, v4_12)).2.2
def m_longestHeld (W : Nat → Int32) (C10 : Nat → Int32) (side : Int32) (row : Nat) (off : Int32) : Int32 :=
  (fr (fun i s => m_longestHeld_b12 W C10 side row off i s) ((m_gathersRow_f24 W C10 side row) - 1) 0 (nI 0))
def m_longestHeld_f24 (W : Nat → Int32) (C10 : Nat → Int32) (side : Int32) (row : Nat) (off : Int32) : Nat :=
  m_gathersRow_f24 W C10 side row
def m_longestHeld_c10 (W : Nat → Int32) (C10 : Nat → Int32) (side : Int32) (row : Nat) (off : Int32) : Nat → Int32 :=
  m_gathersRow_c10 W C10 side row
set_option maxHeartbeats 1000000 in
set_option maxRecDepth 100000 in
theorem c_m_longestHeld {G : UG} {adr : Nat → Nat} {h0 : Hp} {μ : Mu} (hI : MI (μ 1)) (side : Int32) (row : Nat) (off : Int32) (hr : row < 16) : Con G yX6_longestHeld cX6_longestHeld 9 (some .int) 6 132 0 0 [.ref (adr 0), .int side, .int (nI row), .int off] (MS G adr h0 μ) (fun vr_ h' => vr_ = some (.int (m_longestHeld (μ 1) (μ 10) side row off)) ∧ MS G adr h0 (mc (mset μ 0 24 (nI (m_longestHeld_f24 (μ 1) (μ 10) side row off))) 10 (m_longestHeld_c10 (μ 1) (μ 10) side row off)) h') nX := by
  refine con_of2 (plainFor_of_name (by decide)) rfl ?_
  intro F R Q RF RL RC RS hQ O hnh hnm
  obtain ⟨res, hres⟩ : ∃ z, z = (m_longestHeld (μ 1) (μ 10) side row off) := ⟨_, rfl⟩
  rw [← hres] at hQ
  unfold m_longestHeld at hres
  obtain ⟨rs0, hrs0⟩ : ∃ z, z = m_longestHeld_f24 (μ 1) (μ 10) side row off := ⟨_, rfl⟩
  rw [← hrs0] at hQ
  unfold m_longestHeld_f24 at hrs0
  obtain ⟨rs1, hrs1⟩ : ∃ z, z = m_longestHeld_c10 (μ 1) (μ 10) side row off := ⟨_, rfl⟩
  rw [← hrs1] at hQ
  unfold m_longestHeld_c10 at hrs1
  have hg := gr_n (μ 1) (μ 10) side row
  refine x_eq (L' := [(0, .ref (adr 0)), (1, .int side), (2, .int (nI row)), (3, .int off)]) ?_ rfl rfl rfl
  refine x_aload_n O 0 dX6_longestHeld_0 rfl rfl ?_
  refine x_iload_n O 1 dX6_longestHeld_1 rfl rfl ?_
  refine x_iload_n O 2 dX6_longestHeld_2 rfl rfl ?_
  refine x_cV O 2 (c_m_gathersRow (μ := μ) hI side row (by omega)) MS.obj uc6 (lw_V q2163 q2165 qs91 q111 q2166) rfl hd_X6_gathersRow rfl (by rw [RF]; rfl) (by rw [RL]; rfl) ⟨Nat.zero_le _, Nat.zero_le _⟩ rfl rfl dX6_longestHeld_3 ?_
  refine x_weak (Ω' := MS G adr h0 (mc (mset μ 0 24 (nI (m_gathersRow_f24 (μ 1) (μ 10) side row))) 10 (m_gathersRow_c10 (μ 1) (μ 10) side row))) (fun _ m => m.eq rfl) ?_
  refine x_iconst O (nI 0) dX6_longestHeld_6 (by decide) ?_
  refine x_istore O [(4, .int (nI 0)), (0, .ref (adr 0)), (1, .int side), (2, .int (nI row)), (3, .int off)] dX6_longestHeld_7 rfl rfl ?_
  refine x_sub [0, 1, 4] (L' := [(4, .int (nI 0)), (0, .ref (adr 0)), (3, .int off)]) rfl ?_
  refine x_iconst O (nI 0) dX6_longestHeld_9 (by decide) ?_
  refine x_istore O [(5, .int (nI 0)), (4, .int (nI 0)), (0, .ref (adr 0)), (3, .int off)] dX6_longestHeld_10 rfl rfl ?_
  have LOOP12 : ∀ (cc_ : Nat) (i5_12 : Nat) (v4_12 : Int32), cc_ = (m_gathersRow_f24 (μ 1) (μ 10) side row) - 1 - i5_12 → i5_12 < 2147483647 → (∀ (y0 : Int32), y0 = fr (fun i s => m_longestHeld_b12 (μ 1) (μ 10) side row off i s) cc_ i5_12 v4_12 → X G F R Q 9 128 [(4, .int y0), (0, .ref (adr 0))] [] (MS G adr h0 ((mc (mset μ 0 24 (nI (m_gathersRow_f24 (μ 1) (μ 10) side row))) 10 (m_gathersRow_c10 (μ 1) (μ 10) side row)))) 0 0) → X G F R Q 9 12 [(5, .int (nI i5_12)), (4, .int v4_12), (0, .ref (adr 0)), (3, .int off)] [] (MS G adr h0 ((mc (mset μ 0 24 (nI (m_gathersRow_f24 (μ 1) (μ 10) side row))) 10 (m_gathersRow_c10 (μ 1) (μ 10) side row)))) 0 0 := by
    intro cc_
    induction cc_ using Nat.strongRecOn with
    | ind cc_ IH_ =>
      intro i5_12 v4_12 hc_ hb_  K_
      refine x_iload O 0 dX6_longestHeld_12 rfl ?_
      refine x_iconst O (nI 1) dX6_longestHeld_14 (by decide) ?_
      refine x_iaddN O dX6_longestHeld_15 ?_
      refine x_aload_n O 2 dX6_longestHeld_16 rfl rfl ?_
      refine x_mget O k_X6_387_6 (mg_24 _ _) dX6_longestHeld_17 ?_
      refine x_top (v' := nI (m_gathersRow_f24 (μ 1) (μ 10) side row)) ((congrFun (mc_n (by decide)) 24).trans rd_hit) ?_
      refine x_icmpgeN O 128 (by omega) (by omega) dX6_longestHeld_20 (by decide) (fun c20 => ?_) (fun c20 => ?_)
      · refine x_sub [1, 2] (L' := [(4, .int v4_12), (0, .ref (adr 0))]) rfl ?_
        obtain rfl : cc_ = 0 := by omega
        exact K_ _ rfl
      · refine x_bipush O (nI 16) dX6_longestHeld_23 (by decide) ?_
        refine x_istore O [(6, .int (nI 16)), (5, .int (nI i5_12)), (4, .int v4_12), (0, .ref (adr 0)), (3, .int off)] dX6_longestHeld_25 rfl rfl ?_
        refine x_iconst O (nI 0) dX6_longestHeld_27 (by decide) ?_
        refine x_istore O [(7, .int (nI 0)), (6, .int (nI 16)), (5, .int (nI i5_12)), (4, .int v4_12), (0, .ref (adr 0)), (3, .int off)] dX6_longestHeld_28 rfl rfl ?_
        refine x_iload O 2 dX6_longestHeld_30 rfl ?_
        refine x_istore O [(8, .int (nI i5_12)), (7, .int (nI 0)), (6, .int (nI 16)), (5, .int (nI i5_12)), (4, .int v4_12), (0, .ref (adr 0)), (3, .int off)] dX6_longestHeld_32 rfl rfl ?_
        have LOOP34 : ∀ (cc_ : Nat) (i8_34 : Nat) (v7_34 : Int32) (v6_34 : Int32) (v4_34 : Int32), cc_ = (m_gathersRow_f24 (μ 1) (μ 10) side row) - 1 - i8_34 → i8_34 < 2147483647 → (∀ (y0 : Int32) (y1 : Int32) (y2 : Int32), (y0, y1, y2) = fr (fun i s => m_longestHeld_b34 (μ 1) (μ 10) side row off i5_12 i s.1 s.2.1 s.2.2) cc_ i8_34 (v7_34, v6_34, v4_34) → X G F R Q 9 122 [(5, .int (nI i5_12)), (4, .int y2), (0, .ref (adr 0)), (3, .int off)] [] (MS G adr h0 ((mc (mset μ 0 24 (nI (m_gathersRow_f24 (μ 1) (μ 10) side row))) 10 (m_gathersRow_c10 (μ 1) (μ 10) side row)))) 0 0) → X G F R Q 9 34 [(8, .int (nI i8_34)), (7, .int v7_34), (6, .int v6_34), (5, .int (nI i5_12)), (4, .int v4_34), (0, .ref (adr 0)), (3, .int off)] [] (MS G adr h0 ((mc (mset μ 0 24 (nI (m_gathersRow_f24 (μ 1) (μ 10) side row))) 10 (m_gathersRow_c10 (μ 1) (μ 10) side row)))) 0 0 := by
          intro cc_
          induction cc_ using Nat.strongRecOn with
          | ind cc_ IH_ =>
            intro i8_34 v7_34 v6_34 v4_34 hc_ hb_  K_
            refine x_iload O 0 dX6_longestHeld_34 rfl ?_
            refine x_iconst O (nI 1) dX6_longestHeld_36 (by decide) ?_
            refine x_iaddN O dX6_longestHeld_37 ?_
            refine x_aload_n O 5 dX6_longestHeld_38 rfl rfl ?_
            refine x_mget O k_X6_387_6 (mg_24 _ _) dX6_longestHeld_39 ?_
            refine x_top (v' := nI (m_gathersRow_f24 (μ 1) (μ 10) side row)) ((congrFun (mc_n (by decide)) 24).trans rd_hit) ?_
            refine x_icmpgeN O 122 (by omega) (by omega) dX6_longestHeld_42 (by decide) (fun c42 => ?_) (fun c42 => ?_)
            · refine x_sub [3, 4, 5, 6] (L' := [(5, .int (nI i5_12)), (4, .int v4_34), (0, .ref (adr 0)), (3, .int off)]) rfl ?_
              obtain rfl : cc_ = 0 := by omega
              exact K_ _ _ _ rfl
            · refine x_iload O 2 dX6_longestHeld_45 rfl ?_
              refine x_aload_n O 5 dX6_longestHeld_47 rfl rfl ?_
              refine x_mget O k_X6_45_6 (mg_23 _ _) dX6_longestHeld_48 ?_
              refine x_iload O 0 dX6_longestHeld_51 rfl ?_
              refine x_iconst O (nI 1) dX6_longestHeld_53 (by decide) ?_
              refine x_iaddN O dX6_longestHeld_54 ?_
              refine x_ialdN O MS.c10 (by omega) rfl dX6_longestHeld_55 ?_
              refine x_top (v' := (m_gathersRow_c10 (μ 1) (μ 10) side row) (i8_34 + 1)) (congrFun mc_s (i8_34 + 1)) ?_
              refine x_aload_n O 5 dX6_longestHeld_56 rfl rfl ?_
              refine x_mget O k_X6_45_6 (mg_23 _ _) dX6_longestHeld_57 ?_
              refine x_iload O 0 dX6_longestHeld_60 rfl ?_
              refine x_ialdN O MS.c10 (by omega) rfl dX6_longestHeld_62 ?_
              refine x_top (v' := (m_gathersRow_c10 (μ 1) (μ 10) side row) i8_34) (congrFun mc_s i8_34) ?_
              refine x_isub O dX6_longestHeld_63 ?_
              refine x_cS O 2 (c_j_min v6_34 (((m_gathersRow_c10 (μ 1) (μ 10) side row) (i8_34 + 1)) - ((m_gathersRow_c10 (μ 1) (μ 10) side row) i8_34))) (lw_S q1781 q760 q116 q761) hd_J7_min rfl (by rw [RF]; rfl) (by rw [RL]; rfl) ⟨Nat.zero_le _, Nat.zero_le _⟩ rfl rfl dX6_longestHeld_64 ?_
              refine x_top (v' := j_min v6_34 (((m_gathersRow_c10 (μ 1) (μ 10) side row) (i8_34 + 1)) - ((m_gathersRow_c10 (μ 1) (μ 10) side row) i8_34))) rfl ?_
              refine x_istore O [(6, .int (j_min v6_34 (((m_gathersRow_c10 (μ 1) (μ 10) side row) (i8_34 + 1)) - ((m_gathersRow_c10 (μ 1) (μ 10) side row) i8_34)))), (8, .int (nI i8_34)), (7, .int v7_34), (5, .int (nI i5_12)), (4, .int v4_34), (0, .ref (adr 0)), (3, .int off)] dX6_longestHeld_67 rfl rfl ?_
              refine x_iload O 2 dX6_longestHeld_69 rfl ?_
              refine x_aload_n O 5 dX6_longestHeld_71 rfl rfl ?_
              refine x_mget O k_X6_45_6 (mg_23 _ _) dX6_longestHeld_72 ?_
              refine x_iload O 1 dX6_longestHeld_75 rfl ?_
              refine x_iconst O (nI 1) dX6_longestHeld_77 (by decide) ?_
              refine x_iaddN O dX6_longestHeld_78 ?_
              refine x_ialdN O MS.c10 (by omega) rfl dX6_longestHeld_79 ?_
              refine x_top (v' := (m_gathersRow_c10 (μ 1) (μ 10) side row) (i8_34 + 1)) (congrFun mc_s (i8_34 + 1)) ?_
              refine x_aload_n O 5 dX6_longestHeld_80 rfl rfl ?_
              refine x_mget O k_X6_45_6 (mg_23 _ _) dX6_longestHeld_81 ?_
              refine x_iload O 1 dX6_longestHeld_84 rfl ?_
              refine x_ialdN O MS.c10 (by omega) rfl dX6_longestHeld_86 ?_
              refine x_top (v' := (m_gathersRow_c10 (μ 1) (μ 10) side row) i8_34) (congrFun mc_s i8_34) ?_
              refine x_isub O dX6_longestHeld_87 ?_
              refine x_cS O 2 (c_j_max v7_34 (((m_gathersRow_c10 (μ 1) (μ 10) side row) (i8_34 + 1)) - ((m_gathersRow_c10 (μ 1) (μ 10) side row) i8_34))) (lw_S q1782 q558 q116 q559) hd_J7_max rfl (by rw [RF]; rfl) (by rw [RL]; rfl) ⟨Nat.zero_le _, Nat.zero_le _⟩ rfl rfl dX6_longestHeld_88 ?_
              refine x_top (v' := j_max v7_34 (((m_gathersRow_c10 (μ 1) (μ 10) side row) (i8_34 + 1)) - ((m_gathersRow_c10 (μ 1) (μ 10) side row) i8_34))) rfl ?_
              refine x_istore O [(7, .int (j_max v7_34 (((m_gathersRow_c10 (μ 1) (μ 10) side row) (i8_34 + 1)) - ((m_gathersRow_c10 (μ 1) (μ 10) side row) i8_34)))), (6, .int (j_min v6_34 (((m_gathersRow_c10 (μ 1) (μ 10) side row) (i8_34 + 1)) - ((m_gathersRow_c10 (μ 1) (μ 10) side row) i8_34)))), (8, .int (nI i8_34)), (5, .int (nI i5_12)), (4, .int v4_34), (0, .ref (adr 0)), (3, .int off)] dX6_longestHeld_91 rfl rfl ?_
              refine x_iload O 0 dX6_longestHeld_93 rfl ?_
              refine x_iload O 1 dX6_longestHeld_95 rfl ?_
              refine x_iload_n O 6 dX6_longestHeld_97 rfl rfl ?_
              refine x_iadd O dX6_longestHeld_98 ?_
              have J2 : ∀ (y1 : Int32), y1 = (if ((j_min v6_34 (((m_gathersRow_c10 (μ 1) (μ 10) side row) (i8_34 + 1)) - ((m_gathersRow_c10 (μ 1) (μ 10) side row) i8_34))) + off) < (j_max v7_34 (((m_gathersRow_c10 (μ 1) (μ 10) side row) (i8_34 + 1)) - ((m_gathersRow_c10 (μ 1) (μ 10) side row) i8_34))) then v4_34 else j_max v4_34 (((nI i8_34) - (nI i5_12)) + (nI 1))) → X G F R Q 9 116 [(7, .int (j_max v7_34 (((m_gathersRow_c10 (μ 1) (μ 10) side row) (i8_34 + 1)) - ((m_gathersRow_c10 (μ 1) (μ 10) side row) i8_34)))), (6, .int (j_min v6_34 (((m_gathersRow_c10 (μ 1) (μ 10) side row) (i8_34 + 1)) - ((m_gathersRow_c10 (μ 1) (μ 10) side row) i8_34)))), (8, .int (nI i8_34)), (5, .int (nI i5_12)), (4, .int y1), (0, .ref (adr 0)), (3, .int off)] [] (MS G adr h0 ((mc (mset μ 0 24 (nI (m_gathersRow_f24 (μ 1) (μ 10) side row))) 10 (m_gathersRow_c10 (μ 1) (μ 10) side row)))) 0 0 := by
                intro y1 e3
                subst e3
                refine x_iincN O 2 [(8, .int (nI (i8_34 + 1))), (7, .int (j_max v7_34 (((m_gathersRow_c10 (μ 1) (μ 10) side row) (i8_34 + 1)) - ((m_gathersRow_c10 (μ 1) (μ 10) side row) i8_34)))), (6, .int (j_min v6_34 (((m_gathersRow_c10 (μ 1) (μ 10) side row) (i8_34 + 1)) - ((m_gathersRow_c10 (μ 1) (μ 10) side row) i8_34)))), (5, .int (nI i5_12)), (4, .int ((if ((j_min v6_34 (((m_gathersRow_c10 (μ 1) (μ 10) side row) (i8_34 + 1)) - ((m_gathersRow_c10 (μ 1) (μ 10) side row) i8_34))) + off) < (j_max v7_34 (((m_gathersRow_c10 (μ 1) (μ 10) side row) (i8_34 + 1)) - ((m_gathersRow_c10 (μ 1) (μ 10) side row) i8_34))) then v4_34 else j_max v4_34 (((nI i8_34) - (nI i5_12)) + (nI 1))))), (0, .ref (adr 0)), (3, .int off)] dX6_longestHeld_116 rfl rfl rfl ?_
                refine x_goto O 34 dX6_longestHeld_119 (by decide) ?_
                obtain ⟨c2_, rfl⟩ : ∃ z, cc_ = z + 1 := ⟨cc_ - 1, by omega⟩
                have hs_ : (fun i s => m_longestHeld_b34 (μ 1) (μ 10) side row off i5_12 i s.1 s.2.1 s.2.2) i8_34 (v7_34, v6_34, v4_34) = (j_max v7_34 (((m_gathersRow_c10 (μ 1) (μ 10) side row) (i8_34 + 1)) - ((m_gathersRow_c10 (μ 1) (μ 10) side row) i8_34)), j_min v6_34 (((m_gathersRow_c10 (μ 1) (μ 10) side row) (i8_34 + 1)) - ((m_gathersRow_c10 (μ 1) (μ 10) side row) i8_34)), (if ((j_min v6_34 (((m_gathersRow_c10 (μ 1) (μ 10) side row) (i8_34 + 1)) - ((m_gathersRow_c10 (μ 1) (μ 10) side row) i8_34))) + off) < (j_max v7_34 (((m_gathersRow_c10 (μ 1) (μ 10) side row) (i8_34 + 1)) - ((m_gathersRow_c10 (μ 1) (μ 10) side row) i8_34))) then v4_34 else j_max v4_34 (((nI i8_34) - (nI i5_12)) + (nI 1)))) := by show m_longestHeld_b34 (μ 1) (μ 10) side row off i5_12 i8_34 v7_34 v6_34 v4_34 = _; unfold m_longestHeld_b34; rfl
                exact IH_ c2_ (by omega) _ _ _ _ (by omega) (by omega) (fun y0 y1 y2 hy_ => K_ y0 y1 y2 (hy_.trans (fr_step hs_).symm))
              refine x_icmpgt O 116 dX6_longestHeld_99 (by decide) (fun c99 => ?_) (fun c99 => ?_)
              · exact J2 v4_34 (by rw [if_pos c99])
              · refine x_iload O 4 dX6_longestHeld_102 rfl ?_
                refine x_iload O 2 dX6_longestHeld_104 rfl ?_
                refine x_iload O 3 dX6_longestHeld_106 rfl ?_
                refine x_isub O dX6_longestHeld_108 ?_
                refine x_iconst O (nI 1) dX6_longestHeld_109 (by decide) ?_
                refine x_iadd O dX6_longestHeld_110 ?_
                refine x_cS O 2 (c_j_max v4_34 (((nI i8_34) - (nI i5_12)) + (nI 1))) (lw_S q1782 q558 q116 q559) hd_J7_max rfl (by rw [RF]; rfl) (by rw [RL]; rfl) ⟨Nat.zero_le _, Nat.zero_le _⟩ rfl rfl dX6_longestHeld_111 ?_
                refine x_top (v' := j_max v4_34 (((nI i8_34) - (nI i5_12)) + (nI 1))) rfl ?_
                refine x_istore O [(4, .int (j_max v4_34 (((nI i8_34) - (nI i5_12)) + (nI 1)))), (7, .int (j_max v7_34 (((m_gathersRow_c10 (μ 1) (μ 10) side row) (i8_34 + 1)) - ((m_gathersRow_c10 (μ 1) (μ 10) side row) i8_34)))), (6, .int (j_min v6_34 (((m_gathersRow_c10 (μ 1) (μ 10) side row) (i8_34 + 1)) - ((m_gathersRow_c10 (μ 1) (μ 10) side row) i8_34)))), (8, .int (nI i8_34)), (5, .int (nI i5_12)), (0, .ref (adr 0)), (3, .int off)] dX6_longestHeld_114 rfl rfl ?_
                refine x_sub [1, 2, 3, 4, 0, 5, 6] rfl ?_
                exact J2 (j_max v4_34 (((nI i8_34) - (nI i5_12)) + (nI 1))) (by rw [if_neg c99])
        refine LOOP34 ((m_gathersRow_f24 (μ 1) (μ 10) side row) - 1 - i5_12) i5_12 (nI 0) (nI 16) v4_12 rfl (by omega) (fun y0 y1 y2 hy_34 => ?_)
        obtain rfl : y0 = (fr (fun i s => m_longestHeld_b34 (μ 1) (μ 10) side row off i5_12 i s.1 s.2.1 s.2.2) ((m_gathersRow_f24 (μ 1) (μ 10) side row) - 1 - i5_12) i5_12 (nI 0, nI 16, v4_12)).1 := congrArg (fun z => z.1) hy_34
        obtain rfl : y1 = (fr (fun i s => m_longestHeld_b34 (μ 1) (μ 10) side row off i5_12 i s.1 s.2.1 s.2.2) ((m_gathersRow_f24 (μ 1) (μ 10) side row) - 1 - i5_12) i5_12 (nI 0, nI 16, v4_12)).2.1 := congrArg (fun z => z.2.1) hy_34
        obtain rfl : y2 = (fr (fun i s => m_longestHeld_b34 (μ 1) (μ 10) side row off i5_12 i s.1 s.2.1 s.2.2) ((m_gathersRow_f24 (μ 1) (μ 10) side row) - 1 - i5_12) i5_12 (nI 0, nI 16, v4_12)).2.2 := congrArg (fun z => z.2.2) hy_34
        refine x_iincN O 0 [(5, .int (nI (i5_12 + 1))), (4, .int ((fr (fun i s => m_longestHeld_b34 (μ 1) (μ 10) side row off i5_12 i s.1 s.2.1 s.2.2) ((m_gathersRow_f24 (μ 1) (μ 10) side row) - 1 - i5_12) i5_12 (nI 0, nI 16, v4_12)).2.2)), (0, .ref (adr 0)), (3, .int off)] dX6_longestHeld_122 rfl rfl rfl ?_
        refine x_goto O 12 dX6_longestHeld_125 (by decide) ?_
        obtain ⟨c2_, rfl⟩ : ∃ z, cc_ = z + 1 := ⟨cc_ - 1, by omega⟩
        have hs_ : (fun i s => m_longestHeld_b12 (μ 1) (μ 10) side row off i s) i5_12 v4_12 = (fr (fun i s => m_longestHeld_b34 (μ 1) (μ 10) side row off i5_12 i s.1 s.2.1 s.2.2) ((m_gathersRow_f24 (μ 1) (μ 10) side row) - 1 - i5_12) i5_12 (nI 0, nI 16, v4_12)).2.2 := by show m_longestHeld_b12 (μ 1) (μ 10) side row off i5_12 v4_12 = _; unfold m_longestHeld_b12; rfl
        exact IH_ c2_ (by omega) _ _ (by omega) (by omega) (fun y0 hy_ => K_ y0 (hy_.trans (fr_step hs_).symm))
  refine LOOP12 ((m_gathersRow_f24 (μ 1) (μ 10) side row) - 1) 0 (nI 0) rfl (by omega) (fun y0 hy_12 => ?_)
  subst hy_12
  refine x_iload O 0 dX6_longestHeld_128 rfl ?_
  exact x_iretQ O hQ rfl dX6_longestHeld_130 (fun h m => ⟨by rw [hres], by rw [hrs0, hrs1]; exact m.eq rfl⟩)

def m_held_b79 (W : Nat → Int32) (C10 : Nat → Int32) (F24 : Int32) (side : Int32) (row : Int32) (off : Int32) (i5_79 : Nat)  : (Unit) ⊕ (Int32) :=
  (if (((m_gathersRow_c10 W C10 side (tn row)) (i5_79 + 1)) - ((m_gathersRow_c10 W C10 side (tn row)) i5_79)) ≤ ((((m_gathersRow_c10 W C10 side (tn row)) i5_79) - ((m_gathersRow_c10 W C10 side (tn row)) (i5_79 - 1))) + off) then .inl () else .inr ((m_gathersRow_c10 W C10 side (tn row)) i5_79))
def m_held (W : Nat → Int32) (C10 : Nat → Int32) (F24 : Int32) (side : Int32) (row : Int32) (off : Int32) (broke : Bool) : Int32 :=
  (if (if m_noSide side = true then true else (if m_noRow row = true then true else false)) = true then nI 0 else (if (if m_in off (nI 0) (nI 15) = true then false else true) = true then nI 0 else (if broke = true then (match (fre (fun i s => m_held_b79 W C10 F24 side row off i) ((m_gathersRow_f24 W C10 side (tn row)) - 1 - 1) 1 ()) with | .inl y_79 => (-1) | .inr v => v) else m_longestHeld W C10 side (tn row) off)))
def m_held_f0 (W : Nat → Int32) (C10 : Nat → Int32) (F24 : Int32) (side : Int32) (row : Int32) (off : Int32) (broke : Bool) : Nat :=
  (if (if m_noSide side = true then true else (if m_noRow row = true then true else false)) = true then 1 else (if (if m_in off (nI 0) (nI 15) = true then false else true) = true then 2 else 0))
def m_held_f24 (W : Nat → Int32) (C10 : Nat → Int32) (F24 : Int32) (side : Int32) (row : Int32) (off : Int32) (broke : Bool) : Int32 :=
  (if (if m_noSide side = true then true else (if m_noRow row = true then true else false)) = true then F24 else (if (if m_in off (nI 0) (nI 15) = true then false else true) = true then F24 else (if broke = true then nI (m_gathersRow_f24 W C10 side (tn row)) else nI (m_longestHeld_f24 W C10 side (tn row) off))))
def m_held_c10 (W : Nat → Int32) (C10 : Nat → Int32) (F24 : Int32) (side : Int32) (row : Int32) (off : Int32) (broke : Bool) : Nat → Int32 :=
  (if (if m_noSide side = true then true else (if m_noRow row = true then true else false)) = true then C10 else (if (if m_in off (nI 0) (nI 15) = true then false else true) = true then C10 else (if broke = true then m_gathersRow_c10 W C10 side (tn row) else m_longestHeld_c10 W C10 side (tn row) off)))
set_option maxHeartbeats 1000000 in
set_option maxRecDepth 100000 in
theorem c_m_held {G : UG} {adr : Nat → Nat} {h0 : Hp} {μ : Mu} (hI : MI (μ 1)) (side : Int32) (row : Int32) (off : Int32) (broke : Bool)  : Con G yX6_held cX6_held 6 (some .int) 7 160 0 0 [.ref (adr 0), .int side, .int row, .int off, .int (b2i broke)] (MS G adr h0 μ) (fun vr_ h' => vr_ = some (.int (m_held (μ 1) (μ 10) (μ 0 24) side row off broke)) ∧ MS G adr h0 (mc (mset (mset μ 0 0 (nI (m_held_f0 (μ 1) (μ 10) (μ 0 24) side row off broke))) 0 24 (m_held_f24 (μ 1) (μ 10) (μ 0 24) side row off broke)) 10 (m_held_c10 (μ 1) (μ 10) (μ 0 24) side row off broke)) h') nX := by
  refine con_of2 (plainFor_of_name (by decide)) rfl ?_
  intro F R Q RF RL RC RS hQ O hnh hnm
  obtain ⟨res, hres⟩ : ∃ z, z = (m_held (μ 1) (μ 10) (μ 0 24) side row off broke) := ⟨_, rfl⟩
  rw [← hres] at hQ
  unfold m_held at hres
  obtain ⟨rs0, hrs0⟩ : ∃ z, z = m_held_f0 (μ 1) (μ 10) (μ 0 24) side row off broke := ⟨_, rfl⟩
  rw [← hrs0] at hQ
  unfold m_held_f0 at hrs0
  obtain ⟨rs1, hrs1⟩ : ∃ z, z = m_held_f24 (μ 1) (μ 10) (μ 0 24) side row off broke := ⟨_, rfl⟩
  rw [← hrs1] at hQ
  unfold m_held_f24 at hrs1
  obtain ⟨rs2, hrs2⟩ : ∃ z, z = m_held_c10 (μ 1) (μ 10) (μ 0 24) side row off broke := ⟨_, rfl⟩
  rw [← hrs2] at hQ
  unfold m_held_c10 at hrs2
  have hg := gr_n (μ 1) (μ 10) side (tn row)
  refine x_eq (L' := [(0, .ref (adr 0)), (1, .int side), (2, .int row), (3, .int off), (4, .int (b2i broke))]) ?_ rfl rfl rfl
  refine x_aload_n O 0 dX6_held_0 rfl rfl ?_
  refine x_iconst O (nI 0) dX6_held_1 (by decide) ?_
  refine x_mputQ O p_X6_3_6 (mp_0 _ _ _) rfl dX6_held_2 (μ' := (mset μ 0 0 (nI 0))) rfl ?_
  refine x_aload_n O 0 dX6_held_5 rfl rfl ?_
  refine x_iload_n O 1 dX6_held_6 rfl rfl ?_
  refine x_cS O 1 (c_m_noSide side) (lw_S q2156 q2157 q111 q2158) hd_X6_noSide rfl (by rw [RF]; rfl) (by rw [RL]; rfl) ⟨Nat.zero_le _, Nat.zero_le _⟩ rfl rfl dX6_held_7 ?_
  refine x_top (v' := b2i (m_noSide side)) rfl ?_
  have J3 : ∀ (y1 : Bool), y1 = (if m_noSide side = true then true else (if m_noRow row = true then true else false)) → X G F R Q 6 25 [(0, .ref (adr 0)), (1, .int side), (2, .int row), (3, .int off), (4, .int (b2i broke))] [.int (b2i y1), .ref (adr 0)] (MS G adr h0 ((mset μ 0 0 (nI 0)))) 0 0 := by
    intro y1 e4
    subst e4
    refine x_iconst O (nI 1) dX6_held_25 (by decide) ?_
    refine x_bc ((if m_noSide side = true then true else (if m_noRow row = true then true else false))) (fun c26 => ?_) (fun c26 => ?_)
    · have hr5 := hres.trans (if_pos c26)
      have hr6 := hrs0.trans (if_pos c26)
      have hr7 := hrs1.trans (if_pos c26)
      have hr8 := hrs2.trans (if_pos c26)
      refine x_eq (st' := [.int (nI 1), .int (b2i true), .ref (adr 0)]) ?_ rfl rfl (by rw [c26] <;> rfl)
      refine x_cV O 2 (c_m_throwsIf_t (μ := (mset μ 0 0 (nI 0))) 1) MS.obj uc6 (lw_V q1774 q1776 qs34 q111 q1777) rfl hd_X6_throwsIf rfl (by rw [RF]; rfl) (by rw [RL]; rfl) ⟨Nat.zero_le _, Nat.zero_le _⟩ rfl rfl dX6_held_26 ?_
      refine x_top (v' := b2i true) rfl ?_
      refine x_weak (Ω' := MS G adr h0 (mset μ 0 0 (nI 1))) (fun _ m => m.eq ff_s) ?_
      refine x_ifneB O 55 dX6_held_29 (by decide) (fun _ => ?_) (fun c => absurd rfl c)
      refine x_sub [0] (L' := [(0, .ref (adr 0))]) rfl ?_
      refine x_iconst O (nI 0) dX6_held_55 (by decide) ?_
      exact x_iretQ O hQ rfl dX6_held_56 (fun h m => ⟨by rw [hr5], by rw [hr6, hr7, hr8]; exact m.eq ((mf_id (k := 24) (v := μ 0 24) (by rfl)).symm.trans (mc_id (c := 10) (f := μ 10) (by rfl)).symm)⟩)
    · have hr9 := hres.trans (if_neg c26)
      have hr10 := hrs0.trans (if_neg c26)
      have hr11 := hrs1.trans (if_neg c26)
      have hr12 := hrs2.trans (if_neg c26)
      refine x_eq (st' := [.int (nI 1), .int (b2i false), .ref (adr 0)]) ?_ rfl rfl (by rw [bfalse c26] <;> rfl)
      refine x_cV O 2 (c_m_throwsIf_f (μ := (mset μ 0 0 (nI 0))) 1) MS.obj uc6 (lw_V q1774 q1776 qs34 q111 q1777) rfl hd_X6_throwsIf rfl (by rw [RF]; rfl) (by rw [RL]; rfl) ⟨Nat.zero_le _, Nat.zero_le _⟩ rfl rfl dX6_held_26 ?_
      refine x_top (v' := b2i false) rfl ?_
      refine x_ifneB O 55 dX6_held_29 (by decide) (fun c => absurd c (by decide)) (fun _ => ?_)
      refine x_aload_n O 0 dX6_held_32 rfl rfl ?_
      refine x_iload_n O 3 dX6_held_33 rfl rfl ?_
      refine x_iconst O (nI 0) dX6_held_34 (by decide) ?_
      refine x_bipush O (nI 15) dX6_held_35 (by decide) ?_
      refine x_cS O 3 (c_m_in off (nI 0) (nI 15)) (lw_S q1771 q1772 q111 q1773) hd_X6_in rfl (by rw [RF]; rfl) (by rw [RL]; rfl) ⟨Nat.zero_le _, Nat.zero_le _⟩ rfl rfl dX6_held_37 ?_
      refine x_top (v' := b2i (m_in off (nI 0) (nI 15))) rfl ?_
      have J13 : ∀ (y2 : Bool), y2 = (if m_in off (nI 0) (nI 15) = true then false else true) → X G F R Q 6 48 [(0, .ref (adr 0)), (1, .int side), (2, .int row), (3, .int off), (4, .int (b2i broke))] [.int (b2i y2), .ref (adr 0)] (MS G adr h0 ((mset μ 0 0 (nI 0)))) 0 0 := by
        intro y2 e14
        subst e14
        refine x_iconst O (nI 2) dX6_held_48 (by decide) ?_
        refine x_bc ((if m_in off (nI 0) (nI 15) = true then false else true)) (fun c49 => ?_) (fun c49 => ?_)
        · have hr15 := hr9.trans (if_pos c49)
          have hr16 := hr10.trans (if_pos c49)
          have hr17 := hr11.trans (if_pos c49)
          have hr18 := hr12.trans (if_pos c49)
          refine x_eq (st' := [.int (nI 2), .int (b2i true), .ref (adr 0)]) ?_ rfl rfl (by rw [c49] <;> rfl)
          refine x_cV O 2 (c_m_throwsIf_t (μ := (mset μ 0 0 (nI 0))) 2) MS.obj uc6 (lw_V q1774 q1776 qs34 q111 q1777) rfl hd_X6_throwsIf rfl (by rw [RF]; rfl) (by rw [RL]; rfl) ⟨Nat.zero_le _, Nat.zero_le _⟩ rfl rfl dX6_held_49 ?_
          refine x_top (v' := b2i true) rfl ?_
          refine x_weak (Ω' := MS G adr h0 (mset μ 0 0 (nI 2))) (fun _ m => m.eq ff_s) ?_
          refine x_ifeqB O 57 dX6_held_52 (by decide) (fun c => absurd rfl c) (fun _ => ?_)
          refine x_sub [0] (L' := [(0, .ref (adr 0))]) rfl ?_
          refine x_iconst O (nI 0) dX6_held_55 (by decide) ?_
          exact x_iretQ O hQ rfl dX6_held_56 (fun h m => ⟨by rw [hr15], by rw [hr16, hr17, hr18]; exact m.eq ((mf_id (k := 24) (v := μ 0 24) (by rfl)).symm.trans (mc_id (c := 10) (f := μ 10) (by rfl)).symm)⟩)
        · have hr19 := hr9.trans (if_neg c49)
          have hr20 := hr10.trans (if_neg c49)
          have hr21 := hr11.trans (if_neg c49)
          have hr22 := hr12.trans (if_neg c49)
          refine x_eq (st' := [.int (nI 2), .int (b2i false), .ref (adr 0)]) ?_ rfl rfl (by rw [bfalse c49] <;> rfl)
          refine x_cV O 2 (c_m_throwsIf_f (μ := (mset μ 0 0 (nI 0))) 2) MS.obj uc6 (lw_V q1774 q1776 qs34 q111 q1777) rfl hd_X6_throwsIf rfl (by rw [RF]; rfl) (by rw [RL]; rfl) ⟨Nat.zero_le _, Nat.zero_le _⟩ rfl rfl dX6_held_49 ?_
          refine x_top (v' := b2i false) rfl ?_
          refine x_ifeqB O 57 dX6_held_52 (by decide) (fun _ => ?_) (fun c => absurd c (by decide))
          refine x_iload O 4 dX6_held_57 rfl ?_
          refine x_ifneB O 70 dX6_held_59 (by decide) (fun c59 => ?_) (fun c59 => ?_)
          · have hr23 := hr19.trans (if_pos c59)
            have hr24 := hr21.trans (if_pos c59)
            have hr25 := hr22.trans (if_pos c59)
            refine x_sub [0, 1, 2, 3] (L' := [(0, .ref (adr 0)), (1, .int side), (2, .int row), (3, .int off)]) rfl ?_
            refine x_aload_n O 0 dX6_held_70 rfl rfl ?_
            refine x_iload_n O 1 dX6_held_71 rfl rfl ?_
            refine x_iload_n O 2 dX6_held_72 rfl rfl ?_
            refine x_top (v' := nI (tn row)) ((noRow_nn (porB c26)).1) ?_
            refine x_cV O 2 (c_m_gathersRow (μ := (mset μ 0 0 (nI 0))) hI side (tn row) (by have := (noRow_nn (porB c26)).2; omega)) MS.obj uc6 (lw_V q2163 q2165 qs91 q111 q2166) rfl hd_X6_gathersRow rfl (by rw [RF]; rfl) (by rw [RL]; rfl) ⟨Nat.zero_le _, Nat.zero_le _⟩ rfl rfl dX6_held_73 ?_
            refine x_weak (Ω' := MS G adr h0 (mc (mset (mset μ 0 0 (nI 0)) 0 24 (nI (m_gathersRow_f24 (μ 1) (μ 10) side (tn row)))) 10 (m_gathersRow_c10 (μ 1) (μ 10) side (tn row)))) (fun _ m => by rw [show (mset μ 0 0 (nI 0)) 1 = μ 1 from (mset_n (by decide)), show (mset μ 0 0 (nI 0)) 10 = μ 10 from (mset_n (by decide))] at m; exact m.eq rfl) ?_
            refine x_iconst O (nI 1) dX6_held_76 (by decide) ?_
            refine x_istore O [(5, .int (nI 1)), (0, .ref (adr 0)), (1, .int side), (2, .int row), (3, .int off)] dX6_held_77 rfl rfl ?_
            refine x_sub [0, 1, 4] (L' := [(5, .int (nI 1)), (0, .ref (adr 0)), (3, .int off)]) rfl ?_
            have LOOP79 : ∀ (cc_ : Nat) (i5_79 : Nat) , cc_ = (m_gathersRow_f24 (μ 1) (μ 10) side (tn row)) - 1 - i5_79 → i5_79 < 2147483647 → (1 ≤ i5_79) → (fre (fun i s => m_held_b79 (μ 1) (μ 10) (μ 0 24) side row off i) cc_ i5_79 () = .inl () → X G F R Q 6 143 [(0, .ref (adr 0))] [] (MS G adr h0 ((mc (mset (mset μ 0 0 (nI 0)) 0 24 (nI (m_gathersRow_f24 (μ 1) (μ 10) side (tn row)))) 10 (m_gathersRow_c10 (μ 1) (μ 10) side (tn row))))) 0 0) → (∀ v_ : Int32, fre (fun i s => m_held_b79 (μ 1) (μ 10) (μ 0 24) side row off i) cc_ i5_79 () = .inr v_ → res = v_) → X G F R Q 6 79 [(5, .int (nI i5_79)), (0, .ref (adr 0)), (3, .int off)] [] (MS G adr h0 ((mc (mset (mset μ 0 0 (nI 0)) 0 24 (nI (m_gathersRow_f24 (μ 1) (μ 10) side (tn row)))) 10 (m_gathersRow_c10 (μ 1) (μ 10) side (tn row))))) 0 0 := by
              intro cc_
              induction cc_ using Nat.strongRecOn with
              | ind cc_ IH_ =>
                intro i5_79  hc_ hb_ h1_ K_ K2_
                refine x_iload O 0 dX6_held_79 rfl ?_
                refine x_iconst O (nI 1) dX6_held_81 (by decide) ?_
                refine x_iaddN O dX6_held_82 ?_
                refine x_aload_n O 1 dX6_held_83 rfl rfl ?_
                refine x_mget O k_X6_387_6 (mg_24 _ _) dX6_held_84 ?_
                refine x_top (v' := nI (m_gathersRow_f24 (μ 1) (μ 10) side (tn row))) ((congrFun (mc_n (by decide)) 24).trans rd_hit) ?_
                refine x_icmpgeN O 143 (by omega) (by omega) dX6_held_87 (by decide) (fun c87 => ?_) (fun c87 => ?_)
                · refine x_sub [1] (L' := [(0, .ref (adr 0))]) rfl ?_
                  obtain rfl : cc_ = 0 := by omega
                  exact K_ rfl
                · refine x_aload_n O 1 dX6_held_90 rfl rfl ?_
                  refine x_mget O k_X6_45_6 (mg_23 _ _) dX6_held_91 ?_
                  refine x_iload O 0 dX6_held_94 rfl ?_
                  refine x_iconst O (nI 1) dX6_held_96 (by decide) ?_
                  refine x_iaddN O dX6_held_97 ?_
                  refine x_ialdN O MS.c10 (by omega) rfl dX6_held_98 ?_
                  refine x_top (v' := (m_gathersRow_c10 (μ 1) (μ 10) side (tn row)) (i5_79 + 1)) (congrFun mc_s (i5_79 + 1)) ?_
                  refine x_aload_n O 1 dX6_held_99 rfl rfl ?_
                  refine x_mget O k_X6_45_6 (mg_23 _ _) dX6_held_100 ?_
                  refine x_iload O 0 dX6_held_103 rfl ?_
                  refine x_ialdN O MS.c10 (by omega) rfl dX6_held_105 ?_
                  refine x_top (v' := (m_gathersRow_c10 (μ 1) (μ 10) side (tn row)) i5_79) (congrFun mc_s i5_79) ?_
                  refine x_isub O dX6_held_106 ?_
                  refine x_aload_n O 1 dX6_held_107 rfl rfl ?_
                  refine x_mget O k_X6_45_6 (mg_23 _ _) dX6_held_108 ?_
                  refine x_iload O 0 dX6_held_111 rfl ?_
                  refine x_ialdN O MS.c10 (by omega) rfl dX6_held_113 ?_
                  refine x_top (v' := (m_gathersRow_c10 (μ 1) (μ 10) side (tn row)) i5_79) (congrFun mc_s i5_79) ?_
                  refine x_aload_n O 1 dX6_held_114 rfl rfl ?_
                  refine x_mget O k_X6_45_6 (mg_23 _ _) dX6_held_115 ?_
                  refine x_iload O 0 dX6_held_118 rfl ?_
                  refine x_iconst O (nI 1) dX6_held_120 (by decide) ?_
                  refine x_isubN O (by omega) dX6_held_121 ?_
                  refine x_ialdN O MS.c10 (by omega) rfl dX6_held_122 ?_
                  refine x_top (v' := (m_gathersRow_c10 (μ 1) (μ 10) side (tn row)) (i5_79 - 1)) (congrFun mc_s (i5_79 - 1)) ?_
                  refine x_isub O dX6_held_123 ?_
                  refine x_iload_n O 2 dX6_held_124 rfl rfl ?_
                  refine x_iadd O dX6_held_125 ?_
                  refine x_icmple O 137 dX6_held_126 (by decide) (fun c126 => ?_) (fun c126 => ?_)
                  · refine x_iincN O 0 [(5, .int (nI (i5_79 + 1))), (0, .ref (adr 0)), (3, .int off)] dX6_held_137 rfl rfl rfl ?_
                    refine x_goto O 79 dX6_held_140 (by decide) ?_
                    obtain ⟨c2_, rfl⟩ : ∃ z, cc_ = z + 1 := ⟨cc_ - 1, by omega⟩
                    have hs_ : (fun i s => m_held_b79 (μ 1) (μ 10) (μ 0 24) side row off i) i5_79 () = .inl () := by show m_held_b79 (μ 1) (μ 10) (μ 0 24) side row off i5_79 = _; unfold m_held_b79; rw [if_pos c126]
                    exact IH_ c2_ (by omega) _ (by omega) (by omega) (by omega) (fun hy_ => K_ ((frx_step hs_).trans hy_)) (fun v_ hv_ => K2_ v_ ((frx_step hs_).trans hv_))
                  · refine x_sub [0, 1] (L' := [(5, .int (nI i5_79)), (0, .ref (adr 0))]) rfl ?_
                    refine x_aload_n O 1 dX6_held_129 rfl rfl ?_
                    refine x_mget O k_X6_45_6 (mg_23 _ _) dX6_held_130 ?_
                    refine x_iload O 0 dX6_held_133 rfl ?_
                    refine x_ialdN O MS.c10 (by omega) rfl dX6_held_135 ?_
                    refine x_top (v' := (m_gathersRow_c10 (μ 1) (μ 10) side (tn row)) i5_79) (congrFun mc_s i5_79) ?_
                    obtain ⟨c2_, rfl⟩ : ∃ z, cc_ = z + 1 := ⟨cc_ - 1, by omega⟩
                    have hs_ : (fun i s => m_held_b79 (μ 1) (μ 10) (μ 0 24) side row off i) i5_79 () = .inr ((m_gathersRow_c10 (μ 1) (μ 10) side (tn row)) i5_79) := by show m_held_b79 (μ 1) (μ 10) (μ 0 24) side row off i5_79 = _; unfold m_held_b79; rw [if_neg c126]
                    have hk26 := K2_ _ (frx_stop hs_)
                    exact x_iretQ O hQ rfl dX6_held_136 (fun h m => ⟨by rw [hk26], by rw [hr20, hr24, hr25]; exact m.eq rfl⟩)
            refine LOOP79 ((m_gathersRow_f24 (μ 1) (μ 10) side (tn row)) - 1 - 1) 1 rfl (by omega) (by omega) (fun  hy_79 => ?_) (fun v_ hv_ => by rw [hr23, hv_])
            rw [hy_79] at hr23
            refine x_iconst O ((-1)) dX6_held_143 (by decide) ?_
            exact x_iretQ O hQ rfl dX6_held_144 (fun h m => ⟨by rw [hr23], by rw [hr20, hr24, hr25]; exact m.eq rfl⟩)
          · have hr27 := hr19.trans (if_neg c59)
            have hr28 := hr21.trans (if_neg c59)
            have hr29 := hr22.trans (if_neg c59)
            refine x_sub [0, 1, 2, 3] (L' := [(0, .ref (adr 0)), (1, .int side), (2, .int row), (3, .int off)]) rfl ?_
            refine x_aload_n O 0 dX6_held_62 rfl rfl ?_
            refine x_iload_n O 1 dX6_held_63 rfl rfl ?_
            refine x_iload_n O 2 dX6_held_64 rfl rfl ?_
            refine x_top (v' := nI (tn row)) ((noRow_nn (porB c26)).1) ?_
            refine x_iload_n O 3 dX6_held_65 rfl rfl ?_
            refine x_cV O 3 (c_m_longestHeld (μ := (mset μ 0 0 (nI 0))) hI side (tn row) off (by have := (noRow_nn (porB c26)).2; omega)) MS.obj uc6 (lw_V q2159 q2161 qs90 q111 q2162) rfl hd_X6_longestHeld rfl (by rw [RF]; rfl) (by rw [RL]; rfl) ⟨Nat.zero_le _, Nat.zero_le _⟩ rfl rfl dX6_held_66 ?_
            refine x_top (v' := m_longestHeld (μ 1) (μ 10) side (tn row) off) (by rw [show (mset μ 0 0 (nI 0)) 1 = μ 1 from (mset_n (by decide)), show (mset μ 0 0 (nI 0)) 10 = μ 10 from (mset_n (by decide))]) ?_
            refine x_weak (Ω' := MS G adr h0 (mc (mset (mset μ 0 0 (nI 0)) 0 24 (nI (m_longestHeld_f24 (μ 1) (μ 10) side (tn row) off))) 10 (m_longestHeld_c10 (μ 1) (μ 10) side (tn row) off))) (fun _ m => by rw [show (mset μ 0 0 (nI 0)) 1 = μ 1 from (mset_n (by decide)), show (mset μ 0 0 (nI 0)) 10 = μ 10 from (mset_n (by decide))] at m; exact m.eq rfl) ?_
            exact x_iretQ O hQ rfl dX6_held_69 (fun h m => ⟨by rw [hr27], by rw [hr20, hr28, hr29]; exact m.eq rfl⟩)
      refine x_ifneB O 47 dX6_held_40 (by decide) (fun c40 => ?_) (fun c40 => ?_)
      · refine x_iconst O (nI 0) dX6_held_47 (by decide) ?_
        refine x_top (v' := b2i false) (by decide) ?_
        exact J13 false (by rw [if_pos c40])
      · refine x_iconst O (nI 1) dX6_held_43 (by decide) ?_
        refine x_goto O 48 dX6_held_44 (by decide) ?_
        refine x_top (v' := b2i true) (by decide) ?_
        exact J13 true (by rw [if_neg c40])
  refine x_ifneB O 20 dX6_held_10 (by decide) (fun c10 => ?_) (fun c10 => ?_)
  · refine x_iconst O (nI 1) dX6_held_20 (by decide) ?_
    refine x_goto O 25 dX6_held_21 (by decide) ?_
    refine x_top (v' := b2i true) (by decide) ?_
    exact J3 true (by rw [if_pos c10])
  · refine x_iload_n O 2 dX6_held_13 rfl rfl ?_
    refine x_cS O 1 (c_m_noRow row) (lw_S q2086 q2087 q111 q2088) hd_X6_noRow rfl (by rw [RF]; rfl) (by rw [RL]; rfl) ⟨Nat.zero_le _, Nat.zero_le _⟩ rfl rfl dX6_held_14 ?_
    refine x_top (v' := b2i (m_noRow row)) rfl ?_
    refine x_ifeqB O 24 dX6_held_17 (by decide) (fun c17 => ?_) (fun c17 => ?_)
    · refine x_iconst O (nI 0) dX6_held_24 (by decide) ?_
      refine x_top (v' := b2i false) (by decide) ?_
      exact J3 false (by first | (rw [if_neg c10, if_neg c17]; done) | simp only [if_neg c10, if_neg c17])
    · refine x_iconst O (nI 1) dX6_held_20 (by decide) ?_
      refine x_goto O 25 dX6_held_21 (by decide) ?_
      refine x_top (v' := b2i true) (by decide) ?_
      exact J3 true (by first | (rw [if_neg c10, if_pos c17]; done) | simp only [if_neg c10, if_pos c17])
