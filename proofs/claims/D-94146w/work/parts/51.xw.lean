/-! the house 'now' written -/
section XW
variable {G : UG} {κe κ : Hp} {adr : Nat → Nat} {μ μ' : Mu} {ρ ρ' : List Nat} {h : Hp} {w : Nat → Int32} {B i : Nat} {v : Int32}
theorem fEnt_u (hi : i < 349 ∨ 1069 ≤ i) {k : Nat} (hk : k < 120) : fEnt (ups w i v) k = fEnt w k := by
  have e : ∀ t, 349 ≤ t → t < 1069 → ups w i v t = w t := fun t h1 h2 => ups_n (by omega)
  unfold fEnt
  rw [e _ (by omega) (by omega), e _ (by omega) (by omega), e _ (by omega) (by omega), e _ (by omega) (by omega), e _ (by omega) (by omega), e _ (by omega) (by omega)]
theorem tEnt_u (hi : i < 1069 ∨ 1101 ≤ i) {k : Nat} (hk : k < 8) : tEnt (ups w i v) k = tEnt w k := by
  have e : ∀ t, 1069 ≤ t → t < 1101 → ups w i v t = w t := fun t h1 h2 => ups_n (by omega)
  unfold tEnt
  rw [e _ (by omega) (by omega), e _ (by omega) (by omega), e _ (by omega) (by omega), e _ (by omega) (by omega)]
theorem nEnt_u (hi : i < 1101 ∨ 1161 ≤ i) {k : Nat} (hk : k < 20) : nEnt (ups w i v) k = nEnt w k := by
  have e : ∀ t, 1101 ≤ t → t < 1161 → ups w i v t = w t := fun t h1 h2 => ups_n (by omega)
  unfold nEnt
  rw [e _ (by omega) (by omega), e _ (by omega) (by omega), e _ (by omega) (by omega)]
theorem gEnt_u {k : Nat} (hi : i < 269 + 4 * k ∨ 273 + 4 * k ≤ i) : gEnt (ups w i v) k = gEnt w k := by
  have e : ∀ t, 269 + 4 * k ≤ t → t < 273 + 4 * k → ups w i v t = w t := fun t h1 h2 => ups_n (by omega)
  unfold gEnt
  rw [e _ (by omega) (by omega), e _ (by omega) (by omega), e _ (by omega) (by omega), e _ (by omega) (by omega)]
theorem pEnt_u {k : Nat} (hi : i < 301 + 6 * k ∨ 307 + 6 * k ≤ i) : pEnt (ups w i v) k = pEnt w k := by
  have e : ∀ t, 301 + 6 * k ≤ t → t < 307 + 6 * k → ups w i v t = w t := fun t h1 h2 => ups_n (by omega)
  unfold pEnt
  rw [e _ (by omega) (by omega), e _ (by omega) (by omega), e _ (by omega) (by omega), e _ (by omega) (by omega), e _ (by omega) (by omega), e _ (by omega) (by omega)]
/-- a place of the world that the role j doesn't show -/
def offW (j i : Nat) : Prop := (j = 0 → 13 ≤ i) ∧ (j = 1 → i < 13 ∨ 269 ≤ i) ∧ (j = 5 → i < 349 ∨ 1069 ≤ i) ∧ (j = 6 → i < 1069 ∨ 1101 ≤ i) ∧ (j = 7 → i < 1101 ∨ 1161 ≤ i) ∧ (j = 8 → i < 1161 ∨ 1166 ≤ i) ∧ (100 ≤ j → j < 200 → i < 269 + 4 * (j - 100) ∨ 273 + 4 * (j - 100) ≤ i) ∧ (200 ≤ j → i < 301 + 6 * (j - 200) ∨ 307 + 6 * (j - 200) ≤ i)
theorem hEnt_u (hC : hCnt w) (h7 : 7 ≤ i) (h6 : i < 1166) {j : Nat} {e : va_E} (hd : hDom w j) (ho : offW j i) (he : hEnt G κe adr (PLaw G κe w) (PSto G κe w) B w j e) : hEnt G κe adr (PLaw G κe (ups w i v)) (PSto G κe (ups w i v)) B (ups w i v) j e := by
  obtain ⟨o0, o1, o5, o6, o7, o8, og, op⟩ := ho
  obtain ⟨n0, n1, n2, n3, n4, n5, n6⟩ := hC
  have hs : ST w (ups w i v) := ST.r.u h6
  have c : ∀ t, t < 7 → ups w i v t = w t := fun t ht => ups_n (by omega)
  rcases j with _ | _ | _ | _ | _ | _ | _ | _ | _ | _ | r
  · have := o0 rfl
    have he : e = .inr (3, hObj adr B w) := he
    show e = .inr (3, hObj adr B (ups w i v))
    rw [he]; unfold hObj
    have e : ∀ t, t < 13 → ups w i v t = w t := fun t ht => ups_n (by omega)
    rw [e 0 (by decide), e 1 (by decide), e 2 (by decide), e 3 (by decide), e 4 (by decide), e 5 (by decide), e 6 (by decide), e 7 (by decide), e 8 (by decide), e 9 (by decide), e 10 (by decide), e 11 (by decide), e 12 (by decide)]
  · have := o1 rfl
    obtain ⟨f, h1, h2⟩ := he
    exact ⟨f, h1, fun q hq => by rw [ups_n (by omega)]; exact h2 q hq⟩
  · obtain ⟨f, h1, h2⟩ := he
    exact ⟨f, h1, fun q hq => h2 q (by rw [c 0 (by decide)] at hq; exact hq)⟩
  · obtain ⟨f, h1, h2⟩ := he
    exact ⟨f, h1, fun q hq => h2 q (by rw [c 1 (by decide)] at hq; exact hq)⟩
  · obtain ⟨f, h1, h2, h3⟩ := he
    refine ⟨f, h1, h2, fun q hq => ?_⟩
    obtain ⟨y, h4, h5⟩ := h3 q (by rw [c 2 (by decide)] at hq; exact hq)
    exact ⟨y, h4, h5.m sub.r hs⟩
  · obtain ⟨f, h1, h2, h3⟩ := he
    refine ⟨f, h1, h2, fun q hq => ?_⟩
    rw [c 3 (by decide)] at hq
    obtain ⟨y, h4, h5⟩ := h3 q hq
    exact ⟨y, h4, by rw [fEnt_u (o5 rfl) (by omega)]; exact h5⟩
  · obtain ⟨f, h1, h2, h3⟩ := he
    refine ⟨f, h1, h2, fun q hq => ?_⟩
    rw [c 4 (by decide)] at hq
    obtain ⟨y, h4, h5⟩ := h3 q hq
    exact ⟨y, h4, by rw [tEnt_u (o6 rfl) (by omega)]; exact h5⟩
  · obtain ⟨f, h1, h2, h3⟩ := he
    refine ⟨f, h1, h2, fun q hq => ?_⟩
    rw [c 5 (by decide)] at hq
    obtain ⟨y, h4, h5⟩ := h3 q hq
    exact ⟨y, h4, by rw [nEnt_u (o7 rfl) (by omega)]; exact h5⟩
  · obtain ⟨f, h1, h2, h3⟩ := he
    refine ⟨f, h1, h2, fun q hq => ?_⟩
    rw [c 6 (by decide)] at hq
    obtain ⟨y, z, h4, h5, h6⟩ := h3 q hq
    have := o8 rfl
    exact ⟨y, z, h4, by rw [ups_n (by omega)]; exact h5, h6.m sub.r hs⟩
  · exact he
  · simp only [hEnt] at he ⊢
    by_cases q : r + 10 < 200
    · rw [if_pos q] at he ⊢
      have q2 : 100 ≤ r + 10 := by rcases hd with hd | hd | hd <;> omega
      rw [gEnt_u (og q2 q)]; exact he
    · rw [if_neg q] at he ⊢
      rw [pEnt_u (op (by omega))]; exact he
theorem hDom_u (h7 : 7 ≤ i) {j : Nat} : hDom (ups w i v) j ↔ hDom w j := by
  unfold hDom
  rw [ups_n (by omega), ups_n (by omega)]
theorem xEq_1 {i : Nat} {v : Int32} {j : Nat} (hq : isEq j = true) : xEq G adr (mset μ 1 i v) j = xEq G adr μ j := by
  unfold isEq at hq
  split at hq <;> first | rfl | cases hq
set_option maxRecDepth 100000 in
theorem XR.wW (m : XR G κe κ adr μ ρ h) (hI : MI (μ 1)) {r : Nat} {e : va_E} (hr : hDom (μ 1) r) (r9 : r ≠ 9) (h7 : 7 ≤ i) (h6 : i < 1166) (he : hEnt G κe adr (PLaw G κe (ups (μ 1) i v)) (PSto G κe (ups (μ 1) i v)) 1000 (ups (μ 1) i v) r e) (ho : ∀ j, hDom (μ 1) j → j ≠ r → offW j i) : XR G κe κ adr (mset μ 1 i v) ρ (hset h (adr (1000 + r)) e) := by
  have e1 : mset μ 1 i v 1 = ups (μ 1) i v := mset_s
  have e2 : mset μ 1 i v 2 = μ 2 := mset_n (by decide)
  have e7 : mset μ 1 i v 7 = μ 7 := mset_n (by decide)
  have hr8 := hDom_lt hI.c hr
  refine m.wr (i := 1000 + r) (Or.inr (Or.inr (Or.inl ⟨by omega, by omega, by rw [show 1000 + r - 1000 = r by omega]; exact hr⟩))) (fun j hj => ?_) ?_ (fun j e' hd c q => ?_)
  · unfold xDom at hj ⊢
    rw [e1, e2] at hj
    rcases hj with hj | hj | ⟨a, b, hj⟩ | hj
    · exact Or.inl hj
    · exact Or.inr (Or.inl hj)
    · exact Or.inr (Or.inr (Or.inl ⟨a, b, (hDom_u h7).mp hj⟩))
    · exact Or.inr (Or.inr (Or.inr hj))
  · unfold xEnt
    rw [if_neg (by rw [isEq_h _ (by omega)]; omega), if_neg (by omega), if_neg (by omega), if_pos (by omega), show 1000 + r - 1000 = r by omega, e1]
    exact he
  · unfold xEnt at q ⊢
    by_cases c1 : isEq j = true
    · rw [if_pos c1] at q ⊢
      rw [xEq_1 c1]; exact q
    · rw [if_neg c1] at q ⊢
      by_cases c2 : j = 11
      · rw [if_pos c2] at q ⊢; exact q
      · rw [if_neg c2] at q ⊢
        by_cases c3 : j < 1000
        · rw [if_pos c3] at q ⊢
          rw [e7]; exact q
        · rw [if_neg c3] at q ⊢
          by_cases c4 : j < 2000
          · rw [if_pos c4] at q ⊢
            rw [e1]
            have hdj : hDom (μ 1) (j - 1000) := by
              rcases hd with hd | hd | hd | hd
              · omega
              · omega
              · exact hd.2.2
              · omega
            exact hEnt_u hI.c h7 h6 hdj (ho _ hdj (fun z => c (by rw [← z]; exact (Nat.add_sub_cancel' (Nat.le_of_not_lt c3)).symm))) q
          · rw [if_neg c4] at q ⊢
            rw [e2]; exact q
theorem hDom_lt2 (hC : hCnt w) {r : Nat} (h : hDom w r) : r < 108 ∨ 200 ≤ r := by
  have h0 := hC.1; have h1 := hC.2.1
  rcases h with h | h | h <;> omega
theorem offW_lo {j : Nat} (h7 : 7 ≤ i) (h13 : i < 13) (hd : hDom w j) (hj : j ≠ 0) : offW j i := by
  refine ⟨fun e => absurd e hj, fun _ => Or.inl h13, fun _ => Or.inl (by omega), fun _ => Or.inl (by omega), fun _ => Or.inl (by omega), fun _ => Or.inl (by omega), fun _ _ => Or.inl (by omega), fun _ => Or.inl (by omega)⟩
theorem offW_ht {j c : Nat} (hc : c < 256) (hj : j ≠ 1) : offW j (13 + c) := by
  refine ⟨fun _ => by omega, fun e => absurd e hj, fun _ => Or.inl (by omega), fun _ => Or.inl (by omega), fun _ => Or.inl (by omega), fun _ => Or.inl (by omega), fun _ _ => Or.inl (by omega), fun _ => Or.inl (by omega)⟩
theorem offW_g {j k t : Nat} (hk : k < 8) (ht : t < 4) (hj : j ≠ 100 + k) : offW j (269 + t + 4 * k) := by
  refine ⟨fun _ => by omega, fun _ => by omega, fun _ => Or.inl (by omega), fun _ => Or.inl (by omega), fun _ => Or.inl (by omega), fun _ => Or.inl (by omega), fun _ _ => by omega, fun _ => Or.inl (by omega)⟩
theorem offW_p {j k t : Nat} (hk : k < 8) (ht : t < 6) (hj : j ≠ 200 + k) (h2 : j < 208) (h1 : j < 108 ∨ 200 ≤ j) : offW j (301 + t + 6 * k) := by
  refine ⟨fun _ => by omega, fun _ => by omega, fun _ => Or.inl (by omega), fun _ => Or.inl (by omega), fun _ => Or.inl (by omega), fun _ => Or.inl (by omega), fun _ _ => by omega, fun _ => by omega⟩
theorem XR.wF7 (m : XR G κe κ adr μ ρ h) (hI : MI (μ 1)) : XR G κe κ adr (mset μ 1 7 v) ρ (hset h (adr 1000) (.inr (3, (hObj adr 1000 (μ 1)).set 18 (.int v)))) :=
  m.wW (r := 0) hI (Or.inl (by decide)) (by decide) (by decide) (by decide) rfl (fun j hd hj => offW_lo (by decide) (by decide) hd hj)
theorem XR.wF8 (m : XR G κe κ adr μ ρ h) (hI : MI (μ 1)) : XR G κe κ adr (mset μ 1 8 v) ρ (hset h (adr 1000) (.inr (3, (hObj adr 1000 (μ 1)).set 16 (.int v)))) :=
  m.wW (r := 0) hI (Or.inl (by decide)) (by decide) (by decide) (by decide) rfl (fun j hd hj => offW_lo (by decide) (by decide) hd hj)
theorem XR.wF9 (m : XR G κe κ adr μ ρ h) (hI : MI (μ 1)) : XR G κe κ adr (mset μ 1 9 v) ρ (hset h (adr 1000) (.inr (3, (hObj adr 1000 (μ 1)).set 17 (.int v)))) :=
  m.wW (r := 0) hI (Or.inl (by decide)) (by decide) (by decide) (by decide) rfl (fun j hd hj => offW_lo (by decide) (by decide) hd hj)
theorem XR.wF10 (m : XR G κe κ adr μ ρ h) (hI : MI (μ 1)) : XR G κe κ adr (mset μ 1 10 v) ρ (hset h (adr 1000) (.inr (3, (hObj adr 1000 (μ 1)).set 19 (.int v)))) :=
  m.wW (r := 0) hI (Or.inl (by decide)) (by decide) (by decide) (by decide) rfl (fun j hd hj => offW_lo (by decide) (by decide) hd hj)
theorem XR.wF11 (m : XR G κe κ adr μ ρ h) (hI : MI (μ 1)) : XR G κe κ adr (mset μ 1 11 v) ρ (hset h (adr 1000) (.inr (3, (hObj adr 1000 (μ 1)).set 20 (.int v)))) :=
  m.wW (r := 0) hI (Or.inl (by decide)) (by decide) (by decide) (by decide) rfl (fun j hd hj => offW_lo (by decide) (by decide) hd hj)
theorem XR.wF12 (m : XR G κe κ adr μ ρ h) (hI : MI (μ 1)) : XR G κe κ adr (mset μ 1 12 v) ρ (hset h (adr 1000) (.inr (3, (hObj adr 1000 (μ 1)).set 21 (.int v)))) :=
  m.wW (r := 0) hI (Or.inl (by decide)) (by decide) (by decide) (by decide) rfl (fun j hd hj => offW_lo (by decide) (by decide) hd hj)
theorem XR.wH (m : XR G κe κ adr μ ρ h) (hI : MI (μ 1)) {c : Nat} (hc : c < 256) {f : Nat → Int32} (hf : ∀ c, c < 256 → f c = μ 1 (13 + c)) : XR G κe κ adr (mset μ 1 (13 + c) v) ρ (hset h (adr (1000 + 1)) (.inl (uI G 0, 256, .inl (upd f c v)))) := by
  refine m.wW (r := 1) hI (Or.inl (by decide)) (by decide) (by omega) (by omega) ?_ (fun j hd hj => offW_ht hc hj)
  refine ⟨_, rfl, fun q hq => ?_⟩
  rw [ups_upd]
  by_cases e : q = c
  · subst e; rw [ups_s, ups_s]
  · rw [ups_n e, ups_n (by omega)]; exact hf q hq
theorem XR.wR (m : XR G κe κ adr μ ρ h) (hI : MI (μ 1)) {k : Nat} (hk : k < tn (μ 1 0)) : XR G κe κ adr (mset μ 1 (272 + 4 * k) v) ρ (hset h (adr (1000 + (100 + k))) (.inr (6, [.int (μ 1 (269 + 4 * k)), .int (μ 1 (270 + 4 * k)), .int (μ 1 (271 + 4 * k)), .int v]))) := by
  have h8 := hI.c.1
  refine m.wW (r := 100 + k) hI (Or.inr (Or.inl ⟨by omega, by omega⟩)) (by omega) (by omega) (by omega) ?_ (fun j hd hj => by rw [show 272 + 4 * k = 269 + 3 + 4 * k by omega]; exact offW_g (by omega) (by decide) hj)
  rw [show 100 + k = (90 + k) + 10 by omega]
  simp only [hEnt]
  rw [if_pos (by omega), show 90 + k + 10 - 100 = k by omega]
  unfold gEnt
  rw [ups_n (by omega), ups_n (by omega), ups_n (by omega), ups_s]
theorem XR.wP0 (m : XR G κe κ adr μ ρ h) (hI : MI (μ 1)) {k : Nat} (hk : k < tn (μ 1 1)) : XR G κe κ adr (mset μ 1 (301 + 6 * k) v) ρ (hset h (adr (1000 + (200 + k))) (.inr (18, [.int (μ 1 (305 + 6 * k)), .int (μ 1 (306 + 6 * k)), .int v, .int (μ 1 (302 + 6 * k)), .int (μ 1 (303 + 6 * k)), .int (b2i (decide (μ 1 (304 + 6 * k) = 1)))]))) := by
  have h8 := hI.c.2.1
  refine m.wW (r := 200 + k) hI (Or.inr (Or.inr ⟨by omega, by omega⟩)) (by omega) (by omega) (by omega) ?_ (fun j hd hj => by rw [show 301 + 6 * k = 301 + 0 + 6 * k by omega]; exact offW_p (by omega) (by decide) hj (hDom_lt hI.c hd) (hDom_lt2 hI.c hd))
  rw [show 200 + k = (190 + k) + 10 by omega]
  simp only [hEnt]
  rw [if_neg (by omega), show 190 + k + 10 - 200 = k by omega]
  unfold pEnt
  rw [ups_n (by omega), ups_n (by omega), ups_s, ups_n (by omega), ups_n (by omega), ups_n (by omega)]
theorem XR.wP1 (m : XR G κe κ adr μ ρ h) (hI : MI (μ 1)) {k : Nat} (hk : k < tn (μ 1 1)) : XR G κe κ adr (mset μ 1 (302 + 6 * k) v) ρ (hset h (adr (1000 + (200 + k))) (.inr (18, [.int (μ 1 (305 + 6 * k)), .int (μ 1 (306 + 6 * k)), .int (μ 1 (301 + 6 * k)), .int v, .int (μ 1 (303 + 6 * k)), .int (b2i (decide (μ 1 (304 + 6 * k) = 1)))]))) := by
  have h8 := hI.c.2.1
  refine m.wW (r := 200 + k) hI (Or.inr (Or.inr ⟨by omega, by omega⟩)) (by omega) (by omega) (by omega) ?_ (fun j hd hj => by rw [show 302 + 6 * k = 301 + 1 + 6 * k by omega]; exact offW_p (by omega) (by decide) hj (hDom_lt hI.c hd) (hDom_lt2 hI.c hd))
  rw [show 200 + k = (190 + k) + 10 by omega]
  simp only [hEnt]
  rw [if_neg (by omega), show 190 + k + 10 - 200 = k by omega]
  unfold pEnt
  rw [ups_n (by omega), ups_n (by omega), ups_n (by omega), ups_s, ups_n (by omega), ups_n (by omega)]
theorem XR.wP2 (m : XR G κe κ adr μ ρ h) (hI : MI (μ 1)) {k : Nat} (hk : k < tn (μ 1 1)) : XR G κe κ adr (mset μ 1 (303 + 6 * k) v) ρ (hset h (adr (1000 + (200 + k))) (.inr (18, [.int (μ 1 (305 + 6 * k)), .int (μ 1 (306 + 6 * k)), .int (μ 1 (301 + 6 * k)), .int (μ 1 (302 + 6 * k)), .int v, .int (b2i (decide (μ 1 (304 + 6 * k) = 1)))]))) := by
  have h8 := hI.c.2.1
  refine m.wW (r := 200 + k) hI (Or.inr (Or.inr ⟨by omega, by omega⟩)) (by omega) (by omega) (by omega) ?_ (fun j hd hj => by rw [show 303 + 6 * k = 301 + 2 + 6 * k by omega]; exact offW_p (by omega) (by decide) hj (hDom_lt hI.c hd) (hDom_lt2 hI.c hd))
  rw [show 200 + k = (190 + k) + 10 by omega]
  simp only [hEnt]
  rw [if_neg (by omega), show 190 + k + 10 - 200 = k by omega]
  unfold pEnt
  rw [ups_n (by omega), ups_n (by omega), ups_n (by omega), ups_n (by omega), ups_s, ups_n (by omega)]
theorem dec_b2i (b : Bool) : decide (b2i b = 1) = b := by cases b <;> rfl
theorem XR.wP3 {b : Bool} (m : XR G κe κ adr μ ρ h) (hI : MI (μ 1)) {k : Nat} (hk : k < tn (μ 1 1)) : XR G κe κ adr (mset μ 1 (304 + 6 * k) (b2i b)) ρ (hset h (adr (1000 + (200 + k))) (.inr (18, [.int (μ 1 (305 + 6 * k)), .int (μ 1 (306 + 6 * k)), .int (μ 1 (301 + 6 * k)), .int (μ 1 (302 + 6 * k)), .int (μ 1 (303 + 6 * k)), .int (b2i b)]))) := by
  have h8 := hI.c.2.1
  refine m.wW (r := 200 + k) hI (Or.inr (Or.inr ⟨by omega, by omega⟩)) (by omega) (by omega) (by omega) ?_ (fun j hd hj => by rw [show 304 + 6 * k = 301 + 3 + 6 * k by omega]; exact offW_p (by omega) (by decide) hj (hDom_lt hI.c hd) (hDom_lt2 hI.c hd))
  rw [show 200 + k = (190 + k) + 10 by omega]
  simp only [hEnt]
  rw [if_neg (by omega), show 190 + k + 10 - 200 = k by omega]
  unfold pEnt
  rw [ups_n (by omega), ups_n (by omega), ups_n (by omega), ups_n (by omega), ups_n (by omega), ups_s, dec_b2i]
end XW
section XWr
variable {G : UG} {F : UF} {R : Room} {Q : State → Prop} {nL pc k n : Nat} {L L' : List (Nat × Value)} {st rest : List Value} {Ω Ω' : Hp → Prop} {cc : ByteArray} {own : String} {ret : Option FieldType}
variable {κe κ : Hp} {adr : Nat → Nat} {μ μ' : Mu} {ρ : List Nat}
theorem x_hst (O : Ok G F own cc nL ret) {i : Nat} {v : Int32} (hI : MI (μ 1)) (hi : i < 256) (d : decode cc pc = .ok (.iastore, 1)) (e : mset μ 1 (13 + i) v = μ') (kk : X G F R Q nL (pc + 1) L st (XR G κe κ adr μ' ρ) k n) : X G F R Q nL pc L (.int v :: .int (nI i) :: .ref (adr (1000 + 1)) :: st) (XR G κe κ adr μ ρ) k n := by
  refine x_iastE O (N := 256) _ (fun h m => ?_) (vp_in_nI (by omega) (by omega)) d kk
  obtain ⟨f0, h1, f, h2, h3⟩ := HR.at (XR.hr hI rfl : HR G κe adr _ _ 1000 (μ 1) (XR G κe κ adr μ ρ)) m 1 (Or.inl (by decide))
  refine ⟨f, by rw [h1, h2], ?_⟩
  rw [nI_clamp (by omega)]
  exact (m.wH hI hi h3).eq e
end XWr
