/-! the house 'now' gets one thing more -/
section XP
variable {G : UG} {κe κ κ' : Hp} {adr : Nat → Nat} {μ μ' : Mu} {ρ ρ' : List Nat} {h : Hp} {w w' : Nat → Int32} {B i : Nat} {v : Int32}
theorem rOk.m (s : sub κ κ') {cs : List Nat} {f : Nat → Option Nat} (h : rOk κ cs f) : rOk κ' cs f := by
  intro j y hj
  obtain ⟨ci, vs, h1, h2⟩ := h j y hj
  exact ⟨ci, vs, s _ _ h1, h2⟩
theorem hEnt_k (s : sub κ κ') {j : Nat} {e : va_E} (he : hEnt G κ adr (PLaw G κ w) (PSto G κ w) B w j e) : hEnt G κ' adr (PLaw G κ' w) (PSto G κ' w) B w j e := by
  rcases j with _ | _ | _ | _ | _ | _ | _ | _ | _ | _ | r
  · exact he
  · exact he
  · exact he
  · exact he
  · obtain ⟨f, h1, h2, h3⟩ := he
    refine ⟨f, h1, h2.m s, fun q hq => ?_⟩
    obtain ⟨y, h4, h5⟩ := h3 q hq
    exact ⟨y, h4, h5.m s ST.r⟩
  · obtain ⟨f, h1, h2, h3⟩ := he
    refine ⟨f, h1, h2.m s, fun q hq => ?_⟩
    obtain ⟨y, h4, h5⟩ := h3 q hq
    exact ⟨y, h4, s _ _ h5⟩
  · obtain ⟨f, h1, h2, h3⟩ := he
    refine ⟨f, h1, h2.m s, fun q hq => ?_⟩
    obtain ⟨y, h4, h5⟩ := h3 q hq
    exact ⟨y, h4, s _ _ h5⟩
  · obtain ⟨f, h1, h2, h3⟩ := he
    refine ⟨f, h1, h2.m s, fun q hq => ?_⟩
    obtain ⟨y, h4, h5⟩ := h3 q hq
    exact ⟨y, h4, s _ _ h5⟩
  · obtain ⟨f, h1, h2, h3⟩ := he
    refine ⟨f, h1, h2.m s, fun q hq => ?_⟩
    obtain ⟨y, z, h4, h5, h6⟩ := h3 q hq
    exact ⟨y, z, h4, s _ _ h5, h6.m s ST.r⟩
  · exact he
  · exact he
set_option maxRecDepth 100000 in
theorem xEnt_k (s : sub κ κ') {j : Nat} {e : va_E} (he : xEnt G κ adr μ ρ j e) : xEnt G κ' adr μ ρ j e := by
  unfold xEnt at he ⊢
  by_cases c1 : isEq j = true
  · rw [if_pos c1] at he ⊢; exact he
  · rw [if_neg c1] at he ⊢
    by_cases c2 : j = 11
    · rw [if_pos c2] at he ⊢; exact he
    · rw [if_neg c2] at he ⊢
      by_cases c3 : j < 1000
      · rw [if_pos c3] at he ⊢; exact he
      · rw [if_neg c3] at he ⊢
        by_cases c4 : j < 2000
        · rw [if_pos c4] at he ⊢; exact hEnt_k s he
        · rw [if_neg c4] at he ⊢; exact hEnt_k s he
/-- all that is frozen may be leant on -/
theorem XR.up (m : XR G κe κ adr μ ρ h) : XR G κ κ adr μ ρ h := ⟨sub.r, m.2.mono (fun _ z => z) (fun _ _ _ z => xEnt_k m.1 z)⟩
/-- a new object, frozen -/
theorem XR.fz (m : XR G κe κ adr μ ρ h) {q : Nat} {e : va_E} (hq : h q = none) : XR G κe (hset κ q e) adr μ ρ (hset h q e) := by
  have hk : κ q = none := by
    cases c : κ q with
    | none => rfl
    | some e' => have := m.2.2.2.1 q e' c; rw [hq] at this; cases this
  exact ⟨m.1.t (sub.n hk), m.2.freeze hq⟩
/-- what a role shows is unchanged when one thing more is noted: count c, its numbers from lo to hi -/
theorem hEnt_p {c lo hi : Nat} (hC : hCnt w) (h13 : 13 ≤ lo) (hc : c < 7) (hw : ∀ t, t < 1166 → t ≠ c → (t < lo ∨ hi ≤ t) → w' t = w t) (hPL : ∀ k y, k < tn (w 2) → PLaw G κe w k y → PLaw G κe w' k y) (hPS : ∀ k y, k < tn (w 6) → PSto G κe w k y → PSto G κe w' k y) {j : Nat} {e : va_E} (hd : hDom w j) (j0 : j ≠ 0) (jc : j ≠ c + 2) (ho : ∀ t, lo ≤ t → t < hi → offW j t) (he : hEnt G κe adr (PLaw G κe w) (PSto G κe w) B w j e) : hEnt G κe adr (PLaw G κe w') (PSto G κe w') B w' j e := by
  obtain ⟨n0, n1, n2, n3, n4, n5, n6⟩ := hC
  have cn : ∀ t, t < 7 → t ≠ c → w' t = w t := fun t ht hn => hw t (by omega) hn (by omega)
  have hx : ∀ t, 13 ≤ t → t < 1166 → ¬ (lo ≤ t ∧ t < hi) → w' t = w t := fun t h1 h2 h3 => hw t h2 (by omega) (by omega)
  rcases j with _ | _ | _ | _ | _ | _ | _ | _ | _ | _ | r
  · exact absurd rfl j0
  · obtain ⟨f, h1, h2⟩ := he
    refine ⟨f, h1, fun q hq => ?_⟩
    rw [hx _ (by omega) (by omega) (fun z => by have := (ho _ z.1 z.2).2.1 rfl; omega)]; exact h2 q hq
  · obtain ⟨f, h1, h2⟩ := he
    exact ⟨f, h1, fun q hq => h2 q (by rw [cn 0 (by decide) (by omega)] at hq; exact hq)⟩
  · obtain ⟨f, h1, h2⟩ := he
    exact ⟨f, h1, fun q hq => h2 q (by rw [cn 1 (by decide) (by omega)] at hq; exact hq)⟩
  · obtain ⟨f, h1, h2, h3⟩ := he
    refine ⟨f, h1, h2, fun q hq => ?_⟩
    rw [cn 2 (by decide) (by omega)] at hq
    obtain ⟨y, h4, h5⟩ := h3 q hq
    exact ⟨y, h4, hPL q y hq h5⟩
  · obtain ⟨f, h1, h2, h3⟩ := he
    refine ⟨f, h1, h2, fun q hq => ?_⟩
    rw [cn 3 (by decide) (by omega)] at hq
    obtain ⟨y, h4, h5⟩ := h3 q hq
    refine ⟨y, h4, ?_⟩
    have e : ∀ t, 349 ≤ t → t < 1069 → w' t = w t := fun t a b => hx t (by omega) (by omega) (fun z => by have := (ho _ z.1 z.2).2.2.1 rfl; omega)
    unfold fEnt at h5 ⊢
    rw [e _ (by omega) (by omega), e _ (by omega) (by omega), e _ (by omega) (by omega), e _ (by omega) (by omega), e _ (by omega) (by omega), e _ (by omega) (by omega)]
    exact h5
  · obtain ⟨f, h1, h2, h3⟩ := he
    refine ⟨f, h1, h2, fun q hq => ?_⟩
    rw [cn 4 (by decide) (by omega)] at hq
    obtain ⟨y, h4, h5⟩ := h3 q hq
    refine ⟨y, h4, ?_⟩
    have e : ∀ t, 1069 ≤ t → t < 1101 → w' t = w t := fun t a b => hx t (by omega) (by omega) (fun z => by have := (ho _ z.1 z.2).2.2.2.1 rfl; omega)
    unfold tEnt at h5 ⊢
    rw [e _ (by omega) (by omega), e _ (by omega) (by omega), e _ (by omega) (by omega), e _ (by omega) (by omega)]
    exact h5
  · obtain ⟨f, h1, h2, h3⟩ := he
    refine ⟨f, h1, h2, fun q hq => ?_⟩
    rw [cn 5 (by decide) (by omega)] at hq
    obtain ⟨y, h4, h5⟩ := h3 q hq
    refine ⟨y, h4, ?_⟩
    have e : ∀ t, 1101 ≤ t → t < 1161 → w' t = w t := fun t a b => hx t (by omega) (by omega) (fun z => by have := (ho _ z.1 z.2).2.2.2.2.1 rfl; omega)
    unfold nEnt at h5 ⊢
    rw [e _ (by omega) (by omega), e _ (by omega) (by omega), e _ (by omega) (by omega)]
    exact h5
  · obtain ⟨f, h1, h2, h3⟩ := he
    refine ⟨f, h1, h2, fun q hq => ?_⟩
    rw [cn 6 (by decide) (by omega)] at hq
    obtain ⟨y, z, h4, h5, h6⟩ := h3 q hq
    refine ⟨y, z, h4, ?_, hPS q z hq h6⟩
    rw [hx _ (by omega) (by omega) (fun z => by have := (ho _ z.1 z.2).2.2.2.2.2.1 rfl; omega)]; exact h5
  · exact he
  · simp only [hEnt] at he ⊢
    by_cases q : r + 10 < 200
    · rw [if_pos q] at he ⊢
      have q2 : 100 ≤ r + 10 ∧ r + 10 < 108 := by rcases hd with hd | hd | hd <;> omega
      have e : ∀ t, 269 + 4 * (r + 10 - 100) ≤ t → t < 273 + 4 * (r + 10 - 100) → w' t = w t := fun t a b => hx t (by omega) (by omega) (fun z => by have := (ho _ z.1 z.2).2.2.2.2.2.2.1 q2.1 q; omega)
      unfold gEnt at he ⊢
      rw [e _ (by omega) (by omega), e _ (by omega) (by omega), e _ (by omega) (by omega), e _ (by omega) (by omega)]
      exact he
    · rw [if_neg q] at he ⊢
      have q2 : 200 ≤ r + 10 ∧ r + 10 < 208 := by rcases hd with hd | hd | hd <;> omega
      have e : ∀ t, 301 + 6 * (r + 10 - 200) ≤ t → t < 307 + 6 * (r + 10 - 200) → w' t = w t := fun t a b => hx t (by omega) (by omega) (fun z => by have := (ho _ z.1 z.2).2.2.2.2.2.2.2 q2.1; omega)
      unfold pEnt at he ⊢
      rw [e _ (by omega) (by omega), e _ (by omega) (by omega), e _ (by omega) (by omega), e _ (by omega) (by omega), e _ (by omega) (by omega), e _ (by omega) (by omega)]
      exact he
theorem xEq_c1 {W : Nat → Int32} {j : Nat} (hq : isEq j = true) : xEq G adr (mc μ 1 W) j = xEq G adr μ j := by
  unfold isEq at hq
  split at hq <;> first | rfl | cases hq
set_option maxRecDepth 100000 in
/-- one thing more in an array of frozen things: the array is written, then the count -/
theorem XR.push {c kf lo hi : Nat} (m : XR G κ κ adr μ ρ h) (hI : MI (μ 1)) (h13 : 13 ≤ lo) (hc : 2 ≤ c) (hc7 : c < 7) (hw : ∀ t, t < 1166 → t ≠ c → (t < lo ∨ hi ≤ t) → w' t = μ 1 t) (hPL : ∀ k y, k < tn (μ 1 2) → PLaw G κ (μ 1) k y → PLaw G κ w' k y) (hPS : ∀ k y, k < tn (μ 1 6) → PSto G κ (μ 1) k y → PSto G κ w' k y)
    (ho : ∀ j, hDom (μ 1) j → j ≠ 0 → j ≠ c + 2 → ∀ t, lo ≤ t → t < hi → offW j t) {E : va_E} (hE : hEnt G κ adr (PLaw G κ w') (PSto G κ w') 1000 w' (c + 2) E) (hO : (hObj adr 1000 (μ 1)).set kf (.int (w' c)) = hObj adr 1000 w') : XR G κ κ adr (mc μ 1 w') ρ (hset (hset h (adr (1000 + (c + 2))) E) (adr 1000) (.inr (3, (hObj adr 1000 (μ 1)).set kf (.int (w' c))))) := by
  have e1 : mc μ 1 w' 1 = w' := mc_s
  have e2 : mc μ 1 w' 2 = μ 2 := mc_n (by decide)
  have e7 : mc μ 1 w' 7 = μ 7 := mc_n (by decide)
  have hd0 : xDom μ 1000 := Or.inr (Or.inr (Or.inl ⟨by decide, by decide, Or.inl (by decide)⟩))
  have hdc : xDom μ (1000 + (c + 2)) := Or.inr (Or.inr (Or.inl ⟨by omega, by omega, Or.inl (by omega)⟩))
  have m1 := m.2.put (e := E) (ent' := fun r e => if r = 1000 + (c + 2) then e = E else xEnt G κ adr μ ρ r e) hdc (by show (if 1000 + (c + 2) = 1000 + (c + 2) then E = E else _); rw [if_pos rfl]) (fun j e' _ hj he => by rw [if_neg hj]; exact he)
  have hdom : ∀ j, hDom w' j ↔ hDom (μ 1) j := by
    intro j; unfold hDom
    rw [hw 0 (by decide) (by omega) (by omega), hw 1 (by decide) (by omega) (by omega)]
  refine ⟨sub.r, (m1.put (i := 1000) (ent' := xEnt G κ adr (mc μ 1 w') ρ) hd0 ?_ (fun j e' hd hj he => ?_)).mono (fun j hj => ?_) (fun _ _ _ z => z)⟩
  · unfold xEnt
    rw [if_neg (by decide), if_neg (by decide), if_neg (by decide), if_pos (by decide), e1]
    exact congrArg (fun z => (.inr (3, z) : va_E)) hO
  · have he : if j = 1000 + (c + 2) then e' = E else xEnt G κ adr μ ρ j e' := he
    by_cases cj : j = 1000 + (c + 2)
    · rw [if_pos cj] at he
      obtain rfl : e' = E := he
      subst cj
      unfold xEnt
      rw [if_neg (by rw [isEq_h _ (by omega)]; omega), if_neg (by omega), if_neg (by omega), if_pos (by omega), show 1000 + (c + 2) - 1000 = c + 2 by omega, e1]
      exact hE
    · rw [if_neg cj] at he
      unfold xEnt at he ⊢
      by_cases c1 : isEq j = true
      · rw [if_pos c1] at he ⊢
        rw [xEq_c1 c1]; exact he
      · rw [if_neg c1] at he ⊢
        by_cases c2 : j = 11
        · rw [if_pos c2] at he ⊢; exact he
        · rw [if_neg c2] at he ⊢
          by_cases c3 : j < 1000
          · rw [if_pos c3] at he ⊢
            rw [e7]; exact he
          · rw [if_neg c3] at he ⊢
            by_cases c4 : j < 2000
            · rw [if_pos c4] at he ⊢
              rw [e1]
              have hdj : hDom (μ 1) (j - 1000) := by
                rcases hd with hd | hd | hd | hd
                · omega
                · omega
                · exact hd.2.2
                · omega
              have j0 : j - 1000 ≠ 0 := by omega
              have jc : j - 1000 ≠ c + 2 := by omega
              exact hEnt_p hI.c h13 hc7 hw hPL hPS hdj j0 jc (ho _ hdj j0 jc) he
            · rw [if_neg c4] at he ⊢
              rw [e2]; exact he
  · unfold xDom at hj ⊢
    rw [e1, e2] at hj
    rcases hj with hj | hj | ⟨a, b, hj⟩ | hj
    · exact Or.inl hj
    · exact Or.inr (Or.inl hj)
    · exact Or.inr (Or.inr (Or.inl ⟨a, b, (hdom _).mp hj⟩))
    · exact Or.inr (Or.inr (Or.inr hj))
end XP
