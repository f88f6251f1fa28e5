/-! the component's heap by roles: each living role's object holds what its predicate says; κ is the part that is never written while this is held (frozen objects, strings, and all that isn't the component's) -/
def RS (dom : Nat → Prop) (adr : Nat → Nat) (ent : Nat → va_E → Prop) (κ h : Hp) : Prop :=
  (∀ i j : Nat, dom i → dom j → adr i = adr j → i = j) ∧ (∀ i : Nat, dom i → ∃ e : va_E, h (adr i) = some e ∧ ent i e) ∧ (∀ (a : Nat) (e : va_E), κ a = some e → h a = some e) ∧ ∀ i : Nat, dom i → κ (adr i) = none
section RSs
variable {dom dom' : Nat → Prop} {adr : Nat → Nat} {ent ent' : Nat → va_E → Prop} {κ h : Hp}
theorem RS.get (m : RS dom adr ent κ h) {i : Nat} (hi : dom i) : ∃ e : va_E, h (adr i) = some e ∧ ent i e := m.2.1 i hi
theorem RS.fr (m : RS dom adr ent κ h) {a : Nat} {e : va_E} (ha : κ a = some e) : h a = some e := m.2.2.1 a e ha
/-- one role's object is written -/
theorem RS.put (m : RS dom adr ent κ h) {i : Nat} {e : va_E} (hi : dom i) (he : ent' i e) (hk : ∀ j e', dom j → j ≠ i → ent j e' → ent' j e') : RS dom adr ent' κ (hset h (adr i) e) := by
  obtain ⟨m1, m2, m3, m4⟩ := m
  refine ⟨m1, fun j hj => ?_, fun a e' ha => ?_, m4⟩
  · by_cases c : j = i
    · subst c
      exact ⟨e, hset_s, he⟩
    · obtain ⟨e', h1, h2⟩ := m2 j hj
      exact ⟨e', by rw [hset_n (fun z => c (m1 j i hj hi z))]; exact h1, hk j e' hj c h2⟩
  · have hne : a ≠ adr i := by
      intro z
      have := m4 i hi
      rw [← z, ha] at this
      cases this
    rw [hset_n hne]
    exact m3 a e' ha
/-- a new object takes a role that was not living -/
theorem RS.push (m : RS dom adr ent κ h) {i q : Nat} {e : va_E} (hq : h q = none) (hd : ∀ j, dom' j → j = i ∨ dom j) (hni : ¬ dom i) (he : ent' i e) (hk : ∀ j e', dom j → dom' j → j ≠ i → ent j e' → ent' j e') : RS dom' (fun j => if j = i then q else adr j) ent' κ (hset h q e) := by
  obtain ⟨m1, m2, m3, m4⟩ := m
  have hnq : ∀ j, dom j → adr j ≠ q := by
    intro j hj z
    obtain ⟨e', h1, -⟩ := m2 j hj
    rw [z, hq] at h1; cases h1
  have hkq : κ q = none := by
    cases c : κ q with
    | none => rfl
    | some e' => have := m3 q e' c; rw [hq] at this; cases this
  refine ⟨fun j j' hj hj' z => ?_, fun j hj => ?_, fun a e' ha => ?_, fun j hj => ?_⟩
  · by_cases c : j = i
    · by_cases c' : j' = i
      · rw [c, c']
      · rcases hd j' hj' with x | x
        · exact absurd x c'
        · simp only [if_pos c, if_neg c'] at z
          exact (hnq j' x z.symm).elim
    · rcases hd j hj with x | x
      · exact absurd x c
      · by_cases c' : j' = i
        · simp only [if_neg c, if_pos c'] at z
          exact (hnq j x z).elim
        · rcases hd j' hj' with x' | x'
          · exact absurd x' c'
          · simp only [if_neg c, if_neg c'] at z
            exact m1 j j' x x' z
  · by_cases c : j = i
    · subst c
      exact ⟨e, by simp only [if_true]; exact hset_s, he⟩
    · rcases hd j hj with x | x
      · exact absurd x c
      · obtain ⟨e', h1, h2⟩ := m2 j x
        refine ⟨e', ?_, hk j e' x hj c h2⟩
        simp only [if_neg c]
        rw [hset_n (hnq j x)]
        exact h1
  · have hne : a ≠ q := by intro z; rw [z, hkq] at ha; cases ha
    rw [hset_n hne]
    exact m3 a e' ha
  · by_cases c : j = i
    · simp only [if_pos c]; exact hkq
    · rcases hd j hj with x | x
      · exact absurd x c
      · simp only [if_neg c]; exact m4 j x
/-- a new object goes to the frozen part -/
theorem RS.freeze (m : RS dom adr ent κ h) {q : Nat} {e : va_E} (hq : h q = none) : RS dom adr ent (hset κ q e) (hset h q e) := by
  obtain ⟨m1, m2, m3, m4⟩ := m
  have hnq : ∀ j, dom j → adr j ≠ q := by
    intro j hj z
    obtain ⟨e', h1, -⟩ := m2 j hj
    rw [z, hq] at h1; cases h1
  refine ⟨m1, fun j hj => ?_, fun a e' ha => ?_, fun j hj => ?_⟩
  · obtain ⟨e', h1, h2⟩ := m2 j hj
    exact ⟨e', by rw [hset_n (hnq j hj)]; exact h1, h2⟩
  · by_cases c : a = q
    · subst c
      rw [hset_s] at ha ⊢
      exact ha
    · rw [hset_n c] at ha ⊢
      exact m3 a e' ha
  · rw [hset_n (hnq j hj)]
    exact m4 j hj
/-- a role's object is given up to the frozen part -/
theorem RS.settle (m : RS dom adr ent κ h) {i : Nat} {e : va_E} (hi : dom i) (he : h (adr i) = some e) (hd : ∀ j, dom' j → dom j ∧ j ≠ i) : RS dom' adr ent (hset κ (adr i) e) h := by
  obtain ⟨m1, m2, m3, m4⟩ := m
  refine ⟨fun j j' hj hj' => m1 j j' (hd j hj).1 (hd j' hj').1, fun j hj => m2 j (hd j hj).1, fun a e' ha => ?_, fun j hj => ?_⟩
  · by_cases c : a = adr i
    · subst c
      rw [hset_s] at ha
      cases ha
      exact he
    · rw [hset_n c] at ha
      exact m3 a e' ha
  · rw [hset_n (fun z => (hd j hj).2 (m1 j i (hd j hj).1 hi z))]
    exact m4 j (hd j hj).1
/-- fewer roles, weaker words -/
theorem RS.mono (m : RS dom adr ent κ h) (hd : ∀ j, dom' j → dom j) (hk : ∀ j e', dom' j → ent j e' → ent' j e') : RS dom' adr ent' κ h := by
  obtain ⟨m1, m2, m3, m4⟩ := m
  refine ⟨fun j j' hj hj' => m1 j j' (hd j hj) (hd j' hj'), fun j hj => ?_, m3, fun j hj => m4 j (hd j hj)⟩
  obtain ⟨e', h1, h2⟩ := m2 j (hd j hj)
  exact ⟨e', h1, hk j e' hj h2⟩
/-- the frozen part may be shrunk, and changed where the heap has changed outside the roles -/
theorem RS.away (m : RS dom adr ent κ h) {κ' h' : Hp} (hh : ∀ i, dom i → h' (adr i) = h (adr i)) (hk : ∀ a e, κ' a = some e → h' a = some e) (hn : ∀ i, dom i → κ' (adr i) = none) : RS dom adr ent κ' h' :=
  ⟨m.1, fun i hi => by obtain ⟨e, h1, h2⟩ := m.2.1 i hi; exact ⟨e, (hh i hi).trans h1, h2⟩, hk, hn⟩
end RSs
