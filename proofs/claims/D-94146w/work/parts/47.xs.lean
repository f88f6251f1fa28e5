/-! conditions: objects and steps that mean them -/
/-- a part of a sum: a number, times a fact or alone -/
abbrev Pt : Type := Nat × Option Nat
def ptK (k : Nat) (p : Pt) : Nat := if p.2 = some k then p.1 else 0
def ptN (p : Pt) : Nat := if p.2 = none then p.1 else 0
def smK (k : Nat) : List Pt → Nat
  | [] => 0
  | p :: r => ptK k p + smK k r
def smN : List Pt → Nat
  | [] => 0
  | p :: r => ptN p + smN r
def SumObj (G : UG) (κ : Hp) (a : Nat) (ps : List Pt) : Prop := ∃ (q : Nat) (f : Nat → Int32), κ a = some (.inr (9, [.ref q, .int (nI (smN ps))])) ∧ κ q = some (.inl (uI G 0, 14, .inl f)) ∧ ∀ k, k < 14 → f k = nI (smK k ps)
abbrev Sps : Type := List (Int32 × Int32)
/-- steps of a part: a fact alone is (1, some k, true) in the text; 'mul' tells which form it had -/
def PtS (p : Pt) (s : Sps) : Prop := match p.2 with
  | none => s = [(nI 10, nI p.1)]
  | some k => (p.1 = 1 ∧ s = [(nI (k % 7), nI 0)]) ∨ s = [(nI 10, nI p.1), (nI (k % 7), nI 0), (nI 11, nI 0)]
/-- steps of parts behind a first one -/
def SmT : List Pt → Sps → Prop
  | [], s => s = []
  | p :: r, s => ∃ s1 s2, PtS p s1 ∧ SmT r s2 ∧ s = s1 ++ (nI 12, nI 0) :: s2
def SmS (ps : List Pt) (s : Sps) : Prop := ∃ p r s1 s2, ps = p :: r ∧ PtS p s1 ∧ SmT r s2 ∧ s = s1 ++ s2
def ptOk (story : Bool) (ps : List Pt) : Prop := ∀ p, p ∈ ps → p.1 < 1000 ∧ ∀ k, p.2 = some k → if story = true then 7 ≤ k ∧ k < 14 else k < 7
def opI (all : Bool) : Int32 := if all = true then nI 16 else nI 17
/-- a chain's cells: (cell, its condition, that one's steps) -/
abbrev Chs : Type := List (Nat × Nat × Sps)
def chAt (κ : Hp) (all : Bool) : Chs → Prop
  | [] => True
  | [x] => κ x.1 = some (.inr (7, [.ref x.2.1, .int (b2i all), .null]))
  | x :: y :: r => κ x.1 = some (.inr (7, [.ref x.2.1, .int (b2i all), .ref y.1])) ∧ chAt κ all (y :: r)
def chT (all : Bool) : Chs → Sps
  | [] => []
  | x :: r => x.2.2 ++ (opI all, nI 0) :: chT all r
/-- the object c means the steps s, by n levels of objects -/
def CoN (G : UG) (κ : Hp) (story : Bool) : Nat → Nat → Sps → Prop
  | 0, _, _ => False
  | n + 1, c, s =>
    (∃ (less : Bool) (la lb : Nat) (a b : List Pt) (sa sb : Sps), κ c = some (.inr (10, [.ref (if less = true then la else lb), .ref (if less = true then lb else la)])) ∧ SumObj G κ la a ∧ SumObj G κ lb b ∧ SmS a sa ∧ SmS b sb ∧ ptOk story a ∧ ptOk story b ∧ s = sa ++ sb ++ [(nI (if less = true then 13 else 14), nI 0)]) ∨
    (∃ k m : Nat, κ c = some (.inr (8, [.int (nI k), .int (nI m)])) ∧ m < 1000 ∧ ((story = false ∧ k = 14 ∧ m = 1 ∧ s = [(nI 7, nI 0)]) ∨ (story = false ∧ k = 15 ∧ m = 1 ∧ s = [(nI 8, nI 0)]) ∨ (story = true ∧ k = 16 ∧ s = [(nI 9, nI m)]))) ∨
    (∃ (d : Nat) (st : Sps), κ c = some (.inr (11, [.ref d])) ∧ CoN G κ story n d st ∧ s = st ++ [(nI 15, nI 0)]) ∨
    (∃ (all : Bool) (x : Nat × Nat × Sps) (r : Chs), c = x.1 ∧ chAt κ all (x :: r) ∧ (∀ y, y ∈ x :: r → CoN G κ story n y.2.1 y.2.2) ∧ s = x.2.2 ++ chT all r)
/-- the object c holds just when the steps s do -/
def CoOk (G : UG) (κ : Hp) (story : Bool) (c : Nat) (s : Sps) : Prop := CoN G κ story 15 c s
def sortC (s : Nat) : Nat := match s with
  | 0 => 13 | 1 => 14 | 2 => 15 | 3 => 12 | _ => 16
def LineObj (G : UG) (κ : Hp) (y : Nat) (l : Int32 × Sps) : Prop := ∃ s : Nat, s < 5 ∧ l.1 = nI s ∧ ((l.2 = [] ∧ κ y = some (.inr (sortC s, [.null]))) ∨ ∃ c : Nat, κ y = some (.inr (sortC s, [.ref c])) ∧ CoOk G κ false c l.2)
def LawObj (G : UG) (κ : Hp) (y : Nat) (ls : List (Int32 × Sps)) : Prop := ∃ (q : Nat) (f : Nat → Option Nat), κ y = some (.inr (17, [.ref q])) ∧ κ q = some (rEnt G 11 ls.length f) ∧ ls.length ≤ 10 ∧ ∀ k (h : k < ls.length), ∃ z, f k = some z ∧ LineObj G κ z ls[k]
/-- the steps from place b on of the text t are s -/
def stAt (W : Nat → Int32) (t b : Nat) (s : Sps) : Prop := ∀ i (h : i < s.length), W (m_textAt t + 31 + 2 * (b + i)) = s[i].1 ∧ W (m_textAt t + 31 + 2 * (b + i) + 1) = s[i].2
def lnAt (W : Nat → Int32) (t n : Nat) (s : Sps) : Prop := ∃ b : Nat, b + s.length ≤ 400 ∧ W (m_lineAt t n + 1) = nI b ∧ W (m_lineAt t n + 2) = nI (b + s.length) ∧ stAt W t b s
/-- the text t of the world has these lines -/
def txAt (W : Nat → Int32) (t : Nat) (ls : List (Int32 × Sps)) : Prop := W (m_textAt t) = nI ls.length ∧ ∀ k (h : k < ls.length), W (m_lineAt t k) = ls[k].1 ∧ lnAt W t k ls[k].2
def PLaw (G : UG) (κ : Hp) (W : Nat → Int32) (k y : Nat) : Prop := ∃ ls, LawObj G κ y ls ∧ txAt W k ls
def PSto (G : UG) (κ : Hp) (W : Nat → Int32) (k c : Nat) : Prop := ∃ s, CoOk G κ true c s ∧ lnAt W (4 + k) 0 s
def sub (κ κ' : Hp) : Prop := ∀ a e, κ a = some e → κ' a = some e
theorem sub.r {κ : Hp} : sub κ κ := fun _ _ h => h
theorem sub.t {a b c : Hp} (h : sub a b) (k : sub b c) : sub a c := fun x e z => k x e (h x e z)
theorem sub.n {κ : Hp} {q : Nat} {e : va_E} (h : κ q = none) : sub κ (hset κ q e) := fun a x z => by
  rw [hset_n (fun c => by rw [c, h] at z; cases z)]; exact z
section KM
variable {G : UG} {κ κ' : Hp} {W W' : Nat → Int32}
theorem SumObj.m (s : sub κ κ') {a : Nat} {p : List Pt} (h : SumObj G κ a p) : SumObj G κ' a p := by
  obtain ⟨q, f, h1, h2, h3⟩ := h
  exact ⟨q, f, s _ _ h1, s _ _ h2, h3⟩
theorem chAt.m (s : sub κ κ') {all : Bool} : ∀ (l : Chs), chAt κ all l → chAt κ' all l
  | [], h => h
  | [_], h => s _ _ h
  | _ :: y :: r, h => ⟨s _ _ h.1, chAt.m s (y :: r) h.2⟩
theorem CoN.m (s : sub κ κ') {story : Bool} : ∀ (n m : Nat) (c : Nat) (l : Sps), n ≤ m → CoN G κ story n c l → CoN G κ' story m c l
  | 0, _, _, _, _, h => h.elim
  | n + 1, 0, _, _, hm, _ => absurd hm (by omega)
  | n + 1, m + 1, c, l, hm, h => by
    have ih := fun c l => CoN.m s (story := story) n m c l (by omega)
    rcases h with ⟨less, la, lb, a, b, sa, sb, h1, h2, h3, h4⟩ | ⟨k, q, h1, h2⟩ | ⟨d, st, h1, h2, h3⟩ | ⟨all, x, r, h0, h1, h2, h3⟩
    · exact Or.inl ⟨less, la, lb, a, b, sa, sb, s _ _ h1, h2.m s, h3.m s, h4⟩
    · exact Or.inr (Or.inl ⟨k, q, s _ _ h1, h2⟩)
    · exact Or.inr (Or.inr (Or.inl ⟨d, st, s _ _ h1, ih _ _ h2, h3⟩))
    · exact Or.inr (Or.inr (Or.inr ⟨all, x, r, h0, chAt.m s _ h1, fun y hy => ih _ _ (h2 y hy), h3⟩))
theorem CoOk.m (s : sub κ κ') {story : Bool} {c : Nat} {l : Sps} (h : CoOk G κ story c l) : CoOk G κ' story c l := CoN.m s 15 15 c l (Nat.le_refl _) h
theorem LineObj.m (s : sub κ κ') {y : Nat} {l : Int32 × Sps} (h : LineObj G κ y l) : LineObj G κ' y l := by
  obtain ⟨a, h0, h1, h2⟩ := h
  refine ⟨a, h0, h1, ?_⟩
  rcases h2 with ⟨h2, h3⟩ | ⟨c, h2, h3⟩
  · exact Or.inl ⟨h2, s _ _ h3⟩
  · exact Or.inr ⟨c, s _ _ h2, h3.m s⟩
theorem LawObj.m (s : sub κ κ') {y : Nat} {ls : List (Int32 × Sps)} (h : LawObj G κ y ls) : LawObj G κ' y ls := by
  obtain ⟨q, f, h1, h2, h3, h4⟩ := h
  refine ⟨q, f, s _ _ h1, s _ _ h2, h3, fun k hk => ?_⟩
  obtain ⟨z, h5, h6⟩ := h4 k hk
  exact ⟨z, h5, h6.m s⟩
theorem stAt.w {t t' b : Nat} {s : Sps} (e : ∀ j, j < 831 → W' (m_textAt t' + j) = W (m_textAt t + j)) (hb : b + s.length ≤ 400) (h : stAt W t b s) : stAt W' t' b s := by
  intro i hi
  have h1 := e (31 + 2 * (b + i)) (by omega)
  have h2 := e (31 + 2 * (b + i) + 1) (by omega)
  have := h i hi
  rw [Nat.add_assoc, h1, show m_textAt t' + (31 + 2 * (b + i)) + 1 = m_textAt t' + (31 + 2 * (b + i) + 1) by omega, h2]
  rw [Nat.add_assoc, show m_textAt t + (31 + 2 * (b + i)) + 1 = m_textAt t + (31 + 2 * (b + i) + 1) by omega] at this
  exact this
theorem lnAt.w {t t' n : Nat} {s : Sps} (hn : n < 10) (e : ∀ j, j < 831 → W' (m_textAt t' + j) = W (m_textAt t + j)) (h : lnAt W t n s) : lnAt W' t' n s := by
  obtain ⟨b, h1, h2, h3, h4⟩ := h
  have el : ∀ k, k < 3 → W' (m_lineAt t' n + k) = W (m_lineAt t n + k) := fun k hk => by
    have := e (1 + 3 * n + k) (by omega)
    unfold m_lineAt
    rw [show m_textAt t' + 1 + 3 * n + k = m_textAt t' + (1 + 3 * n + k) by omega, this, show m_textAt t + 1 + 3 * n + k = m_textAt t + (1 + 3 * n + k) by omega]
  exact ⟨b, h1, by rw [el 1 (by omega)]; exact h2, by rw [el 2 (by omega)]; exact h3, h4.w e h1⟩
theorem txAt.w {t t' : Nat} {ls : List (Int32 × Sps)} (hl : ls.length ≤ 10) (e : ∀ j, j < 831 → W' (m_textAt t' + j) = W (m_textAt t + j)) (h : txAt W t ls) : txAt W' t' ls := by
  refine ⟨by have := e 0 (by omega); rw [Nat.add_zero, Nat.add_zero] at this; rw [this]; exact h.1, fun k hk => ?_⟩
  obtain ⟨h1, h2⟩ := h.2 k hk
  refine ⟨?_, h2.w (by omega) e⟩
  have := e (1 + 3 * k) (by omega)
  unfold m_lineAt at h1 ⊢
  rw [show m_textAt t' + 1 + 3 * k = m_textAt t' + (1 + 3 * k) by omega, this, show m_textAt t + (1 + 3 * k) = m_textAt t + 1 + 3 * k by omega]
  exact h1
theorem txE (s : ST W W') (t : Nat) : ∀ j, j < 831 → W' (m_textAt t + j) = W (m_textAt t + j) := fun j _ => s _ (by unfold m_textAt; omega)
theorem PLaw.m (s : sub κ κ') (e : ST W W') {k y : Nat} (h : PLaw G κ W k y) : PLaw G κ' W' k y := by
  obtain ⟨ls, h1, h2⟩ := h
  have hl : ls.length ≤ 10 := by obtain ⟨_, _, _, _, h, _⟩ := h1; exact h
  exact ⟨ls, h1.m s, h2.w hl (txE e k)⟩
theorem PSto.m (s : sub κ κ') (e : ST W W') {k c : Nat} (h : PSto G κ W k c) : PSto G κ' W' k c := by
  obtain ⟨l, h1, h2⟩ := h
  exact ⟨l, h1.m s, h2.w (by omega) (txE e _)⟩
end KM
def wdI : Nat → Nat := fun j => match j with
  | 0 => 0
  | 1 => 1
  | 2 => 2
  | 3 => 3
  | 4 => 4
  | 5 => 5
  | 6 => 6
  | 7 => 7
  | 8 => 8
  | 9 => 9
  | 10 => 10
  | 11 => 11
  | 12 => 12
  | 13 => 13
  | _ => 0
def acI : Nat → Nat := fun j => match j with
  | 0 => 14
  | 1 => 15
  | 2 => 16
  | 3 => 17
  | 4 => 18
  | _ => 0
/-! the component's state: numbers mu (cell 0 number fields: 0 wrongAt 1 xMany 2 boneMany 3 whoBits 4 kept, reader's 5 size 6 end 7 at 8 deep 9 law, track's 10 many, 11 the fault's place;
1 the house 'now' 2 'image' 3 tape 4 track's cases 5 facts 6 least 7 early (8 s + k) 8 xs 9 bones), rho: the first entries of the reader's row of lines -/
def x0Obj (adr : Nat → Nat) (f : Nat → Int32) : List Value := [.ref (adr 1), .ref (adr 1000), .ref (adr 2000), .ref (adr 10), .ref (adr 8), .ref (adr 9), .int (f 0), .int (f 1), .int (f 2), .int (f 3), .int (f 4)]
def x1Obj (adr : Nat → Nat) (f : Nat → Int32) : List Value := [.ref (adr 3), .ref (adr 12), .ref (adr 13), .ref (adr 11), .ref (adr 2), .int (f 5), .int (f 6), .int (f 7), .int (f 8), .int (f 9)]
def x2Obj (f : Nat → Int32) : List Value := [.null, .null, .null, .null, .null, .int 0, .int (f 11)]
def x10Obj (adr : Nat → Nat) (f : Nat → Int32) : List Value := [.ref (adr 1000), .ref (adr 4), .ref (adr 6), .ref (adr 7), .int (f 10)]
def strF (G : UG) (n : Nat) (f : Nat → Nat) : Nat → Option Nat := fun j => if j < n then some (uK G (f j)) else none
def earF (adr : Nat → Nat) : Nat → Option Nat := fun j => if j < 256 then some (adr (20 + j)) else none
/-- what a role of the component's own holds -/
def xEq (G : UG) (adr : Nat → Nat) (μ : Mu) (r : Nat) : va_E := match r with
  | 0 => .inr (0, x0Obj adr (μ 0))
  | 1 => .inr (1, x1Obj adr (μ 0))
  | 2 => .inr (2, x2Obj (μ 0))
  | 3 => .inl (uI G 1, 400, .inl (μ 3))
  | 4 => .inl (uI G 0, 8, .inl (μ 4))
  | 6 => .inl (uI G 0, 256, .inl (μ 6))
  | 7 => rEnt G 13 256 (earF adr)
  | 8 => .inl (uI G 0, 16, .inl (μ 8))
  | 9 => .inl (uI G 0, 8, .inl (μ 9))
  | 10 => .inr (4, x10Obj adr (μ 0))
  | 12 => rEnt G 12 14 (strF G 14 wdI)
  | 13 => rEnt G 12 5 (strF G 5 acI)
  | 1009 => .inl (uI G 0, 17, .inl (μ 5))
  | _ => .inl (uI G 0, 0, .inl (fun _ => 0))
def isEq (r : Nat) : Bool := match r with
  | 0 => true | 1 => true | 2 => true | 3 => true | 4 => true | 6 => true | 7 => true | 8 => true | 9 => true | 10 => true | 12 => true | 13 => true | 1009 => true | _ => false
def xEnt (G : UG) (κ : Hp) (adr : Nat → Nat) (μ : Mu) (ρ : List Nat) (r : Nat) (e : va_E) : Prop :=
  if isEq r = true then e = xEq G adr μ r
  else if r = 11 then ∃ f, e = rEnt G 11 10 f ∧ ∀ k (h : k < ρ.length), f k = some ρ[k]
  else if r < 1000 then ∃ f : Nat → Int32, e = .inl (uI G 0, 8, .inl f) ∧ ∀ k, k < 8 → f k = μ 7 (8 * (r - 20) + k)
  else if r < 2000 then hEnt G κ adr (PLaw G κ (μ 1)) (PSto G κ (μ 1)) 1000 (μ 1) (r - 1000) e
  else hEnt G κ adr (PLaw G κ (μ 2)) (PSto G κ (μ 2)) 2000 (μ 2) (r - 2000) e
def xDom (μ : Mu) (r : Nat) : Prop := (r < 14 ∧ r ≠ 5) ∨ (20 ≤ r ∧ r < 276) ∨ (1000 ≤ r ∧ r < 2000 ∧ hDom (μ 1) (r - 1000)) ∨ (2000 ≤ r ∧ hDom (μ 2) (r - 2000))
/-- heaps that hold the component: κe what its parts may lean on, κ all that is not its own -/
def XR (G : UG) (κe κ : Hp) (adr : Nat → Nat) (μ : Mu) (ρ : List Nat) (h : Hp) : Prop := sub κe κ ∧ RS (xDom μ) adr (xEnt G κe adr μ ρ) κ h
abbrev XS (G : UG) (κ : Hp) (adr : Nat → Nat) (μ : Mu) (h : Hp) : Prop := XR G κ κ adr μ [] h
theorem MI.c {w : Nat → Int32} (h : MI w) : hCnt w := ⟨(h 0 (by decide)).2, (h 1 (by decide)).2, (h 2 (by decide)).2, (h 3 (by decide)).2, (h 4 (by decide)).2, (h 5 (by decide)).2, (h 6 (by decide)).2⟩
section XRs
variable {G : UG} {κe κ : Hp} {adr : Nat → Nat} {μ μ' : Mu} {ρ ρ' : List Nat} {h : Hp}
theorem xEnt_eq {r : Nat} {e : va_E} (hr : isEq r = true) : xEnt G κe adr μ ρ r e ↔ e = xEq G adr μ r := by unfold xEnt; rw [if_pos hr]
theorem isEq_lo : ∀ j, j < 14 → j ≠ 5 → j ≠ 11 → isEq j = true := by decide
theorem isEq_h (r : Nat) (h : 1000 ≤ r) : isEq r = true ↔ r = 1009 := by
  constructor
  · intro c
    unfold isEq at c
    split at c <;> first | rfl | omega | cases c
  · rintro rfl; rfl
theorem xEnt_now {r : Nat} {e : va_E} (h1 : r < 1000) (he : xEnt G κe adr μ ρ (1000 + r) e) : hEnt G κe adr (PLaw G κe (μ 1)) (PSto G κe (μ 1)) 1000 (μ 1) r e := by
  unfold xEnt at he
  by_cases c : r = 9
  · subst c
    rw [if_pos (by rfl)] at he
    exact ⟨_, he⟩
  · rw [if_neg (by rw [isEq_h _ (by omega)]; omega), if_neg (by omega), if_neg (by omega), if_pos (by omega), show 1000 + r - 1000 = r by omega] at he
    exact he
theorem xEnt_im {r : Nat} {e : va_E} : xEnt G κe adr μ ρ (2000 + r) e ↔ hEnt G κe adr (PLaw G κe (μ 2)) (PSto G κe (μ 2)) 2000 (μ 2) r e := by
  unfold xEnt
  rw [if_neg (by rw [isEq_h _ (by omega)]; omega), if_neg (by omega), if_neg (by omega), if_neg (by omega), show 2000 + r - 2000 = r by omega]
theorem hDom_lt {w : Nat → Int32} (hC : hCnt w) {r : Nat} (h : hDom w r) : r < 208 := by
  have h0 := hC.1; have h1 := hC.2.1
  rcases h with h | h | h <;> omega
theorem XR.hr (hI : MI (μ 1)) {W : Nat → Int32} (e : μ 1 = W) : HR G κe adr (PLaw G κe W) (PSto G κe W) 1000 W (XR G κe κ adr μ ρ) := by
  subst e
  have hd : ∀ r, hDom (μ 1) r → xDom μ (1000 + r) := fun r hr => Or.inr (Or.inr (Or.inl ⟨by omega, by have := hDom_lt hI.c hr; omega, by rw [show 1000 + r - 1000 = r by omega]; exact hr⟩))
  refine ⟨hI.c, fun h m => ⟨fun r hr => ?_, fun a e ha => m.2.2.2.1 a e (m.1 a e ha), fun r r' h1 h2 e => ?_⟩⟩
  · obtain ⟨e, h1, h2⟩ := m.2.2.1 (1000 + r) (hd r hr)
    exact ⟨e, h1, xEnt_now (by have := hDom_lt hI.c hr; omega) h2⟩
  · have := m.2.1 _ _ (hd r h1) (hd r' h2) e
    omega
theorem XR.hi (hI : MI (μ 2)) {W : Nat → Int32} (e : μ 2 = W) : HR G κe adr (PLaw G κe W) (PSto G κe W) 2000 W (XR G κe κ adr μ ρ) := by
  subst e
  have hd : ∀ r, hDom (μ 2) r → xDom μ (2000 + r) := fun r hr => Or.inr (Or.inr (Or.inr ⟨by omega, by rw [show 2000 + r - 2000 = r by omega]; exact hr⟩))
  refine ⟨hI.c, fun h m => ⟨fun r hr => ?_, fun a e ha => m.2.2.2.1 a e (m.1 a e ha), fun r r' h1 h2 e => ?_⟩⟩
  · obtain ⟨e, h1, h2⟩ := m.2.2.1 (2000 + r) (hd r hr)
    exact ⟨e, h1, xEnt_im.mp h2⟩
  · have := m.2.1 _ _ (hd r h1) (hd r' h2) e
    omega
theorem XR.ob (m : XR G κe κ adr μ ρ h) {r : Nat} (hd : xDom μ r) (hr : isEq r = true) : h (adr r) = some (xEq G adr μ r) := by
  obtain ⟨e, h1, h2⟩ := m.2.2.1 r hd
  rw [h1, (xEnt_eq hr).mp h2]
/-- a role's object is written: what it holds now, and what the others hold is unchanged -/
theorem XR.wr (m : XR G κe κ adr μ ρ h) {i : Nat} {e : va_E} (hi : xDom μ i) (hd : ∀ j, xDom μ' j → xDom μ j) (he : xEnt G κe adr μ' ρ' i e) (hk : ∀ j e', xDom μ j → j ≠ i → xEnt G κe adr μ ρ j e' → xEnt G κe adr μ' ρ' j e') : XR G κe κ adr μ' ρ' (hset h (adr i) e) :=
  ⟨m.1, (m.2.put hi he hk).mono hd (fun _ _ _ q => q)⟩
/-- a cell that is neither a house's nor 'early' is changed -/
theorem xEnt_n {j : Nat} {e : va_E} (h1 : μ' 1 = μ 1) (h2 : μ' 2 = μ 2) (h7 : μ' 7 = μ 7) (hq : isEq j = true → xEq G adr μ' j = xEq G adr μ j) : xEnt G κe adr μ ρ j e → xEnt G κe adr μ' ρ j e := by
  unfold xEnt
  intro q
  by_cases c : isEq j = true
  · rw [if_pos c] at q ⊢
    rw [hq c]; exact q
  · rw [if_neg c] at q ⊢
    rw [h1, h2, h7]; exact q
theorem xDom_n {j : Nat} (h1 : μ' 1 = μ 1) (h2 : μ' 2 = μ 2) : xDom μ' j ↔ xDom μ j := by unfold xDom; rw [h1, h2]
theorem XR.wrE (m : XR G κe κ adr μ ρ h) {i : Nat} {e : va_E} (hi : xDom μ i) (h1 : μ' 1 = μ 1) (h2 : μ' 2 = μ 2) (h7 : μ' 7 = μ 7) (hr : isEq i = true) (he : e = xEq G adr μ' i) (hk : ∀ j, j ≠ i → isEq j = true → xEq G adr μ' j = xEq G adr μ j) : XR G κe κ adr μ' ρ (hset h (adr i) e) :=
  m.wr hi (fun j hj => (xDom_n h1 h2).mp hj) ((xEnt_eq hr).mpr he) (fun j e' _ c => xEnt_n h1 h2 h7 (hk j c))
theorem XR.eq (m : XR G κe κ adr μ ρ h) (e : μ = μ') : XR G κe κ adr μ' ρ h := e ▸ m
theorem XR.o0 : ∀ h, XR G κe κ adr μ ρ h → h (adr 0) = some (.inr (0, x0Obj adr (μ 0))) := fun _ m => m.ob (r := 0) (Or.inl (by decide)) rfl
theorem XR.o1 : ∀ h, XR G κe κ adr μ ρ h → h (adr 1) = some (.inr (1, x1Obj adr (μ 0))) := fun _ m => m.ob (r := 1) (Or.inl (by decide)) rfl
theorem XR.o2 : ∀ h, XR G κe κ adr μ ρ h → h (adr 2) = some (.inr (2, x2Obj (μ 0))) := fun _ m => m.ob (r := 2) (Or.inl (by decide)) rfl
theorem XR.o10 : ∀ h, XR G κe κ adr μ ρ h → h (adr 10) = some (.inr (4, x10Obj adr (μ 0))) := fun _ m => m.ob (r := 10) (Or.inl (by decide)) rfl
theorem XR.c3 : ∀ h, XR G κe κ adr μ ρ h → h (adr 3) = some (.inl (uI G 1, 400, .inl (μ 3))) := fun _ m => m.ob (r := 3) (Or.inl (by decide)) rfl
theorem XR.c4 : ∀ h, XR G κe κ adr μ ρ h → h (adr 4) = some (.inl (uI G 0, 8, .inl (μ 4))) := fun _ m => m.ob (r := 4) (Or.inl (by decide)) rfl
theorem XR.c5 : ∀ h, XR G κe κ adr μ ρ h → h (adr 1009) = some (.inl (uI G 0, 17, .inl (μ 5))) := fun _ m => m.ob (r := 1009) (Or.inr (Or.inr (Or.inl ⟨by decide, by decide, Or.inl (by decide)⟩))) rfl
theorem XR.c6 : ∀ h, XR G κe κ adr μ ρ h → h (adr 6) = some (.inl (uI G 0, 256, .inl (μ 6))) := fun _ m => m.ob (r := 6) (Or.inl (by decide)) rfl
theorem XR.c8 : ∀ h, XR G κe κ adr μ ρ h → h (adr 8) = some (.inl (uI G 0, 16, .inl (μ 8))) := fun _ m => m.ob (r := 8) (Or.inl (by decide)) rfl
theorem XR.c9 : ∀ h, XR G κe κ adr μ ρ h → h (adr 9) = some (.inl (uI G 0, 8, .inl (μ 9))) := fun _ m => m.ob (r := 9) (Or.inl (by decide)) rfl
theorem XR.e7 : ∀ h, XR G κe κ adr μ ρ h → h (adr 7) = some (rEnt G 13 256 (earF adr)) := fun _ m => m.ob (r := 7) (Or.inl (by decide)) rfl
theorem XR.e12 : ∀ h, XR G κe κ adr μ ρ h → h (adr 12) = some (rEnt G 12 14 (strF G 14 wdI)) := fun _ m => m.ob (r := 12) (Or.inl (by decide)) rfl
theorem XR.e13 : ∀ h, XR G κe κ adr μ ρ h → h (adr 13) = some (rEnt G 12 5 (strF G 5 acI)) := fun _ m => m.ob (r := 13) (Or.inl (by decide)) rfl
theorem XR.p0 {v : Int32} (m : XR G κe κ adr μ ρ h) : XR G κe κ adr (mset μ 0 0 v) ρ (hset h (adr 0) (.inr (0, (x0Obj adr (μ 0)).set 6 (.int v)))) :=
  m.wrE (i := 0) (Or.inl (by decide)) rfl rfl rfl rfl rfl (fun j c q => by
    unfold isEq at q
    split at q <;> first | rfl | exact absurd rfl c | cases q)
theorem XR.p1 {v : Int32} (m : XR G κe κ adr μ ρ h) : XR G κe κ adr (mset μ 0 1 v) ρ (hset h (adr 0) (.inr (0, (x0Obj adr (μ 0)).set 7 (.int v)))) :=
  m.wrE (i := 0) (Or.inl (by decide)) rfl rfl rfl rfl rfl (fun j c q => by
    unfold isEq at q
    split at q <;> first | rfl | exact absurd rfl c | cases q)
theorem XR.p2 {v : Int32} (m : XR G κe κ adr μ ρ h) : XR G κe κ adr (mset μ 0 2 v) ρ (hset h (adr 0) (.inr (0, (x0Obj adr (μ 0)).set 8 (.int v)))) :=
  m.wrE (i := 0) (Or.inl (by decide)) rfl rfl rfl rfl rfl (fun j c q => by
    unfold isEq at q
    split at q <;> first | rfl | exact absurd rfl c | cases q)
theorem XR.p3 {v : Int32} (m : XR G κe κ adr μ ρ h) : XR G κe κ adr (mset μ 0 3 v) ρ (hset h (adr 0) (.inr (0, (x0Obj adr (μ 0)).set 9 (.int v)))) :=
  m.wrE (i := 0) (Or.inl (by decide)) rfl rfl rfl rfl rfl (fun j c q => by
    unfold isEq at q
    split at q <;> first | rfl | exact absurd rfl c | cases q)
theorem XR.p4 {v : Int32} (m : XR G κe κ adr μ ρ h) : XR G κe κ adr (mset μ 0 4 v) ρ (hset h (adr 0) (.inr (0, (x0Obj adr (μ 0)).set 10 (.int v)))) :=
  m.wrE (i := 0) (Or.inl (by decide)) rfl rfl rfl rfl rfl (fun j c q => by
    unfold isEq at q
    split at q <;> first | rfl | exact absurd rfl c | cases q)
theorem XR.p5 {v : Int32} (m : XR G κe κ adr μ ρ h) : XR G κe κ adr (mset μ 0 5 v) ρ (hset h (adr 1) (.inr (1, (x1Obj adr (μ 0)).set 5 (.int v)))) :=
  m.wrE (i := 1) (Or.inl (by decide)) rfl rfl rfl rfl rfl (fun j c q => by
    unfold isEq at q
    split at q <;> first | rfl | exact absurd rfl c | cases q)
theorem XR.p6 {v : Int32} (m : XR G κe κ adr μ ρ h) : XR G κe κ adr (mset μ 0 6 v) ρ (hset h (adr 1) (.inr (1, (x1Obj adr (μ 0)).set 6 (.int v)))) :=
  m.wrE (i := 1) (Or.inl (by decide)) rfl rfl rfl rfl rfl (fun j c q => by
    unfold isEq at q
    split at q <;> first | rfl | exact absurd rfl c | cases q)
theorem XR.p7 {v : Int32} (m : XR G κe κ adr μ ρ h) : XR G κe κ adr (mset μ 0 7 v) ρ (hset h (adr 1) (.inr (1, (x1Obj adr (μ 0)).set 7 (.int v)))) :=
  m.wrE (i := 1) (Or.inl (by decide)) rfl rfl rfl rfl rfl (fun j c q => by
    unfold isEq at q
    split at q <;> first | rfl | exact absurd rfl c | cases q)
theorem XR.p8 {v : Int32} (m : XR G κe κ adr μ ρ h) : XR G κe κ adr (mset μ 0 8 v) ρ (hset h (adr 1) (.inr (1, (x1Obj adr (μ 0)).set 8 (.int v)))) :=
  m.wrE (i := 1) (Or.inl (by decide)) rfl rfl rfl rfl rfl (fun j c q => by
    unfold isEq at q
    split at q <;> first | rfl | exact absurd rfl c | cases q)
theorem XR.p9 {v : Int32} (m : XR G κe κ adr μ ρ h) : XR G κe κ adr (mset μ 0 9 v) ρ (hset h (adr 1) (.inr (1, (x1Obj adr (μ 0)).set 9 (.int v)))) :=
  m.wrE (i := 1) (Or.inl (by decide)) rfl rfl rfl rfl rfl (fun j c q => by
    unfold isEq at q
    split at q <;> first | rfl | exact absurd rfl c | cases q)
theorem XR.p10 {v : Int32} (m : XR G κe κ adr μ ρ h) : XR G κe κ adr (mset μ 0 10 v) ρ (hset h (adr 10) (.inr (4, (x10Obj adr (μ 0)).set 4 (.int v)))) :=
  m.wrE (i := 10) (Or.inl (by decide)) rfl rfl rfl rfl rfl (fun j c q => by
    unfold isEq at q
    split at q <;> first | rfl | exact absurd rfl c | cases q)
theorem XR.p11 {v : Int32} (m : XR G κe κ adr μ ρ h) : XR G κe κ adr (mset μ 0 11 v) ρ (hset h (adr 2) (.inr (2, (x2Obj (μ 0)).set 6 (.int v)))) :=
  m.wrE (i := 2) (Or.inl (by decide)) rfl rfl rfl rfl rfl (fun j c q => by
    unfold isEq at q
    split at q <;> first | rfl | exact absurd rfl c | cases q)
theorem XR.a3 {j : Nat} {v : Int32} (m : XR G κe κ adr μ ρ h) : XR G κe κ adr (mset μ 3 j v) ρ (hset h (adr 3) (.inl (uI G 1, 400, .inl (upd (μ 3) j v)))) := by
  rw [ups_upd]
  exact m.wrE (i := 3) (Or.inl (by decide)) rfl rfl rfl rfl rfl (fun j c q => by
    unfold isEq at q
    split at q <;> first | rfl | exact absurd rfl c | cases q)
theorem XR.a4 {j : Nat} {v : Int32} (m : XR G κe κ adr μ ρ h) : XR G κe κ adr (mset μ 4 j v) ρ (hset h (adr 4) (.inl (uI G 0, 8, .inl (upd (μ 4) j v)))) := by
  rw [ups_upd]
  exact m.wrE (i := 4) (Or.inl (by decide)) rfl rfl rfl rfl rfl (fun j c q => by
    unfold isEq at q
    split at q <;> first | rfl | exact absurd rfl c | cases q)
theorem XR.a5 {j : Nat} {v : Int32} (m : XR G κe κ adr μ ρ h) : XR G κe κ adr (mset μ 5 j v) ρ (hset h (adr 1009) (.inl (uI G 0, 17, .inl (upd (μ 5) j v)))) := by
  rw [ups_upd]
  exact m.wrE (i := 1009) (Or.inr (Or.inr (Or.inl ⟨by decide, by decide, Or.inl (by decide)⟩))) rfl rfl rfl rfl rfl (fun j c q => by
    unfold isEq at q
    split at q <;> first | rfl | exact absurd rfl c | cases q)
theorem XR.a6 {j : Nat} {v : Int32} (m : XR G κe κ adr μ ρ h) : XR G κe κ adr (mset μ 6 j v) ρ (hset h (adr 6) (.inl (uI G 0, 256, .inl (upd (μ 6) j v)))) := by
  rw [ups_upd]
  exact m.wrE (i := 6) (Or.inl (by decide)) rfl rfl rfl rfl rfl (fun j c q => by
    unfold isEq at q
    split at q <;> first | rfl | exact absurd rfl c | cases q)
theorem XR.a8 {j : Nat} {v : Int32} (m : XR G κe κ adr μ ρ h) : XR G κe κ adr (mset μ 8 j v) ρ (hset h (adr 8) (.inl (uI G 0, 16, .inl (upd (μ 8) j v)))) := by
  rw [ups_upd]
  exact m.wrE (i := 8) (Or.inl (by decide)) rfl rfl rfl rfl rfl (fun j c q => by
    unfold isEq at q
    split at q <;> first | rfl | exact absurd rfl c | cases q)
theorem XR.a9 {j : Nat} {v : Int32} (m : XR G κe κ adr μ ρ h) : XR G κe κ adr (mset μ 9 j v) ρ (hset h (adr 9) (.inl (uI G 0, 8, .inl (upd (μ 9) j v)))) := by
  rw [ups_upd]
  exact m.wrE (i := 9) (Or.inl (by decide)) rfl rfl rfl rfl rfl (fun j c q => by
    unfold isEq at q
    split at q <;> first | rfl | exact absurd rfl c | cases q)
/-- a row of 'early' -/
theorem XR.er (m : XR G κe κ adr μ ρ h) {s : Nat} (hs : s < 256) : ∃ f : Nat → Int32, h (adr (20 + s)) = some (.inl (uI G 0, 8, .inl f)) ∧ ∀ k, k < 8 → f k = μ 7 (8 * s + k) := by
  obtain ⟨e, h1, h2⟩ := m.2.2.1 (20 + s) (Or.inr (Or.inl ⟨by omega, by omega⟩))
  unfold xEnt at h2
  have hn : ¬ isEq (20 + s) = true := by
    intro q
    unfold isEq at q
    split at q <;> first | omega | cases q
  rw [if_neg hn, if_neg (by omega), if_pos (by omega), show 20 + s - 20 = s by omega] at h2
  obtain ⟨f, h3, h4⟩ := h2
  exact ⟨f, by rw [h1, h3], h4⟩
theorem XR.a7 {s k : Nat} {v : Int32} {f : Nat → Int32} (m : XR G κe κ adr μ ρ h) (hs : s < 256) (hk : k < 8) (hf : ∀ k, k < 8 → f k = μ 7 (8 * s + k)) : XR G κe κ adr (mset μ 7 (8 * s + k) v) ρ (hset h (adr (20 + s)) (.inl (uI G 0, 8, .inl (upd f k v)))) := by
  have hn : ∀ s, s < 256 → ¬ isEq (20 + s) = true := by
    intro s hs q
    unfold isEq at q
    split at q <;> first | omega | cases q
  have h1 : mset μ 7 (8 * s + k) v 1 = μ 1 := mset_n (by decide)
  have h2 : mset μ 7 (8 * s + k) v 2 = μ 2 := mset_n (by decide)
  have h7 : mset μ 7 (8 * s + k) v 7 = ups (μ 7) (8 * s + k) v := mset_s
  refine m.wr (i := 20 + s) (Or.inr (Or.inl ⟨by omega, by omega⟩)) (fun j hj => (xDom_n h1 h2).mp hj) ?_ (fun j e' hd c q => ?_)
  · unfold xEnt
    rw [if_neg (hn s hs), if_neg (by omega), if_pos (by omega), show 20 + s - 20 = s by omega, h7]
    refine ⟨_, rfl, fun i hi => ?_⟩
    rw [ups_upd]
    by_cases e : i = k
    · subst e; rw [ups_s, ups_s]
    · rw [ups_n e, ups_n (by omega)]; exact hf i hi
  · unfold xEnt at q ⊢
    by_cases c1 : isEq j = true
    · rw [if_pos c1] at q ⊢
      rw [q]
      unfold isEq at c1
      split at c1 <;> first | rfl | cases c1
    · rw [if_neg c1] at q ⊢
      by_cases c2 : j = 11
      · rw [if_pos c2] at q ⊢; exact q
      · rw [if_neg c2] at q ⊢
        by_cases c3 : j < 1000
        · rw [if_pos c3] at q ⊢
          obtain ⟨g, e1, e2⟩ := q
          refine ⟨g, e1, fun i hi => ?_⟩
          have hj : 20 ≤ j := by
            rcases hd with hd | hd | hd | hd
            · exact absurd (isEq_lo j hd.1 hd.2 c2) c1
            · exact hd.1
            · exact absurd hd.1 (by omega)
            · exact absurd hd.1 (by omega)
          rw [h7, ups_n (by omega)]; exact e2 i hi
        · rw [if_neg c3] at q ⊢
          rw [h1, h2]; exact q
end XRs
section XRr
variable {G : UG} {F : UF} {R : Room} {Q : State → Prop} {nL pc : Nat} {L L' : List (Nat × Value)} {st rest : List Value} {Ω : Hp → Prop} {k n : Nat} {cc : ByteArray} {own : String} {ret : Option FieldType}
variable {κe κ : Hp} {adr : Nat → Nat} {μ μ' : Mu} {ρ : List Nat}
theorem x_aaldA (O : Ok G F own cc nL ret) (t : Nat) {a N b : Nat} {i : Int32} (ha : ∀ h, Ω h → ∃ f : Nat → Option Nat, h a = some (.inl (uI G t, N, .inr (.inr (.inr (.inr f))))) ∧ f i.toNatClampNeg = some b) (ht : (uTys (uI G))[t]? = some (uI G t, .array .int)) (hin : vp_in i N) (d : decode cc pc = .ok (.aaload, 1)) (kk : X G F R Q nL (pc + 1) L (.ref b :: st) Ω k n) : X G F R Q nL pc L (.int i :: .ref a :: st) Ω k n := by
  intro h H locs ls hΩ hR hS hl
  obtain ⟨f, h1, h2⟩ := ha h hΩ
  have hR' := hR
  obtain ⟨ws, hP, hD, hlk⟩ := hR
  obtain ⟨q, hq⟩ := hlk _ _ h1
  have hlt : i.toNatClampNeg < N := Nat.not_le.mp fun q => hin (Or.inr q)
  have kk' := kk h H locs ls hΩ hR' hS hl
  refine W.aald (v := va_rf (f i.toNatClampNeg)) (ty := .array .int) O.x O.b (hP q _ hq) ((O.K.2 t _ ht).1 N (fun j => va_rf (f j))) rfl (fun q => by cases q) (by show ¬ (i < 0 ∨ (arrV _ _ _).slots.size ≤ _); rw [arrV_size]; exact hin) (by show (arrV _ _ _).slots[_]? = _; rw [arrV_read _ _ hlt]) rfl rfl d ?_
  rw [h2]
  exact kk'
theorem x_ear1 (O : Ok G F own cc nL ret) {s : Nat} (hs : s < 256) (d : decode cc pc = .ok (.aaload, 1)) (kk : X G F R Q nL (pc + 1) L (.ref (adr (20 + s)) :: st) (XR G κe κ adr μ ρ) k n) : X G F R Q nL pc L (.int (nI s) :: .ref (adr 7) :: st) (XR G κe κ adr μ ρ) k n :=
  x_aaldA O 13 (N := 256) (b := adr (20 + s)) (fun h m => ⟨earF adr, XR.e7 h m, by rw [nI_clamp (by omega)]; exact if_pos hs⟩) rfl (vp_in_nI (by omega) (by omega)) d kk
theorem x_ear2 (O : Ok G F own cc nL ret) {s i : Nat} (hs : s < 256) (hi : i < 8) (d : decode cc pc = .ok (.iaload, 1)) (kk : X G F R Q nL (pc + 1) L (.int (μ 7 (8 * s + i)) :: st) (XR G κe κ adr μ ρ) k n) : X G F R Q nL pc L (.int (nI i) :: .ref (adr (20 + s)) :: st) (XR G κe κ adr μ ρ) k n := by
  refine x_ialdE O (N := 8) (fun h m => ?_) (vp_in_nI (by omega) (by omega)) d kk
  obtain ⟨f, h1, h2⟩ := m.er hs
  exact ⟨f, h1, by rw [nI_clamp (by omega)]; exact h2 i hi⟩
theorem x_ear3 (O : Ok G F own cc nL ret) {s i : Nat} {v : Int32} (hs : s < 256) (hi : i < 8) (d : decode cc pc = .ok (.iastore, 1)) (e : mset μ 7 (8 * s + i) v = μ') (kk : X G F R Q nL (pc + 1) L st (XR G κe κ adr μ' ρ) k n) : X G F R Q nL pc L (.int v :: .int (nI i) :: .ref (adr (20 + s)) :: st) (XR G κe κ adr μ ρ) k n := by
  refine x_iastE O (N := 8) _ (fun h m => ?_) (vp_in_nI (by omega) (by omega)) d kk
  obtain ⟨f, h1, h2⟩ := m.er hs
  refine ⟨f, h1, ?_⟩
  rw [nI_clamp (by omega)]
  exact (m.a7 hs hi h2).eq e
theorem x_xst3 (O : Ok G F own cc nL ret) {i : Nat} {v : Int32} (hi : i < 400) (hz : vp_nar .byte v = v) (d : decode cc pc = .ok (.bastore, 1)) (e : mset μ 3 i v = μ') (kk : X G F R Q nL (pc + 1) L st (XR G κe κ adr μ' ρ) k n) : X G F R Q nL pc L (.int v :: .int (nI i) :: .ref (adr 3) :: st) (XR G κe κ adr μ ρ) k n := by
  have h3 : (nI i).toNatClampNeg = i := nI_clamp (by omega)
  exact x_bast O XR.c3 (vp_in_nI hi (by omega)) d _ (fun h m => by rw [h3, hz]; exact (m.a3).eq e) kk
theorem x_xst4 (O : Ok G F own cc nL ret) {i : Nat} {v : Int32} (hi : i < 8) (d : decode cc pc = .ok (.iastore, 1)) (e : mset μ 4 i v = μ') (kk : X G F R Q nL (pc + 1) L st (XR G κe κ adr μ' ρ) k n) : X G F R Q nL pc L (.int v :: .int (nI i) :: .ref (adr 4) :: st) (XR G κe κ adr μ ρ) k n := by
  have h3 : (nI i).toNatClampNeg = i := nI_clamp (by omega)
  exact x_iast O XR.c4 (vp_in_nI hi (by omega)) d _ (fun h m => by rw [h3]; exact (m.a4).eq e) kk
theorem x_xst5 (O : Ok G F own cc nL ret) {i : Nat} {v : Int32} (hi : i < 17) (d : decode cc pc = .ok (.iastore, 1)) (e : mset μ 5 i v = μ') (kk : X G F R Q nL (pc + 1) L st (XR G κe κ adr μ' ρ) k n) : X G F R Q nL pc L (.int v :: .int (nI i) :: .ref (adr 1009) :: st) (XR G κe κ adr μ ρ) k n := by
  have h3 : (nI i).toNatClampNeg = i := nI_clamp (by omega)
  exact x_iast O XR.c5 (vp_in_nI hi (by omega)) d _ (fun h m => by rw [h3]; exact (m.a5).eq e) kk
theorem x_xst6 (O : Ok G F own cc nL ret) {i : Nat} {v : Int32} (hi : i < 256) (d : decode cc pc = .ok (.iastore, 1)) (e : mset μ 6 i v = μ') (kk : X G F R Q nL (pc + 1) L st (XR G κe κ adr μ' ρ) k n) : X G F R Q nL pc L (.int v :: .int (nI i) :: .ref (adr 6) :: st) (XR G κe κ adr μ ρ) k n := by
  have h3 : (nI i).toNatClampNeg = i := nI_clamp (by omega)
  exact x_iast O XR.c6 (vp_in_nI hi (by omega)) d _ (fun h m => by rw [h3]; exact (m.a6).eq e) kk
theorem x_xst8 (O : Ok G F own cc nL ret) {i : Nat} {v : Int32} (hi : i < 16) (d : decode cc pc = .ok (.iastore, 1)) (e : mset μ 8 i v = μ') (kk : X G F R Q nL (pc + 1) L st (XR G κe κ adr μ' ρ) k n) : X G F R Q nL pc L (.int v :: .int (nI i) :: .ref (adr 8) :: st) (XR G κe κ adr μ ρ) k n := by
  have h3 : (nI i).toNatClampNeg = i := nI_clamp (by omega)
  exact x_iast O XR.c8 (vp_in_nI hi (by omega)) d _ (fun h m => by rw [h3]; exact (m.a8).eq e) kk
theorem x_xst9 (O : Ok G F own cc nL ret) {i : Nat} {v : Int32} (hi : i < 8) (d : decode cc pc = .ok (.iastore, 1)) (e : mset μ 9 i v = μ') (kk : X G F R Q nL (pc + 1) L st (XR G κe κ adr μ' ρ) k n) : X G F R Q nL pc L (.int v :: .int (nI i) :: .ref (adr 9) :: st) (XR G κe κ adr μ ρ) k n := by
  have h3 : (nI i).toNatClampNeg = i := nI_clamp (by omega)
  exact x_iast O XR.c9 (vp_in_nI hi (by omega)) d _ (fun h m => by rw [h3]; exact (m.a9).eq e) kk
end XRr
