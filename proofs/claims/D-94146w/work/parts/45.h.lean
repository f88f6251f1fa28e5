/-! a house by its numbers w (the model's layout): what its roles hold -/
def hObj (adr : Nat → Nat) (B : Nat) (w : Nat → Int32) : List Value := [.ref (adr (B + 1)), .ref (adr (B + 2)), .ref (adr (B + 3)), .ref (adr (B + 4)), .ref (adr (B + 5)), .ref (adr (B + 6)), .ref (adr (B + 7)), .ref (adr (B + 8)), .ref (adr (B + 9)), .int (w 0), .int (w 1), .int (w 2), .int (w 3), .int (w 4), .int (w 5), .int (w 6), .int (w 8), .int (w 9), .int (w 7), .int (w 10), .int (w 11), .int (w 12)]
/-- every entry is null or a frozen object of one of the classes -/
def rOk (κ : Hp) (cs : List Nat) (f : Nat → Option Nat) : Prop := ∀ j y : Nat, f j = some y → ∃ (ci : Nat) (vs : List Value), κ y = some (.inr (ci, vs)) ∧ ci ∈ cs
def rEnt (G : UG) (t N : Nat) (f : Nat → Option Nat) : va_E := .inl (uI G t, N, .inr (.inr (.inr (.inr f))))
def gEnt (w : Nat → Int32) (k : Nat) : va_E := .inr (6, [.int (w (269 + 4 * k)), .int (w (270 + 4 * k)), .int (w (271 + 4 * k)), .int (w (272 + 4 * k))])
def pEnt (w : Nat → Int32) (k : Nat) : va_E := .inr (18, [.int (w (305 + 6 * k)), .int (w (306 + 6 * k)), .int (w (301 + 6 * k)), .int (w (302 + 6 * k)), .int (w (303 + 6 * k)), .int (b2i (decide (w (304 + 6 * k) = 1)))])
def tEnt (w : Nat → Int32) (k : Nat) : va_E := .inr (23, [.int (w (1069 + 4 * k)), .int (w (1070 + 4 * k)), .int (w (1071 + 4 * k)), .int (w (1072 + 4 * k))])
def nEnt (w : Nat → Int32) (k : Nat) : va_E := .inr (24, [.int (w (1101 + 3 * k)), .int (w (1102 + 3 * k)), .int (w (1103 + 3 * k))])
/-- pl k y: the object at y is the k-th law; ps k c: the object at c is the k-th story's condition -/
def hEnt (G : UG) (κ : Hp) (adr : Nat → Nat) (pl ps : Nat → Nat → Prop) (B : Nat) (w : Nat → Int32) (r : Nat) (e : va_E) : Prop :=
  match r with
  | 0 => e = .inr (3, hObj adr B w)
  | 1 => ∃ f : Nat → Int32, e = .inl (uI G 0, 256, .inl f) ∧ ∀ c, c < 256 → f c = w (13 + c)
  | 2 => ∃ f, e = rEnt G 4 8 f ∧ ∀ k, k < tn (w 0) → f k = some (adr (B + (100 + k)))
  | 3 => ∃ f, e = rEnt G 5 8 f ∧ ∀ k, k < tn (w 1) → f k = some (adr (B + (200 + k)))
  | 4 => ∃ f, e = rEnt G 6 4 f ∧ rOk κ [17] f ∧ ∀ k, k < tn (w 2) → ∃ y, f k = some y ∧ pl k y
  | 5 => ∃ f, e = rEnt G 7 120 f ∧ rOk κ [19, 20, 21, 22] f ∧ ∀ k, k < tn (w 3) → ∃ y, f k = some y ∧ κ y = some (fEnt w k)
  | 6 => ∃ f, e = rEnt G 8 8 f ∧ rOk κ [23] f ∧ ∀ k, k < tn (w 4) → ∃ y, f k = some y ∧ κ y = some (tEnt w k)
  | 7 => ∃ f, e = rEnt G 9 20 f ∧ rOk κ [24] f ∧ ∀ k, k < tn (w 5) → ∃ y, f k = some y ∧ κ y = some (nEnt w k)
  | 8 => ∃ f, e = rEnt G 10 5 f ∧ rOk κ [25] f ∧ ∀ k, k < tn (w 6) → ∃ y c, f k = some y ∧ κ y = some (.inr (25, [.int (w (1161 + k)), .ref c])) ∧ ps k c
  | 9 => ∃ f : Nat → Int32, e = .inl (uI G 0, 17, .inl f)
  | r + 10 => if r + 10 < 200 then e = gEnt w (r + 10 - 100) else e = pEnt w (r + 10 - 200)
def hDom (w : Nat → Int32) (r : Nat) : Prop := r < 10 ∨ (100 ≤ r ∧ r < 100 + tn (w 0)) ∨ (200 ≤ r ∧ r < 200 + tn (w 1))
/-- the counts are within the arrays -/
def hCnt (w : Nat → Int32) : Prop := tn (w 0) ≤ 8 ∧ tn (w 1) ≤ 8 ∧ tn (w 2) ≤ 4 ∧ tn (w 3) ≤ 120 ∧ tn (w 4) ≤ 8 ∧ tn (w 5) ≤ 20 ∧ tn (w 6) ≤ 5
/-- all heaps of Ω hold the house -/
def HR (G : UG) (κ : Hp) (adr : Nat → Nat) (pl ps : Nat → Nat → Prop) (B : Nat) (w : Nat → Int32) (Ω : Hp → Prop) : Prop :=
  hCnt w ∧ ∀ h, Ω h → (∀ r, hDom w r → ∃ e, h (adr (B + r)) = some e ∧ hEnt G κ adr pl ps B w r e) ∧ (∀ a e, κ a = some e → h a = some e) ∧ ∀ r r' : Nat, hDom w r → hDom w r' → adr (B + r) = adr (B + r') → r = r'
section UH
variable {G : UG} {F : UF} {R : Room} {Q : State → Prop} {nL pc k n : Nat} {L L' : List (Nat × Value)} {st rest : List Value} {Ω Ω' : Hp → Prop} {cc : ByteArray} {own : String} {ret : Option FieldType}
variable {κ : Hp} {adr : Nat → Nat} {pl ps : Nat → Nat → Prop} {B : Nat} {w : Nat → Int32}
theorem HR.at (H : HR G κ adr pl ps B w Ω) {h : Hp} (hh : Ω h) (r : Nat) (hr : hDom w r) : ∃ e, h (adr (B + r)) = some e ∧ hEnt G κ adr pl ps B w r e := (H.2 h hh).1 r hr
theorem HR.fr (H : HR G κ adr pl ps B w Ω) {a : Nat} {e : va_E} (ha : κ a = some e) : ∀ h, Ω h → h a = some e := fun h hh => (H.2 h hh).2.1 a e ha
theorem HR.obj (H : HR G κ adr pl ps B w Ω) : ∀ h, Ω h → h (adr B) = some (.inr (3, hObj adr B w)) := by
  intro h hh
  obtain ⟨e, h1, h2⟩ := H.at hh 0 (Or.inl (by decide))
  have : e = .inr (3, hObj adr B w) := h2
  rw [← this]; exact h1
theorem HR.gun (H : HR G κ adr pl ps B w Ω) {k : Nat} (hk : k < tn (w 0)) : ∀ h, Ω h → h (adr (B + (100 + k))) = some (gEnt w k) := by
  intro h hh
  have h8 := H.1.1
  obtain ⟨e, h1, h2⟩ := H.at hh (100 + k) (Or.inr (Or.inl ⟨by omega, by omega⟩))
  rw [show 100 + k = (90 + k) + 10 by omega] at h2
  simp only [hEnt] at h2
  rw [if_pos (by omega), show 90 + k + 10 - 100 = k by omega] at h2
  rw [← h2]; exact h1
theorem HR.per (H : HR G κ adr pl ps B w Ω) {k : Nat} (hk : k < tn (w 1)) : ∀ h, Ω h → h (adr (B + (200 + k))) = some (pEnt w k) := by
  intro h hh
  obtain ⟨e, h1, h2⟩ := H.at hh (200 + k) (Or.inr (Or.inr ⟨by omega, by omega⟩))
  rw [show 200 + k = (190 + k) + 10 by omega] at h2
  simp only [hEnt] at h2
  rw [if_neg (by omega), show 190 + k + 10 - 200 = k by omega] at h2
  rw [← h2]; exact h1
/-- a field of the house -/
theorem x_hget (O : Ok G F own cc nL ret) (H : HR G κ adr pl ps B w Ω) {index kf : Nat} {v : Value} (K : FK own index 3 kf) (hv : (hObj adr B w)[kf]? = some v) (d : decode cc pc = .ok (.getfield index, 3)) (kk : X G F R Q nL (pc + 3) L (v :: st) Ω k n) : X G F R Q nL pc L (.ref (adr B) :: st) Ω k n := x_get O K H.obj hv d kk
/-- an element below the count of an array of references -/
theorem x_hgun (O : Ok G F own cc nL ret) (H : HR G κ adr pl ps B w Ω) {i : Nat} (hi : i < tn (w 0)) (d : decode cc pc = .ok (.aaload, 1)) (kk : X G F R Q nL (pc + 1) L (.ref (adr (B + (100 + i))) :: st) Ω k n) : X G F R Q nL pc L (.int (nI i) :: .ref (adr (B + 2)) :: st) Ω k n := by
  have h8 := H.1.1
  refine x_aaldE O 4 (N := 8) (fun h hh => ?_) rfl (vp_in_nI (by omega) (by omega)) d kk
  obtain ⟨e, h1, f, h2, h3⟩ := H.at hh 2 (Or.inl (by decide))
  exact ⟨f, by rw [h1, h2]; rfl, by rw [nI_clamp (by omega)]; exact h3 i hi⟩
theorem x_hper (O : Ok G F own cc nL ret) (H : HR G κ adr pl ps B w Ω) {i : Nat} (hi : i < tn (w 1)) (d : decode cc pc = .ok (.aaload, 1)) (kk : X G F R Q nL (pc + 1) L (.ref (adr (B + (200 + i))) :: st) Ω k n) : X G F R Q nL pc L (.int (nI i) :: .ref (adr (B + 3)) :: st) Ω k n := by
  have h8 := H.1.2.1
  refine x_aaldE O 5 (N := 8) (fun h hh => ?_) rfl (vp_in_nI (by omega) (by omega)) d kk
  obtain ⟨e, h1, f, h2, h3⟩ := H.at hh 3 (Or.inl (by decide))
  exact ⟨f, by rw [h1, h2]; rfl, by rw [nI_clamp (by omega)]; exact h3 i hi⟩
theorem x_hfind (O : Ok G F own cc nL ret) (H : HR G κ adr pl ps B w Ω) {i : Nat} (hi : i < tn (w 3)) (d : decode cc pc = .ok (.aaload, 1)) (kk : ∀ q : Nat, κ q = some (fEnt w i) → X G F R Q nL (pc + 1) L (.ref q :: st) Ω k n) : X G F R Q nL pc L (.int (nI i) :: .ref (adr (B + 5)) :: st) Ω k n := by
  have h8 := H.1.2.2.2.1
  refine x_one (fun h0 h0Ω => ?_)
  obtain ⟨e, h1, f, h2, -, h3⟩ := H.at h0Ω 5 (Or.inl (by decide))
  obtain ⟨y, h4, h5⟩ := h3 i hi
  refine x_aaldE O 7 (N := 120) (b := y) (fun h hh => ⟨f, by rw [hh, h1, h2]; rfl, by rw [nI_clamp (by omega)]; exact h4⟩) rfl (vp_in_nI (by omega) (by omega)) d (x_pt h0Ω (kk y h5))
theorem x_hteller (O : Ok G F own cc nL ret) (H : HR G κ adr pl ps B w Ω) {i : Nat} (hi : i < tn (w 4)) (d : decode cc pc = .ok (.aaload, 1)) (kk : ∀ q : Nat, κ q = some (tEnt w i) → X G F R Q nL (pc + 1) L (.ref q :: st) Ω k n) : X G F R Q nL pc L (.int (nI i) :: .ref (adr (B + 6)) :: st) Ω k n := by
  have h8 := H.1.2.2.2.2.1
  refine x_one (fun h0 h0Ω => ?_)
  obtain ⟨e, h1, f, h2, -, h3⟩ := H.at h0Ω 6 (Or.inl (by decide))
  obtain ⟨y, h4, h5⟩ := h3 i hi
  refine x_aaldE O 8 (N := 8) (b := y) (fun h hh => ⟨f, by rw [hh, h1, h2]; rfl, by rw [nI_clamp (by omega)]; exact h4⟩) rfl (vp_in_nI (by omega) (by omega)) d (x_pt h0Ω (kk y h5))
theorem x_htelling (O : Ok G F own cc nL ret) (H : HR G κ adr pl ps B w Ω) {i : Nat} (hi : i < tn (w 5)) (d : decode cc pc = .ok (.aaload, 1)) (kk : ∀ q : Nat, κ q = some (nEnt w i) → X G F R Q nL (pc + 1) L (.ref q :: st) Ω k n) : X G F R Q nL pc L (.int (nI i) :: .ref (adr (B + 7)) :: st) Ω k n := by
  have h8 := H.1.2.2.2.2.2.1
  refine x_one (fun h0 h0Ω => ?_)
  obtain ⟨e, h1, f, h2, -, h3⟩ := H.at h0Ω 7 (Or.inl (by decide))
  obtain ⟨y, h4, h5⟩ := h3 i hi
  refine x_aaldE O 9 (N := 20) (b := y) (fun h hh => ⟨f, by rw [hh, h1, h2]; rfl, by rw [nI_clamp (by omega)]; exact h4⟩) rfl (vp_in_nI (by omega) (by omega)) d (x_pt h0Ω (kk y h5))
theorem x_hheight (O : Ok G F own cc nL ret) (H : HR G κ adr pl ps B w Ω) {i : Nat} (hi : i < 256) (d : decode cc pc = .ok (.iaload, 1)) (kk : X G F R Q nL (pc + 1) L (.int (w (13 + i)) :: st) Ω k n) : X G F R Q nL pc L (.int (nI i) :: .ref (adr (B + 1)) :: st) Ω k n := by
  refine x_ialdE O (N := 256) (fun h hh => ?_) (vp_in_nI (by omega) (by omega)) d kk
  obtain ⟨e, h1, f, h2, h3⟩ := H.at hh 1 (Or.inl (by decide))
  exact ⟨f, by rw [h1, h2], by rw [nI_clamp (by omega)]; exact h3 i hi⟩
theorem HR.pers (H : HR G κ adr pl ps B w Ω) {h : Hp} (hh : Ω h) {p q : Nat} (hp : p < tn (w 1)) (hq : q < tn (w 1)) (e : adr (B + (200 + p)) = adr (B + (200 + q))) : p = q := by
  have := (H.2 h hh).2.2 (200 + p) (200 + q) (Or.inr (Or.inr ⟨by omega, by omega⟩)) (Or.inr (Or.inr ⟨by omega, by omega⟩)) e
  omega
/-- two persons compared -/
theorem x_hpeq (O : Ok G F own cc nL ret) (H : HR G κ adr pl ps B w Ω) {p q : Nat} (hp : p < tn (w 1)) (hq : q < tn (w 1)) {off : Int} (tgt : Nat) (d : decode cc pc = .ok (.if_acmp .eq off, 3)) (ht : (pc : Int) + off = (tgt : Int)) (kt : p = q → X G F R Q nL tgt L st Ω k n) (kf : ¬ p = q → X G F R Q nL (pc + 3) L st Ω k n) : X G F R Q nL pc L (.ref (adr (B + (200 + q))) :: .ref (adr (B + (200 + p))) :: st) Ω k n :=
  fun h H0 locs ls hΩ hR hS hl => x_acmpeq O (rx := some (adr (B + (200 + p)))) (ry := some (adr (B + (200 + q)))) tgt d ht (fun e => kt (H.pers hΩ hp hq (Option.some.inj e))) (fun e => kf (fun z => e (by rw [z]))) h H0 locs ls hΩ hR hS hl
end UH
