/-! conditions: what steps mean, and that the objects answer so -/
theorem i64_of {a : Nat} (h : a < 2 ^ 31) : (nI a).toInt64 = Int64.ofNat a := by
  apply Int64.toInt_inj.mp
  rw [Int32.toInt_toInt64, nI_toInt h, Int64.toInt_ofNat_of_lt (by omega)]
theorem i64_le {a b : Nat} (ha : a < 2 ^ 62) (hb : b < 2 ^ 62) : Int64.ofNat a ≤ Int64.ofNat b ↔ a ≤ b := by
  rw [Int64.le_iff_toInt_le, Int64.toInt_ofNat_of_lt (by omega), Int64.toInt_ofNat_of_lt (by omega)]; omega
theorem i64_mul (a b : Nat) : Int64.ofNat a * Int64.ofNat b = Int64.ofNat (a * b) := (Int64.ofNat_mul a b).symm
theorem i64_add (a b : Nat) : Int64.ofNat a + Int64.ofNat b = Int64.ofNat (a + b) := (Int64.ofNat_add a b).symm
/-- one step on a stack of numbers; o: where the facts begin -/
def ev1 (φ : Nat → Int32) (o : Nat) (x : Int32 × Int32) (st : List Int32) : List Int32 :=
  if tn x.1 < 7 then φ (o + tn x.1) :: st
  else if tn x.1 = 7 then b2i (decide (1 ≤ φ 14)) :: st
  else if tn x.1 = 8 then b2i (decide (1 ≤ φ 15)) :: st
  else if tn x.1 = 9 then b2i (decide (x.2 ≤ φ 16)) :: st
  else if tn x.1 = 10 then x.2 :: st
  else if tn x.1 = 15 then (match st with
    | a :: r => (1 - a) :: r
    | r => r)
  else (match st with
    | b :: a :: r => (if tn x.1 = 12 then a + b else if tn x.1 = 11 then a * b else b2i (if tn x.1 = 13 then decide (a < b) else if tn x.1 = 14 then decide (b < a) else if tn x.1 = 16 then decide (a + b = 2) else decide (0 < a + b))) :: r
    | r => r)
def ev (φ : Nat → Int32) (o : Nat) : Sps → List Int32 → List Int32
  | [], st => st
  | x :: r, st => ev φ o r (ev1 φ o x st)
theorem ev_app {φ : Nat → Int32} {o : Nat} : ∀ (a b : Sps) (st : List Int32), ev φ o (a ++ b) st = ev φ o b (ev φ o a st)
  | [], _, _ => rfl
  | x :: r, b, st => ev_app r b (ev1 φ o x st)
def fv (φ : Nat → Int32) : Option Nat → Nat
  | none => 1
  | some k => tn (φ k)
def smV (φ : Nat → Int32) : List Pt → Nat
  | [] => 0
  | p :: r => p.1 * fv φ p.2 + smV φ r
/-- what stories and laws may ask is small -/
def fB (φ : Nat → Int32) : Prop := ∀ k, k < 14 → nn (φ k) 300
def oF (story : Bool) : Nat := if story = true then 7 else 0
theorem tn_l {j : Nat} (h : j < 100) : tn (nI j) = j := tn_nI (by omega)
theorem ev_k {φ : Nat → Int32} {o j : Nat} {n : Int32} {st : List Int32} (h : j < 7) : ev1 φ o (nI j, n) st = φ (o + j) :: st := by
  unfold ev1; rw [if_pos (by rw [tn_l (by omega)]; exact h), tn_l (by omega)]
theorem ev_10 {φ : Nat → Int32} {o : Nat} {n : Int32} {st : List Int32} : ev1 φ o (nI 10, n) st = n :: st := by
  unfold ev1; simp only [tn_l (show 10 < 100 by decide)]; rfl
theorem ev_11 {φ : Nat → Int32} {o : Nat} {n a b : Int32} {st : List Int32} : ev1 φ o (nI 11, n) (b :: a :: st) = (a * b) :: st := by
  unfold ev1; simp only [tn_l (show 11 < 100 by decide)]; rfl
theorem ev_12 {φ : Nat → Int32} {o : Nat} {n a b : Int32} {st : List Int32} : ev1 φ o (nI 12, n) (b :: a :: st) = (a + b) :: st := by
  unfold ev1; simp only [tn_l (show 12 < 100 by decide)]; rfl
theorem ev_13 {φ : Nat → Int32} {o : Nat} {n a b : Int32} {st : List Int32} : ev1 φ o (nI 13, n) (b :: a :: st) = b2i (decide (a < b)) :: st := by
  unfold ev1; simp only [tn_l (show 13 < 100 by decide)]; rfl
theorem ev_14 {φ : Nat → Int32} {o : Nat} {n a b : Int32} {st : List Int32} : ev1 φ o (nI 14, n) (b :: a :: st) = b2i (decide (b < a)) :: st := by
  unfold ev1; simp only [tn_l (show 14 < 100 by decide)]; rfl
theorem ev_15 {φ : Nat → Int32} {o : Nat} {n a : Int32} {st : List Int32} : ev1 φ o (nI 15, n) (a :: st) = (1 - a) :: st := by
  unfold ev1; simp only [tn_l (show 15 < 100 by decide)]; rfl
def comb (all a b : Bool) : Bool := if all = true then a && b else a || b
theorem ev_op {φ : Nat → Int32} {o : Nat} {n : Int32} {all a b : Bool} {st : List Int32} : ev1 φ o (opI all, n) (b2i b :: b2i a :: st) = b2i (comb all a b) :: st := by
  cases all
  · unfold ev1 opI; simp only [if_neg (show ¬ false = true by decide), tn_l (show 17 < 100 by decide)]
    cases a <;> cases b <;> rfl
  · unfold ev1 opI; simp only [if_true, tn_l (show 16 < 100 by decide)]
    cases a <;> cases b <;> rfl
theorem ev_7 {φ : Nat → Int32} {o : Nat} {n : Int32} {st : List Int32} : ev1 φ o (nI 7, n) st = b2i (decide (1 ≤ φ 14)) :: st := by
  unfold ev1; simp only [tn_l (show 7 < 100 by decide)]; rfl
theorem ev_8 {φ : Nat → Int32} {o : Nat} {n : Int32} {st : List Int32} : ev1 φ o (nI 8, n) st = b2i (decide (1 ≤ φ 15)) :: st := by
  unfold ev1; simp only [tn_l (show 8 < 100 by decide)]; rfl
theorem ev_9 {φ : Nat → Int32} {o : Nat} {n : Int32} {st : List Int32} : ev1 φ o (nI 9, n) st = b2i (decide (n ≤ φ 16)) :: st := by
  unfold ev1; simp only [tn_l (show 9 < 100 by decide)]; rfl
theorem ptK_ok {story : Bool} {k : Nat} (h : if story = true then 7 ≤ k ∧ k < 14 else k < 7) : oF story + k % 7 = k ∧ k < 14 ∧ k % 7 < 7 := by
  unfold oF
  cases story
  · simp only [if_neg (show ¬ false = true by decide)] at h ⊢; omega
  · simp only [if_true] at h ⊢; omega
theorem ev_pt {φ : Nat → Int32} {story : Bool} (hB : fB φ) {p : Pt} {s : Sps} (hp : PtS p s) (hk : ∀ k, p.2 = some k → if story = true then 7 ≤ k ∧ k < 14 else k < 7) (st : List Int32) : ev φ (oF story) s st = nI (p.1 * fv φ p.2) :: st := by
  unfold PtS at hp
  obtain ⟨c, m⟩ := p
  cases m with
  | none =>
    have hp : s = [(nI 10, nI c)] := hp
    subst hp
    show ev1 φ (oF story) (nI 10, nI c) st = _
    rw [ev_10]; show _ = nI (c * 1) :: st
    rw [Nat.mul_one]
  | some k =>
    obtain ⟨h1, h2, h3⟩ := ptK_ok (hk k rfl)
    have hf : φ k = nI (tn (φ k)) := (hB k h2).1
    rcases hp with ⟨e, hp⟩ | hp
    · have hp : s = [(nI (k % 7), nI 0)] := hp
      have e : c = 1 := e
      subst hp; subst e
      show ev1 φ (oF story) (nI (k % 7), nI 0) st = nI (1 * tn (φ k)) :: st
      rw [ev_k h3, h1, Nat.one_mul, ← hf]
    · have hp : s = [(nI 10, nI c), (nI (k % 7), nI 0), (nI 11, nI 0)] := hp
      subst hp
      show ev1 φ (oF story) (nI 11, nI 0) (ev1 φ (oF story) (nI (k % 7), nI 0) (ev1 φ (oF story) (nI 10, nI c) st)) = nI (c * tn (φ k)) :: st
      rw [ev_10, ev_k h3, ev_11, h1, hf, pk_mul, tn_nI (Nat.lt_of_le_of_lt (hB k h2).2 (by decide))]
theorem ev_smT {φ : Nat → Int32} {story : Bool} (hB : fB φ) : ∀ (ps : List Pt) (s : Sps), SmT ps s → ptOk story ps → ∀ (a : Nat) (st : List Int32), ev φ (oF story) s (nI a :: st) = nI (a + smV φ ps) :: st
  | [], s, h, _, a, st => by
    have h : s = [] := h
    subst h; rfl
  | p :: r, s, h, hk, a, st => by
    obtain ⟨s1, s2, h1, h2, rfl⟩ := h
    rw [ev_app, ev_pt hB h1 (fun k e => (hk p (List.mem_cons_self ..)).2 k e)]
    show ev φ _ s2 (ev1 φ _ (nI 12, nI 0) (nI (p.1 * fv φ p.2) :: nI a :: st)) = _
    rw [ev_12, nI_add, ev_smT hB r s2 h2 (fun q hq => hk q (List.mem_cons_of_mem _ hq))]
    show _ = nI (a + (p.1 * fv φ p.2 + smV φ r)) :: st
    rw [Nat.add_assoc]
theorem ev_sum {φ : Nat → Int32} {story : Bool} (hB : fB φ) {ps : List Pt} {s : Sps} (h : SmS ps s) (hk : ptOk story ps) (st : List Int32) : ev φ (oF story) s st = nI (smV φ ps) :: st := by
  obtain ⟨p, r, s1, s2, rfl, h1, h2, rfl⟩ := h
  rw [ev_app, ev_pt hB h1 (fun k e => (hk p (List.mem_cons_self ..)).2 k e), ev_smT hB r s2 h2 (fun q hq => hk q (List.mem_cons_of_mem _ hq))]
  rfl
theorem PtS_len {p : Pt} {s : Sps} (h : PtS p s) : 1 ≤ s.length := by
  unfold PtS at h
  obtain ⟨c, m⟩ := p
  cases m with
  | none =>
    have h : s = [(nI 10, nI c)] := h
    subst h; simp
  | some k =>
    rcases h with ⟨_, h⟩ | h
    · have h : s = [(nI (k % 7), nI 0)] := h
      subst h; simp
    · have h : s = [(nI 10, nI c), (nI (k % 7), nI 0), (nI 11, nI 0)] := h
      subst h; simp
theorem SmT_len : ∀ (ps : List Pt) (s : Sps), SmT ps s → ps.length ≤ s.length
  | [], _, _ => Nat.zero_le _
  | p :: r, s, h => by
    obtain ⟨s1, s2, h1, h2, rfl⟩ := h
    have := SmT_len r s2 h2
    simp only [List.length_append, List.length_cons]; omega
theorem SmS_len {ps : List Pt} {s : Sps} (h : SmS ps s) : ps.length ≤ s.length := by
  obtain ⟨p, r, s1, s2, rfl, h1, h2, rfl⟩ := h
  have := SmT_len r s2 h2
  have := PtS_len h1
  simp only [List.length_append, List.length_cons]; omega
theorem smV_le {φ : Nat → Int32} {story : Bool} (hB : fB φ) : ∀ (ps : List Pt), ptOk story ps → smV φ ps ≤ ps.length * 299700
  | [], _ => Nat.zero_le _
  | p :: r, hk => by
    have ih := smV_le hB r (fun q hq => hk q (List.mem_cons_of_mem _ hq))
    obtain ⟨h1, h2⟩ := hk p (List.mem_cons_self ..)
    have hf : fv φ p.2 ≤ 300 := by
      obtain ⟨c, m⟩ := p
      cases m with
      | none => show 1 ≤ 300; decide
      | some k => exact (hB k (ptK_ok (h2 k rfl)).2.1).2
    have h3 : p.1 * fv φ p.2 ≤ 999 * 300 := Nat.mul_le_mul (by omega) hf
    show p.1 * fv φ p.2 + smV φ r ≤ (r.length + 1) * 299700
    omega
/-- the object's own sum, fact by fact -/
def smA (φ : Nat → Int32) (ps : List Pt) : Nat → Nat
  | 0 => smN ps
  | i + 1 => smA φ ps i + smK i ps * tn (φ i)
def ptA (φ : Nat → Int32) (p : Pt) : Nat → Nat
  | 0 => ptN p
  | i + 1 => ptA φ p i + ptK i p * tn (φ i)
theorem smA_c {φ : Nat → Int32} {p : Pt} {r : List Pt} : ∀ i, smA φ (p :: r) i = ptA φ p i + smA φ r i
  | 0 => rfl
  | i + 1 => by
    show smA φ (p :: r) i + smK i (p :: r) * tn (φ i) = (ptA φ p i + ptK i p * tn (φ i)) + (smA φ r i + smK i r * tn (φ i))
    rw [smA_c i, show smK i (p :: r) = ptK i p + smK i r from rfl, Nat.add_mul]; omega
theorem smA_n {φ : Nat → Int32} : ∀ i, smA φ [] i = 0
  | 0 => rfl
  | i + 1 => by show smA φ [] i + 0 * _ = 0; rw [smA_n i, Nat.zero_mul]
theorem ptA_v {φ : Nat → Int32} {p : Pt} : ∀ i, ptA φ p i = if p.2 = none then p.1 else if ∃ k, p.2 = some k ∧ k < i then p.1 * fv φ p.2 else 0
  | 0 => by
    show (if p.2 = none then p.1 else 0) = _
    by_cases c : p.2 = none
    · rw [if_pos c, if_pos c]
    · rw [if_neg c, if_neg c, if_neg (fun ⟨k, _, h⟩ => absurd h (Nat.not_lt_zero k))]
  | i + 1 => by
    show ptA φ p i + ptK i p * tn (φ i) = _
    rw [ptA_v i]
    unfold ptK
    obtain ⟨c, m⟩ := p
    cases m with
    | none => simp
    | some k =>
      simp only [reduceCtorEq, if_false, Option.some.injEq]
      by_cases h : k = i
      · subst h
        rw [if_neg (by rintro ⟨j, h1, h2⟩; cases h1; omega), if_pos rfl, if_pos ⟨k, rfl, by omega⟩, Nat.zero_add]; rfl
      · rw [if_neg h, Nat.zero_mul, Nat.add_zero]
        by_cases h2 : k < i
        · rw [if_pos ⟨k, rfl, h2⟩, if_pos ⟨k, rfl, by omega⟩]
        · rw [if_neg (by rintro ⟨j, h3, h4⟩; cases h3; omega), if_neg (by rintro ⟨j, h3, h4⟩; cases h3; omega)]
theorem smA_v {φ : Nat → Int32} {story : Bool} : ∀ (ps : List Pt), ptOk story ps → smA φ ps 14 = smV φ ps
  | [], _ => smA_n 14
  | p :: r, hk => by
    rw [smA_c, smA_v r (fun q hq => hk q (List.mem_cons_of_mem _ hq)), ptA_v]
    obtain ⟨h1, h2⟩ := hk p (List.mem_cons_self ..)
    show _ = p.1 * fv φ p.2 + smV φ r
    congr 1
    obtain ⟨c, m⟩ := p
    cases m with
    | none => simp [fv]
    | some k =>
      simp only [reduceCtorEq, if_false]
      rw [if_pos ⟨k, rfl, (ptK_ok (h2 k rfl)).2.1⟩]
theorem smK_le {story : Bool} {k : Nat} : ∀ (ps : List Pt), ptOk story ps → smK k ps ≤ ps.length * 999 ∧ smN ps ≤ ps.length * 999
  | [], _ => ⟨Nat.zero_le _, Nat.zero_le _⟩
  | p :: r, hk => by
    have ih := smK_le (k := k) r (fun q hq => hk q (List.mem_cons_of_mem _ hq))
    have h1 := (hk p (List.mem_cons_self ..)).1
    show ptK k p + smK k r ≤ (r.length + 1) * 999 ∧ ptN p + smN r ≤ (r.length + 1) * 999
    unfold ptK ptN
    constructor
    · split <;> omega
    · split <;> omega
section AN
variable {G : UG} {F : UF} {R : Room} {Q : State → Prop} {nL pc k n : Nat} {L L' : List (Nat × Value)} {st rest : List Value} {Ω Ω' : Hp → Prop} {cc : ByteArray} {own : String} {ret : Option FieldType}
theorem x_astore_nN (O : Ok G F own cc nL ret) {kk0 : Fin 4} {i : Nat} {x : Option Nat} (L' : List (Nat × Value)) (d : decode cc pc = .ok (.astore_n kk0, 1)) (e : (kk0 : Nat) = i) (hn : Nat.ble (i + 1) nL = true) (g : (i, va_rf x) :: L.filter (fun q => !(q.1 == i) && !(q.1 + 1 == i && q.2.category == 2)) = L') (kk : X G F R Q nL (pc + 1) L' st Ω k n) : X G F R Q nL pc L (va_rf x :: st) Ω k n := by
  intro h H locs ls hΩ hR hS hl
  cases x with
  | none => exact lv_astore_nN O.x O.b d e hl (Nat.le_of_ble_eq_true hn) g (fun ls' hl' => kk h H locs ls' hΩ hR hS hl')
  | some x => exact lv_astore_n O.x O.b d e hl (Nat.le_of_ble_eq_true hn) g (fun ls' hl' => kk h H locs ls' hΩ hR hS hl')
theorem x_astoreN (O : Ok G F own cc nL ret) {i : Nat} {x : Option Nat} (L' : List (Nat × Value)) (d : decode cc pc = .ok (.astore i, 2)) (hn : Nat.ble (i + 1) nL = true) (g : (i, va_rf x) :: L.filter (fun q => !(q.1 == i) && !(q.1 + 1 == i && q.2.category == 2)) = L') (kk : X G F R Q nL (pc + 2) L' st Ω k n) : X G F R Q nL pc L (va_rf x :: st) Ω k n := by
  intro h H locs ls hΩ hR hS hl
  cases x with
  | none => exact lv_astoreN O.x O.b d hl (Nat.le_of_ble_eq_true hn) g (fun ls' hl' => kk h H locs ls' hΩ hR hS hl')
  | some x => exact lv_astore O.x O.b d hl (Nat.le_of_ble_eq_true hn) g (fun ls' hl' => kk h H locs ls' hΩ hR hS hl')
end AN
section CO
variable {G : UG} {Ω : Hp → Prop} {κ : Hp} {φ : Nat → Int32} {fa : Nat}
theorem x_lretQ {F : UF} {R : Room} {Q : State → Prop} {nL pc : Nat} {L : List (Nat × Value)} {cc : ByteArray} {own : String} {ret : Option FieldType} (O : Ok G F own cc nL ret) {P : Option Value → Hp → Prop} {PX : String → Nat → Hp → Prop} {mc ms : Nat} {v : Int64} (hQ : Q = CQ G F P PX mc ms) (hr : ret = some .long) (d : decode cc pc = .ok (.lreturn, 1)) (hp : ∀ h, Ω h → P (some (.long v)) h) : X G F R Q nL pc L [.long v] Ω mc ms := by
  subst hQ
  intro h H locs ls hΩ hR hS hl
  exact vx_ret (W.lret O.x O.b (O.r.trans hr) (fun t ht hW => ⟨_, h, rfl, hp h hΩ, by rw [ht]; exact hR, hS.F ht⟩) hS.2.2 d O.lk)
/-- a sum of facts -/
theorem c_x_sum {story : Bool} (hκ : ∀ h, Ω h → sub κ h) (hφ : ∀ h, Ω h → h fa = some (.inl (uI G 0, 17, .inl φ))) (hB : fB φ) {a : Nat} {ps : List Pt} (hs : SumObj G κ a ps) (hk : ptOk story ps) (hl : ps.length ≤ 400) : Con G yX10_of cX10_of 5 (some .long) 0 0 0 0 [.ref a, .ref fa] Ω (fun vr_ h' => vr_ = some (.long (Int64.ofNat (smV φ ps))) ∧ Ω h') nX := by
  refine con_of2 (plainFor_of_name (by decide)) rfl ?_
  intro F R Q RF RL RC RS hQ O hnh hnm
  obtain ⟨q, f, h1, h2, h3⟩ := hs
  have hb := smK_le (k := 0) ps hk
  refine x_eq (L' := [(0, .ref a), (1, .ref fa)]) ?_ rfl rfl rfl
  refine x_aload_n O 0 dX10_of_0 rfl rfl ?_
  refine x_get O k_X10_15_10 (fun h m => hκ h m _ _ h1) (v := .int (nI (smN ps))) rfl dX10_of_1 ?_
  refine x_i2l O dX10_of_4 ?_
  rw [i64_of (by omega)]
  refine x_lstore_n O [(2, .long (Int64.ofNat (smN ps))), (0, .ref a), (1, .ref fa)] dX10_of_5 rfl rfl rfl ?_
  refine x_iconst O (nI 0) dX10_of_6 (by decide) ?_
  refine x_istore O [(4, .int (nI 0)), (2, .long (Int64.ofNat (smN ps))), (0, .ref a), (1, .ref fa)] dX10_of_7 rfl rfl ?_
  have LP : ∀ c i : Nat, i + c = 14 → X G F R Q 5 9 [(4, .int (nI i)), (2, .long (Int64.ofNat (smA φ ps i))), (0, .ref a), (1, .ref fa)] [] Ω 0 0 := by
    intro c
    induction c with
    | zero =>
      intro i hi
      refine x_iload O 0 dX10_of_9 rfl ?_
      refine x_bipush O (nI 14) dX10_of_11 (by decide) ?_
      refine x_icmpgeN O 39 (by omega) (by omega) dX10_of_13 (by decide) (fun _ => ?_) (fun e => absurd (by omega) e)
      refine x_lload_n O 1 dX10_of_39 rfl rfl ?_
      obtain rfl : i = 14 := by omega
      exact x_lretQ O hQ rfl dX10_of_40 (fun h m => ⟨by rw [smA_v ps hk], m⟩)
    | succ c ih =>
      intro i hi
      have hb := smK_le (k := i) ps hk
      refine x_iload O 0 dX10_of_9 rfl ?_
      refine x_bipush O (nI 14) dX10_of_11 (by decide) ?_
      refine x_icmpgeN O 39 (by omega) (by omega) dX10_of_13 (by decide) (fun e => absurd e (by omega)) (fun _ => ?_)
      refine x_lload_n O 1 dX10_of_16 rfl rfl ?_
      refine x_aload_n O 2 dX10_of_17 rfl rfl ?_
      refine x_get O k_X10_9_10 (fun h m => hκ h m _ _ h1) (v := .ref q) rfl dX10_of_18 ?_
      refine x_iload O 0 dX10_of_21 rfl ?_
      refine x_ialdN O (fun h m => hκ h m _ _ h2) (by omega) rfl dX10_of_23 ?_
      refine x_top (v' := nI (smK i ps)) (h3 i (by omega)) ?_
      refine x_i2l O dX10_of_24 ?_
      rw [i64_of (by omega)]
      refine x_aload_n O 3 dX10_of_25 rfl rfl ?_
      refine x_iload O 0 dX10_of_26 rfl ?_
      refine x_ialdN O hφ (by omega) rfl dX10_of_28 ?_
      refine x_top (v' := nI (tn (φ i))) (hB i (by omega)).1 ?_
      refine x_i2l O dX10_of_29 ?_
      rw [i64_of (Nat.lt_of_le_of_lt (hB i (by omega)).2 (by decide))]
      refine x_lmul O dX10_of_30 ?_
      rw [i64_mul]
      refine x_ladd O dX10_of_31 ?_
      rw [i64_add]
      refine x_lstore_n O [(2, .long (Int64.ofNat (smA φ ps (i + 1)))), (4, .int (nI i)), (0, .ref a), (1, .ref fa)] dX10_of_32 rfl rfl rfl ?_
      refine x_iincN O 1 [(4, .int (nI (i + 1))), (2, .long (Int64.ofNat (smA φ ps (i + 1)))), (0, .ref a), (1, .ref fa)] dX10_of_33 rfl rfl rfl ?_
      refine x_goto O 9 dX10_of_36 (by decide) ?_
      exact ih (i + 1) (by omega)
  exact LP 14 0 (by omega)
/-- what a condition's steps answer -/
def hv (φ : Nat → Int32) (o : Nat) (s : Sps) : Bool := decide (ev φ o s [] = [b2i true])
theorem hv_of {o : Nat} {s : Sps} {b : Bool} (h : ∀ st, ev φ o s st = b2i b :: st) : hv φ o s = b := by
  unfold hv; rw [h]; cases b <;> decide
def PB (Ω : Hp → Prop) (b : Bool) : Option Value → Hp → Prop := fun vr_ h' => vr_ = some (.int (b2i b)) ∧ Ω h'
/-- the object at c is a condition, and answers b -/
def HC (G : UG) (Ω : Hp → Prop) (fa n c : Nat) (b : Bool) : Prop :=
  ((∀ h, Ω h → ∃ fs : List Value, h c = some (.inr (10, fs))) ∧ Con G yX11_holds cX11_holds 2 (some .boolean) (2 * n) (40 * n) 0 0 [.ref c, .ref fa] Ω (PB Ω b) nX) ∨
  ((∀ h, Ω h → ∃ fs : List Value, h c = some (.inr (8, fs))) ∧ Con G yX9_holds cX9_holds 2 (some .boolean) (2 * n) (40 * n) 0 0 [.ref c, .ref fa] Ω (PB Ω b) nX) ∨
  ((∀ h, Ω h → ∃ fs : List Value, h c = some (.inr (11, fs))) ∧ Con G yX12_holds cX12_holds 2 (some .boolean) (2 * n) (40 * n) 0 0 [.ref c, .ref fa] Ω (PB Ω b) nX) ∨
  ((∀ h, Ω h → ∃ fs : List Value, h c = some (.inr (7, fs))) ∧ Con G yX8_holds cX8_holds 3 (some .boolean) (2 * n) (40 * n) 0 0 [.ref c, .ref fa] Ω (PB Ω b) nX)
section HCr
variable {F : UF} {R : Room} {Q : State → Prop} {nL pc k n : Nat} {L L' : List (Nat × Value)} {st rest : List Value} {cc : ByteArray} {own : String} {ret : Option FieldType}
/-- a condition asked -/
theorem x_holds (O : Ok G F own cc nL ret) {index count m c : Nat} {b : Bool} (hc : HC G Ω fa m c b) (hl : Cond.methodLink own index ⟨"GrassField$Cond", "holds", "([I)Z"⟩ ∈ lw_all) (hR0 : 2 * m + 1 ≤ R.frames) (hR1 : 40 * m + 22 ≤ R.locals) (hcs : k ≤ R.cells ∧ n ≤ R.slots) (hrm : Nat.ble (rest.map fun v => v.category).sum 8 = true) (d : decode cc pc = .ok (.invokeinterface index count, 5))
    (kk : X G F R Q nL (pc + 5) L (.int (b2i b) :: rest) Ω k n) : X G F R Q nL pc L (.ref fa :: .ref c :: rest) Ω k n := by
  have r0 : Nat.ble (2 * m + 1) R.frames = true := Nat.ble_eq_true_of_le hR0
  have r2 : Nat.ble (8 + (2 + 11) + 40 * m) R.locals = true := Nat.ble_eq_true_of_le (by omega)
  have r3 : Nat.ble (8 + (3 + 11) + 40 * m) R.locals = true := Nat.ble_eq_true_of_le (by omega)
  rcases hc with ⟨ha, con⟩ | ⟨ha, con⟩ | ⟨ha, con⟩ | ⟨ha, con⟩
  · exact x_face O 1 con ha rfl (by decide) hl q1154 q1156 q125 q1158 (by unfold HD; decide +kernel) rfl r0 r2 hcs rfl hrm d (x_kn kk)
  · exact x_face O 1 con ha rfl (by decide) hl q1172 q1174 q123 q1176 (by unfold HD; decide +kernel) rfl r0 r2 hcs rfl hrm d (x_kn kk)
  · exact x_face O 1 con ha rfl (by decide) hl q1164 q1166 q126 q1168 (by unfold HD; decide +kernel) rfl r0 r2 hcs rfl hrm d (x_kn kk)
  · exact x_face O 1 con ha rfl (by decide) hl q1146 q1148 q122 q1150 (by unfold HD; decide +kernel) rfl r0 r3 hcs rfl hrm d (x_kn kk)
end HCr
theorem bnot_i (b : Bool) : (1 : Int32) - b2i b = b2i (!b) := by cases b <;> rfl
theorem comb_u (all a : Bool) : comb all a all = a := by cases all <;> cases a <;> rfl
theorem comb_a (all a b c : Bool) : comb all (comb all a b) c = comb all a (comb all b c) := by cases all <;> cases a <;> cases b <;> cases c <;> rfl
/-- a chain's answer -/
def chV (φ : Nat → Int32) (o : Nat) (all : Bool) : Chs → Bool
  | [] => all
  | x :: r => comb all (hv φ o x.2.2) (chV φ o all r)
theorem b2i_inj {a b : Bool} (h : b2i a = b2i b) : a = b := by cases a <;> cases b <;> first | rfl | exact absurd h (by decide)
theorem comb_l (all a : Bool) : comb all all a = a := by cases all <;> cases a <;> rfl
theorem ch_no {o : Nat} {all : Bool} {y : Nat × Nat × Sps} {r : Chs} (h : ¬ b2i (hv φ o y.2.2) = b2i all) : chV φ o all (y :: r) = !all := by
  show comb all (hv φ o y.2.2) _ = _
  have : hv φ o y.2.2 = !all := by
    cases hq : hv φ o y.2.2 <;> cases all <;> first | rfl | exact absurd (by rw [hq]) h
  rw [this]; cases all <;> rfl
theorem ev_ch {o : Nat} {all : Bool} : ∀ (r : Chs), (∀ y, y ∈ r → ∀ st, ev φ o y.2.2 st = b2i (hv φ o y.2.2) :: st) → ∀ (acc : Bool) (st : List Int32), ev φ o (chT all r) (b2i acc :: st) = b2i (comb all acc (chV φ o all r)) :: st
  | [], _, acc, st => by show b2i acc :: st = b2i (comb all acc all) :: st; rw [comb_u]
  | x :: r, h, acc, st => by
    show ev φ o (x.2.2 ++ (opI all, nI 0) :: chT all r) _ = _
    rw [ev_app, h x (List.mem_cons_self ..)]
    show ev φ o (chT all r) (ev1 φ o (opI all, nI 0) (b2i (hv φ o x.2.2) :: b2i acc :: st)) = _
    rw [ev_op, ev_ch r (fun y hy => h y (List.mem_cons_of_mem _ hy)), comb_a]; rfl
theorem chT_len {all : Bool} : ∀ (r : Chs) (y), y ∈ r → y.2.2.length ≤ (chT all r).length
  | x :: r, y, h => by
    show _ ≤ (x.2.2 ++ (opI all, nI 0) :: chT all r).length
    rw [List.length_append, List.length_cons]
    rcases List.mem_cons.mp h with e | e
    · rw [e]; omega
    · have := chT_len (all := all) r y e; omega
theorem co_ok {story : Bool} (hκ : ∀ h, Ω h → sub κ h) (hφ : ∀ h, Ω h → h fa = some (.inl (uI G 0, 17, .inl φ))) (hB : fB φ) : ∀ (n c : Nat) (s : Sps), CoN G κ story n c s → s.length ≤ 400 → (∀ st, ev φ (oF story) s st = b2i (hv φ (oF story) s) :: st) ∧ HC G Ω fa n c (hv φ (oF story) s)
  | 0, _, _, h, _ => h.elim
  | n + 1, c, s, h, hl => by
    have ih := co_ok (story := story) hκ hφ hB n
    rcases h with ⟨less, la, lb, a, b, sa, sb, h1, h2, h3, h4, h5, h6, h7, rfl⟩ | ⟨k, m, h1, h2, h3⟩ | ⟨d, st, h1, h2, rfl⟩ | ⟨all, x, r, rfl, h1, h2, rfl⟩
    · have hla : a.length ≤ 400 := by have := SmS_len h4; simp only [List.length_append, List.length_cons] at hl; omega
      have hlb : b.length ≤ 400 := by have := SmS_len h5; simp only [List.length_append, List.length_cons] at hl; omega
      have va := smV_le hB a h6
      have vb := smV_le hB b h7
      have e : ∀ st, ev φ (oF story) (sa ++ sb ++ [(nI (if less = true then 13 else 14), nI 0)]) st = b2i (decide ((if less = true then smV φ a else smV φ b) < (if less = true then smV φ b else smV φ a))) :: st := by
        intro st
        rw [ev_app, ev_app, ev_sum hB h4 h6, ev_sum hB h5 h7]
        show ev1 φ _ _ _ = _
        cases less
        · simp only [if_neg (show ¬ false = true by decide)]
          rw [ev_14]
          congr 2; exact decide_eq_decide.mpr (nI_ltI (by omega) (by omega))
        · simp only [if_true]
          rw [ev_13]
          congr 2; exact decide_eq_decide.mpr (nI_ltI (by omega) (by omega))
      rw [hv_of e]
      refine ⟨e, Or.inl ⟨fun h m => ⟨_, hκ h m _ _ h1⟩, ?_⟩⟩
      obtain ⟨xs, hxs⟩ : ∃ z, z = (if less = true then a else b) := ⟨_, rfl⟩
      obtain ⟨ys, hys⟩ : ∃ z, z = (if less = true then b else a) := ⟨_, rfl⟩
      obtain ⟨lx, hlx⟩ : ∃ z, z = (if less = true then la else lb) := ⟨_, rfl⟩
      obtain ⟨ly, hly⟩ : ∃ z, z = (if less = true then lb else la) := ⟨_, rfl⟩
      have o1 : SumObj G κ lx xs := by rw [hlx, hxs]; cases less <;> assumption
      have o2 : SumObj G κ ly ys := by rw [hly, hys]; cases less <;> assumption
      have p1 : ptOk story xs := by rw [hxs]; cases less <;> assumption
      have p2 : ptOk story ys := by rw [hys]; cases less <;> assumption
      have l1 : xs.length ≤ 400 := by rw [hxs]; cases less <;> assumption
      have l2 : ys.length ≤ 400 := by rw [hys]; cases less <;> assumption
      have e1 : (if less = true then smV φ a else smV φ b) = smV φ xs := by rw [hxs]; cases less <;> rfl
      have e2 : (if less = true then smV φ b else smV φ a) = smV φ ys := by rw [hys]; cases less <;> rfl
      have v1 := smV_le hB xs p1
      have v2 := smV_le hB ys p2
      rw [e1, e2]
      rw [← hlx, ← hly] at h1
      obtain ⟨qx, fx, z1, zx⟩ := id o1
      obtain ⟨qy, fy, z2, zy⟩ := id o2
      refine con_of2 (plainFor_of_name (by decide)) rfl ?_
      intro F R Q RF RL RC RS hQ O hnh hnm
      have r0 : Nat.ble (0 + 1) R.frames = true := Nat.ble_eq_true_of_le (by omega)
      have r1 : Nat.ble (8 + (5 + 11) + 0) R.locals = true := Nat.ble_eq_true_of_le (by omega)
      refine x_eq (L' := [(0, .ref c), (1, .ref fa)]) ?_ rfl rfl rfl
      refine x_aload_n O 0 dX11_holds_0 rfl rfl ?_
      refine x_get O k_X11_7_11 (fun h m => hκ h m _ _ h1) (v := .ref lx) rfl dX11_holds_1 ?_
      refine x_aload_n O 1 dX11_holds_4 rfl rfl ?_
      refine x_cV O 1 (c_x_sum hκ hφ hB o1 p1 l1) (fun h m => hκ h m _ _ z1) rfl (lw_V q1159 q1160 q1161 q124 q1162) rfl (by unfold HD; decide +kernel) rfl r0 r1 ⟨Nat.zero_le _, Nat.zero_le _⟩ rfl rfl dX11_holds_5 ?_
      refine x_aload_n O 0 dX11_holds_8 rfl rfl ?_
      refine x_get O k_X11_13_11 (fun h m => hκ h m _ _ h1) (v := .ref ly) rfl dX11_holds_9 ?_
      refine x_aload_n O 1 dX11_holds_12 rfl rfl ?_
      refine x_cV O 1 (c_x_sum hκ hφ hB o2 p2 l2) (fun h m => hκ h m _ _ z2) rfl (lw_V q1159 q1160 q1161 q124 q1162) rfl (by unfold HD; decide +kernel) rfl r0 r1 ⟨Nat.zero_le _, Nat.zero_le _⟩ rfl rfl dX11_holds_13 ?_
      refine x_lcmp O dX11_holds_16 ?_
      have hlt : (0 ≤ lg_cmp (Int64.ofNat (smV φ xs)) (Int64.ofNat (smV φ ys))) ↔ smV φ ys ≤ smV φ xs := by rw [lg_cmp_ge, i64_le (by omega) (by omega)]
      refine x_ifge O 24 dX11_holds_17 (by decide) (fun g => ?_) (fun g => ?_)
      · refine x_iconst O (nI 0) dX11_holds_24 (by decide) ?_
        refine x_top (v' := b2i false) (by decide) ?_
        exact x_zretQ O hQ rfl dX11_holds_25 (fun h m => ⟨by rw [decide_eq_false (by have := hlt.mp g; omega)], m⟩)
      · refine x_iconst O (nI 1) dX11_holds_20 (by decide) ?_
        refine x_goto O 25 dX11_holds_21 (by decide) ?_
        refine x_top (v' := b2i true) (by decide) ?_
        exact x_zretQ O hQ rfl dX11_holds_25 (fun h m => ⟨by rw [decide_eq_true (by have g' : ¬ smV φ ys ≤ smV φ xs := fun z => g (hlt.mpr z); omega)], m⟩)
    · have e : ∀ st, ev φ (oF story) s st = b2i (decide (nI m ≤ φ k)) :: st := by
        intro st
        rcases h3 with ⟨_, rfl, rfl, rfl⟩ | ⟨_, rfl, rfl, rfl⟩ | ⟨_, rfl, rfl⟩
        · show ev1 φ (oF story) (nI 7, nI 0) st = _
          rw [ev_7]; rfl
        · show ev1 φ (oF story) (nI 8, nI 0) st = _
          rw [ev_8]; rfl
        · show ev1 φ (oF story) (nI 9, nI m) st = _
          rw [ev_9]
      have hk : k < 17 := by rcases h3 with ⟨_, rfl, _⟩ | ⟨_, rfl, _⟩ | ⟨_, rfl, _⟩ <;> decide
      rw [hv_of e]
      refine ⟨e, Or.inr (Or.inl ⟨fun h m => ⟨_, hκ h m _ _ h1⟩, ?_⟩)⟩
      refine con_of2 (plainFor_of_name (by decide)) rfl ?_
      intro F R Q RF RL RC RS hQ O hnh hnm
      refine x_eq (L' := [(0, .ref c), (1, .ref fa)]) ?_ rfl rfl rfl
      refine x_aload_n O 1 dX9_holds_0 rfl rfl ?_
      refine x_aload_n O 0 dX9_holds_1 rfl rfl ?_
      refine x_get O k_X9_7_9 (fun h m => hκ h m _ _ h1) (v := .int (nI k)) rfl dX9_holds_2 ?_
      refine x_ialdN O hφ hk rfl dX9_holds_5 ?_
      refine x_aload_n O 0 dX9_holds_6 rfl rfl ?_
      refine x_get O k_X9_13_9 (fun h m => hκ h m _ _ h1) (v := .int (nI m)) rfl dX9_holds_7 ?_
      refine x_icmplt O 17 dX9_holds_10 (by decide) (fun g => ?_) (fun g => ?_)
      · refine x_iconst O (nI 0) dX9_holds_17 (by decide) ?_
        refine x_top (v' := b2i false) (by decide) ?_
        exact x_zretQ O hQ rfl dX9_holds_18 (fun h m => ⟨by rw [decide_eq_false (Int32.not_le.mpr g)], m⟩)
      · refine x_iconst O (nI 1) dX9_holds_13 (by decide) ?_
        refine x_goto O 18 dX9_holds_14 (by decide) ?_
        refine x_top (v' := b2i true) (by decide) ?_
        exact x_zretQ O hQ rfl dX9_holds_18 (fun h m => ⟨by rw [decide_eq_true (Int32.not_lt.mp g)], m⟩)
    · have hl2 : st.length ≤ 400 := by simp only [List.length_append, List.length_cons] at hl; omega
      obtain ⟨e0, hc⟩ := ih d st h2 hl2
      have e : ∀ s0, ev φ (oF story) (st ++ [(nI 15, nI 0)]) s0 = b2i (!hv φ (oF story) st) :: s0 := by
        intro s0
        rw [ev_app, e0]
        show ev1 φ (oF story) (nI 15, nI 0) (_ :: s0) = _
        rw [ev_15, bnot_i]
      rw [hv_of e]
      refine ⟨e, Or.inr (Or.inr (Or.inl ⟨fun h m => ⟨_, hκ h m _ _ h1⟩, ?_⟩))⟩
      refine con_of2 (plainFor_of_name (by decide)) rfl ?_
      intro F R Q RF RL RC RS hQ O hnh hnm
      refine x_eq (L' := [(0, .ref c), (1, .ref fa)]) ?_ rfl rfl rfl
      refine x_aload_n O 0 dX12_holds_0 rfl rfl ?_
      refine x_get O k_X12_7_12 (fun h m => hκ h m _ _ h1) (v := .ref d) rfl dX12_holds_1 ?_
      refine x_aload_n O 1 dX12_holds_4 rfl rfl ?_
      refine x_holds O hc q1170 (by omega) (by omega) ⟨Nat.zero_le _, Nat.zero_le _⟩ rfl dX12_holds_5 ?_
      refine x_ifneB O 17 dX12_holds_10 (by decide) (fun g => ?_) (fun g => ?_)
      · refine x_iconst O (nI 0) dX12_holds_17 (by decide) ?_
        refine x_top (v' := b2i false) (by decide) ?_
        exact x_zretQ O hQ rfl dX12_holds_18 (fun h m => ⟨by rw [g]; rfl, m⟩)
      · refine x_iconst O (nI 1) dX12_holds_13 (by decide) ?_
        refine x_goto O 18 dX12_holds_14 (by decide) ?_
        refine x_top (v' := b2i true) (by decide) ?_
        exact x_zretQ O hQ rfl dX12_holds_18 (fun h m => ⟨by rw [bfalse g]; rfl, m⟩)
    · have hlx : ∀ y, y ∈ x :: r → y.2.2.length ≤ 400 := by
        intro y hy
        rw [List.length_append] at hl
        rcases List.mem_cons.mp hy with e | e
        · rw [e]; omega
        · have := chT_len (all := all) r y e; omega
      have hy := fun y (hy : y ∈ x :: r) => ih y.2.1 y.2.2 (h2 y hy) (hlx y hy)
      have e : ∀ s0, ev φ (oF story) (x.2.2 ++ chT all r) s0 = b2i (chV φ (oF story) all (x :: r)) :: s0 := by
        intro s0
        rw [ev_app, (hy x (List.mem_cons_self ..)).1, ev_ch r (fun y h => (hy y (List.mem_cons_of_mem _ h)).1)]; rfl
      rw [hv_of e]
      have hf0 : ∃ nx : Value, ∃ d0 : Nat, κ x.1 = some (.inr (7, [.ref d0, .int (b2i all), nx])) := by
        cases r with
        | nil => exact ⟨_, _, h1⟩
        | cons y r => exact ⟨_, _, h1.1⟩
      obtain ⟨nx, d0, hf0⟩ := hf0
      refine ⟨e, Or.inr (Or.inr (Or.inr ⟨fun h m => ⟨_, hκ h m _ _ hf0⟩, ?_⟩))⟩
      refine con_of2 (plainFor_of_name (by decide)) rfl ?_
      intro F R Q RF RL RC RS hQ O hnh hnm
      refine x_eq (L' := [(0, .ref x.1), (1, .ref fa)]) ?_ rfl rfl rfl
      refine x_aload_n O 0 dX8_holds_0 rfl rfl ?_
      refine x_astore_n O [(2, .ref x.1), (0, .ref x.1), (1, .ref fa)] dX8_holds_1 rfl rfl rfl ?_
      have LP : ∀ (r1 : Chs) (y : Nat × Nat × Sps), chAt κ all (y :: r1) → (∀ z, z ∈ y :: r1 → HC G Ω fa n z.2.1 (hv φ (oF story) z.2.2)) → (chV φ (oF story) all (y :: r1) = chV φ (oF story) all (x :: r)) → X G F R Q 3 2 [(2, .ref y.1), (0, .ref x.1), (1, .ref fa)] [] Ω 0 0 := by
        intro r1
        induction r1 with
        | nil =>
          intro y g1 g2 g3
          have g1 : κ y.1 = some (.inr (7, [.ref y.2.1, .int (b2i all), .null])) := g1
          refine x_aload_n O 0 dX8_holds_2 rfl rfl ?_
          refine x_ifnull O dX8_holds_3 ?_
          refine x_aload_n O 0 dX8_holds_6 rfl rfl ?_
          refine x_get O k_X8_7_8 (fun h m => hκ h m _ _ g1) (v := .ref y.2.1) rfl dX8_holds_7 ?_
          refine x_aload_n O 2 dX8_holds_10 rfl rfl ?_
          refine x_holds O (g2 y (List.mem_cons_self ..)) q1152 (by omega) (by omega) ⟨Nat.zero_le _, Nat.zero_le _⟩ rfl dX8_holds_11 ?_
          refine x_aload_n O 1 dX8_holds_16 rfl rfl ?_
          refine x_get O k_X8_13_8 (fun h m => hκ h m _ _ hf0) (v := .int (b2i all)) rfl dX8_holds_17 ?_
          refine x_icmpeq O 36 dX8_holds_20 (by decide) (fun c => ?_) (fun c => ?_)
          · refine x_aload_n O 0 dX8_holds_36 rfl rfl ?_
            refine x_get O k_X8_23_8 (fun h m => hκ h m _ _ g1) (v := .null) rfl dX8_holds_37 ?_
            refine x_astore_nN O (x := none) [(2, va_rf none), (0, .ref x.1), (1, .ref fa)] dX8_holds_40 rfl rfl rfl ?_
            refine x_goto O 2 dX8_holds_41 (by decide) ?_
            refine x_aload_nN O 0 (x := none) dX8_holds_2 rfl rfl ?_
            refine x_ifnullY O 44 dX8_holds_3 (by decide) ?_
            refine x_aload_n O 1 dX8_holds_44 rfl rfl ?_
            refine x_get O k_X8_13_8 (fun h m => hκ h m _ _ hf0) (v := .int (b2i all)) rfl dX8_holds_45 ?_
            refine x_zretQ O hQ rfl dX8_holds_48 (fun h m => ⟨?_, m⟩)
            rw [← g3, show chV φ (oF story) all [y] = comb all (hv φ (oF story) y.2.2) all from rfl, comb_u, b2i_inj c]
          · refine x_aload_n O 1 dX8_holds_23 rfl rfl ?_
            refine x_get O k_X8_13_8 (fun h m => hκ h m _ _ hf0) (v := .int (b2i all)) rfl dX8_holds_24 ?_
            refine x_ifneB O 34 dX8_holds_27 (by decide) (fun g => ?_) (fun g => ?_)
            · refine x_iconst O (nI 0) dX8_holds_34 (by decide) ?_
              refine x_top (v' := b2i false) (by decide) ?_
              exact x_zretQ O hQ rfl dX8_holds_35 (fun h m => ⟨by rw [← g3, ch_no c, g]; rfl, m⟩)
            · refine x_iconst O (nI 1) dX8_holds_30 (by decide) ?_
              refine x_goto O 35 dX8_holds_31 (by decide) ?_
              refine x_top (v' := b2i true) (by decide) ?_
              exact x_zretQ O hQ rfl dX8_holds_35 (fun h m => ⟨by rw [← g3, ch_no c, bfalse g]; rfl, m⟩)
        | cons y2 r2 ih2 =>
          intro y g1 g2 g3
          have g0 : κ y.1 = some (.inr (7, [.ref y.2.1, .int (b2i all), .ref y2.1])) := g1.1
          refine x_aload_n O 0 dX8_holds_2 rfl rfl ?_
          refine x_ifnull O dX8_holds_3 ?_
          refine x_aload_n O 0 dX8_holds_6 rfl rfl ?_
          refine x_get O k_X8_7_8 (fun h m => hκ h m _ _ g0) (v := .ref y.2.1) rfl dX8_holds_7 ?_
          refine x_aload_n O 2 dX8_holds_10 rfl rfl ?_
          refine x_holds O (g2 y (List.mem_cons_self ..)) q1152 (by omega) (by omega) ⟨Nat.zero_le _, Nat.zero_le _⟩ rfl dX8_holds_11 ?_
          refine x_aload_n O 1 dX8_holds_16 rfl rfl ?_
          refine x_get O k_X8_13_8 (fun h m => hκ h m _ _ hf0) (v := .int (b2i all)) rfl dX8_holds_17 ?_
          refine x_icmpeq O 36 dX8_holds_20 (by decide) (fun c => ?_) (fun c => ?_)
          · refine x_aload_n O 0 dX8_holds_36 rfl rfl ?_
            refine x_get O k_X8_23_8 (fun h m => hκ h m _ _ g0) (v := .ref y2.1) rfl dX8_holds_37 ?_
            refine x_astore_n O [(2, .ref y2.1), (0, .ref x.1), (1, .ref fa)] dX8_holds_40 rfl rfl rfl ?_
            refine x_goto O 2 dX8_holds_41 (by decide) ?_
            refine ih2 y2 g1.2 (fun z hz => g2 z (List.mem_cons_of_mem _ hz)) ?_
            rw [← g3, show chV φ (oF story) all (y :: y2 :: r2) = comb all (hv φ (oF story) y.2.2) (chV φ (oF story) all (y2 :: r2)) from rfl, b2i_inj c]
            exact (comb_l _ _).symm
          · refine x_aload_n O 1 dX8_holds_23 rfl rfl ?_
            refine x_get O k_X8_13_8 (fun h m => hκ h m _ _ hf0) (v := .int (b2i all)) rfl dX8_holds_24 ?_
            refine x_ifneB O 34 dX8_holds_27 (by decide) (fun g => ?_) (fun g => ?_)
            · refine x_iconst O (nI 0) dX8_holds_34 (by decide) ?_
              refine x_top (v' := b2i false) (by decide) ?_
              exact x_zretQ O hQ rfl dX8_holds_35 (fun h m => ⟨by rw [← g3, ch_no c, g]; rfl, m⟩)
            · refine x_iconst O (nI 1) dX8_holds_30 (by decide) ?_
              refine x_goto O 35 dX8_holds_31 (by decide) ?_
              refine x_top (v' := b2i true) (by decide) ?_
              exact x_zretQ O hQ rfl dX8_holds_35 (fun h m => ⟨by rw [← g3, ch_no c, bfalse g]; rfl, m⟩)
      exact LP r x h1 (fun z hz => (hy z hz).2) rfl
end CO
