/-! contracts weakened; what the component throws, as numbers: 1 IndexOutOfBounds, 2 IllegalArgument, 3 UnsupportedOperation, 4 NoSuchElement -/
theorem con_mono {G : UG} {y : MethodName} {code : ByteArray} {maxL : Nat} {ret : Option FieldType} {fr lo mc ms : Nat} {av : List Value} {Ω Ω' : Hp → Prop} {P P' : Option Value → Hp → Prop} {PX PX' : String → Nat → Hp → Prop} (c : Con G y code maxL ret fr lo mc ms av Ω P PX) (hΩ : ∀ h, Ω' h → Ω h) (hP : ∀ v h, P v h → P' v h) (hX : ∀ E q h, PX E q h → PX' E q h) : Con G y code maxL ret fr lo mc ms av Ω' P' PX' := by
  intro p e a1 a2 a3 s m args below hf hs hPc hK
  obtain ⟨z, ⟨h, k1, k2⟩, k3⟩ := hPc
  obtain ⟨n, o, h1, h2, h3, h4⟩ := c p e a1 a2 a3 s m args below hf hs ⟨z, ⟨h, hΩ h k1, k2⟩, k3⟩ hK
  refine ⟨n, o, h1, h2, h3, ?_⟩
  rcases h4 with ⟨h5, h6⟩ | ⟨q, h5, E, ce, L, h6, h7⟩
  · obtain ⟨v, h', e1, e2, e3⟩ := h5
    exact Or.inl ⟨⟨v, h', e1, hP v h' e2, e3⟩, h6⟩
  · obtain ⟨h', e2, e3⟩ := h6
    exact Or.inr ⟨q, h5, E, ce, L, ⟨h', hX E q h' e2, e3⟩, h7⟩
theorem con_ex {α : Type} {G : UG} {y : MethodName} {code : ByteArray} {maxL : Nat} {ret : Option FieldType} {fr lo mc ms : Nat} {av : List Value} {Ω : α → Hp → Prop} {P : Option Value → Hp → Prop} {PX : String → Nat → Hp → Prop} (c : ∀ x, Con G y code maxL ret fr lo mc ms av (Ω x) P PX) : Con G y code maxL ret fr lo mc ms av (fun h => ∃ x, Ω x h) P PX := by
  intro p e a1 a2 a3 s m args below hf hs hPc hK
  obtain ⟨z, ⟨h, ⟨x, k1⟩, k2⟩, k3⟩ := hPc
  exact c x p e a1 a2 a3 s m args below hf hs ⟨z, ⟨h, k1, k2⟩, k3⟩ hK
/-- a contract may be shown for each heap that it starts from -/
theorem con_any {G : UG} {y : MethodName} {code : ByteArray} {maxL : Nat} {ret : Option FieldType} {fr lo mc ms : Nat} {av : List Value} {Ω : Hp → Prop} {P : Option Value → Hp → Prop} {PX : String → Nat → Hp → Prop} (c : ∀ h, Ω h → Con G y code maxL ret fr lo mc ms av (fun h' => h' = h) P PX) : Con G y code maxL ret fr lo mc ms av Ω P PX := by
  intro p e a1 a2 a3 s m args below hf hs hPc hK
  obtain ⟨z, ⟨h, k1, k2⟩, k3⟩ := hPc
  exact c h k1 p e a1 a2 a3 s m args below hf hs ⟨z, ⟨h, rfl, k2⟩, k3⟩ hK
def exN (k : Nat) : String := match k with
  | 1 => "java/lang/IndexOutOfBoundsException" | 2 => "java/lang/IllegalArgumentException" | 3 => "java/lang/UnsupportedOperationException" | _ => "java/util/NoSuchElementException"
def eIf (b : Bool) (k : Nat) : Nat := if b = true then 0 else k
theorem eIf_0 {b : Bool} {k : Nat} (hk : 0 < k) : eIf b k = 0 ↔ b = true := by
  unfold eIf
  cases b
  · simp; omega
  · simp
theorem bi_n (b : Bool) : narrow .boolean (.int (b2i b)) = .int (b2i b) := by cases b <;> rfl
theorem bi_f (b : Bool) : fits .boolean (.int (b2i b)) = true := by cases b <;> rfl
section UE2
variable {G : UG} {F : UF} {R : Room} {Q : State → Prop} {nL pc k n : Nat} {L L' : List (Nat × Value)} {st rest : List Value} {Ω Ω' : Hp → Prop} {cc : ByteArray} {own : String} {ret : Option FieldType}
/-- a callee that throws when e is not 0 -/
theorem x_runE (O : Ok G F own cc nL ret) {mc ms mc0 ms0 e : Nat} {rv : Option Value} {P0 : Option Value → Hp → Prop} {PX0 : String → Nat → Hp → Prop} (hQ : Q = CQ G F P0 PX0 mc0 ms0) (hno : noH F) (hr : XRun G F R nL pc L st rest Ω k n mc ms (fun vr_ h' => vr_ = rv ∧ e = 0 ∧ Ω' h') (fun E _ h' => ¬ e = 0 ∧ E = exN e ∧ Ω' h')) (hc : k + mc ≤ mc0) (hs : n + ms ≤ ms0) (hx : ¬ e = 0 → ∀ q h, Ω' h → PX0 (exN e) q h)
    (kk : e = 0 → X G F R Q nL (pc + 3) L (rv.toList ++ rest) Ω' (k + mc) (n + ms)) : X G F R Q nL pc L st Ω k n := by
  refine x_runT O hQ hno hr hc hs (fun E q h hh => ?_) (fun v => ?_)
  · obtain ⟨h1, rfl, h2⟩ := hh
    exact hx h1 q h h2
  · intro h H locs ls hΩ hR hS hl
    obtain ⟨rfl, h1, h2⟩ := hΩ
    exact kk h1 h H locs ls h2 hR hS hl
/-- .. and answers an object that something is known of -/
theorem x_runF (O : Ok G F own cc nL ret) {mc ms mc0 ms0 e : Nat} {K : Nat → Prop} {P0 : Option Value → Hp → Prop} {PX0 : String → Nat → Hp → Prop} (hQ : Q = CQ G F P0 PX0 mc0 ms0) (hno : noH F) (hr : XRun G F R nL pc L st rest Ω k n mc ms (fun vr_ h' => (∃ q, vr_ = some (.ref q) ∧ K q) ∧ e = 0 ∧ Ω' h') (fun E _ h' => ¬ e = 0 ∧ E = exN e ∧ Ω' h')) (hc : k + mc ≤ mc0) (hs : n + ms ≤ ms0) (hx : ¬ e = 0 → ∀ q h, Ω' h → PX0 (exN e) q h)
    (kk : e = 0 → ∀ q, K q → X G F R Q nL (pc + 3) L (.ref q :: rest) Ω' (k + mc) (n + ms)) : X G F R Q nL pc L st Ω k n := by
  refine x_runT O hQ hno hr hc hs (fun E q h hh => ?_) (fun v => ?_)
  · obtain ⟨h1, rfl, h2⟩ := hh
    exact hx h1 q h h2
  · intro h H locs ls hΩ hR hS hl
    obtain ⟨⟨q, rfl, hK⟩, h1, h2⟩ := hΩ
    exact kk h1 q hK h H locs ls h2 hR hS hl
end UE2
theorem mustP {Ω : Hp → Prop} {b : Bool} {k : Nat} (hk : 0 < k) : (fun (vr_ : Option Value) (h' : Hp) => vr_ = none ∧ b = true ∧ Ω h') = (fun vr_ h' => vr_ = none ∧ eIf b k = 0 ∧ Ω h') := by
  funext v h'; rw [eIf_0 hk]
theorem mustX {Ω : Hp → Prop} {b : Bool} {k : Nat} (hk : 0 < k) : (fun (E : String) (_ : Nat) (h' : Hp) => E = exN k ∧ ¬ b = true ∧ Ω h') = (fun E _ h' => ¬ eIf b k = 0 ∧ E = exN (eIf b k) ∧ Ω h') := by
  funext E q h'
  cases b
  · have : eIf false k = k := rfl
    rw [this]
    apply propext
    constructor
    · rintro ⟨a, _, c⟩; exact ⟨by omega, a, c⟩
    · rintro ⟨_, a, c⟩; exact ⟨a, by decide, c⟩
  · have : eIf true k = 0 := rfl
    rw [this]
    apply propext
    constructor
    · rintro ⟨a, b, c⟩; exact absurd rfl b
    · rintro ⟨a, b, c⟩; exact absurd rfl a
theorem c_e_must {G : UG} {Ω : Hp → Prop} (b : Bool) : Con G yX1_must cX1_must 1 none 6 81 1 6 [.int (b2i b)] Ω (fun vr_ h' => vr_ = none ∧ eIf b 2 = 0 ∧ Ω h') (fun E _ h' => ¬ eIf b 2 = 0 ∧ E = exN (eIf b 2) ∧ Ω h') := by
  rw [← mustP (by decide), ← mustX (by decide)]; exact c_x_must b
theorem c_e_mustBe {G : UG} {Ω : Hp → Prop} (b : Bool) : Con G yX1_mustBe cX1_mustBe 1 none 6 81 1 6 [.int (b2i b)] Ω (fun vr_ h' => vr_ = none ∧ eIf b 1 = 0 ∧ Ω h') (fun E _ h' => ¬ eIf b 1 = 0 ∧ E = exN (eIf b 1) ∧ Ω h') := by
  rw [← mustP (by decide), ← mustX (by decide)]; exact c_x_mustBe b
theorem c_e_mayBe {G : UG} {Ω : Hp → Prop} (b : Bool) : Con G yX1_mayBe cX1_mayBe 1 none 6 81 1 6 [.int (b2i b)] Ω (fun vr_ h' => vr_ = none ∧ eIf b 3 = 0 ∧ Ω h') (fun E _ h' => ¬ eIf b 3 = 0 ∧ E = exN (eIf b 3) ∧ Ω h') := by
  rw [← mustP (by decide), ← mustX (by decide)]; exact c_x_mayBe b
theorem c_e_thereIs {G : UG} {Ω : Hp → Prop} (b : Bool) : Con G yX1_thereIs cX1_thereIs 1 none 6 81 1 6 [.int (b2i b)] Ω (fun vr_ h' => vr_ = none ∧ eIf b 4 = 0 ∧ Ω h') (fun E _ h' => ¬ eIf b 4 = 0 ∧ E = exN (eIf b 4) ∧ Ω h') := by
  rw [← mustP (by decide), ← mustX (by decide)]; exact c_x_thereIs b
theorem c_e_isCell {G : UG} {Ω : Hp → Prop} (v : Int32) : Con G yX1_isCell cX1_isCell 1 none 7 101 1 6 [.int v] Ω (fun vr_ h' => vr_ = none ∧ eIf (z_isIn v (nI 0) (nI 255)) 1 = 0 ∧ Ω h') (fun E _ h' => ¬ eIf (z_isIn v (nI 0) (nI 255)) 1 = 0 ∧ E = exN (eIf (z_isIn v (nI 0) (nI 255)) 1) ∧ Ω h') := by
  rw [← mustP (by decide), ← mustX (by decide)]; exact c_x_isCell v
theorem c_e_isRow {G : UG} {Ω : Hp → Prop} (v : Int32) : Con G yX1_isRow cX1_isRow 1 none 7 101 1 6 [.int v] Ω (fun vr_ h' => vr_ = none ∧ eIf (z_isIn v (nI 0) (nI 15)) 1 = 0 ∧ Ω h') (fun E _ h' => ¬ eIf (z_isIn v (nI 0) (nI 15)) 1 = 0 ∧ E = exN (eIf (z_isIn v (nI 0) (nI 15)) 1) ∧ Ω h') := by
  rw [← mustP (by decide), ← mustX (by decide)]; exact c_x_isRow v
theorem c_e_isSide {G : UG} {Ω : Hp → Prop} (v : Int32) : Con G yX1_isSide cX1_isSide 1 none 7 101 1 6 [.int v] Ω (fun vr_ h' => vr_ = none ∧ eIf (z_isIn v (nI 0) (nI 1)) 1 = 0 ∧ Ω h') (fun E _ h' => ¬ eIf (z_isIn v (nI 0) (nI 1)) 1 = 0 ∧ E = exN (eIf (z_isIn v (nI 0) (nI 1)) 1) ∧ Ω h') := by
  rw [← mustP (by decide), ← mustX (by decide)]; exact c_x_isSide v
theorem isC_nn {v : Int32} {n k : Nat} (c : eIf (z_isIn v (nI 0) (nI n)) (k + 1) = 0) (hn : n < 2 ^ 31) : nn v n := by
  rw [eIf_0 (by omega)] at c
  unfold z_isIn at c
  split at c
  · cases c
  · split at c
    · cases c
    · rename_i h1 h2
      exact nn_of (Int32.not_lt.mp h1) (Int32.not_lt.mp h2) hn
theorem cm1 {c : Nat} (hc : c ≤ 2147483647) : c = 0 ∨ nI c - nI 1 = nI (c - 1) := by
  by_cases h : c = 0
  · exact Or.inl h
  · exact Or.inr (pk_sub (by omega))
theorem isK_lt {v : Int32} {c k : Nat} (h : eIf (z_isIn v (nI 0) (nI c - nI 1)) (k + 1) = 0) (hc : c < 2 ^ 31) : v = nI (tn v) ∧ tn v < c := by
  rcases cm1 (c := c) (by omega) with e | e
  · subst e
    rw [eIf_0 (by omega)] at h
    unfold z_isIn at h
    split at h
    · cases h
    · split at h
      · cases h
      · rename_i h1 h2
        exact absurd (Int32.le_trans (Int32.not_lt.mp h1) (Int32.not_lt.mp h2)) (by decide)
  · by_cases c0 : c = 0
    · subst c0
      rw [eIf_0 (by omega)] at h
      unfold z_isIn at h
      split at h
      · cases h
      · split at h
        · cases h
        · rename_i h1 h2
          exact absurd (Int32.le_trans (Int32.not_lt.mp h1) (Int32.not_lt.mp h2)) (by decide)
    · rw [e] at h
      have := isC_nn h (by omega)
      exact ⟨this.1, by have := this.2; omega⟩
theorem zin_le {v lo hi : Int32} (h : z_isIn v lo hi = true) : lo ≤ v ∧ v ≤ hi := by
  unfold z_isIn at h
  split at h
  · cases h
  · split at h
    · cases h
    · rename_i h1 h2
      exact ⟨Int32.not_lt.mp h1, Int32.not_lt.mp h2⟩
theorem len_byx {least greatest : Int32} {most : Bool} (h : eIf (if z_isIn least (nI 1) (nI 9) = true then (if z_isIn greatest least (nI 9) = true then true else false) else false) 2 = 0) : ¬ (if most = true then least else greatest) = 0 := by
  rw [eIf_0 (by decide)] at h
  by_cases c : z_isIn least (nI 1) (nI 9) = true
  · rw [if_pos c] at h
    by_cases c2 : z_isIn greatest least (nI 9) = true
    · have a := (zin_le c).1
      have b := (zin_le c2).1
      split
      · rintro rfl; exact absurd a (by decide)
      · rintro rfl; exact absurd (Int32.le_trans a b) (by decide)
    · rw [if_neg c2] at h; cases h
  · rw [if_neg c] at h; cases h

theorem c_x_isGun {G : UG} {κe κ : Hp} {adr : Nat → Nat} {μ : Mu} {ρ : List Nat} (hI : MI (μ 1)) (k : Int32) : Con G yX1_isGun cX1_isGun 2 none 7 101 1 6 [.ref (adr 0), .int k] (XR G κe κ adr μ ρ) (fun vr_ h' => vr_ = none ∧ eIf (z_isIn k (nI 0) (nI (tn (μ 1 0)) - nI 1)) 1 = 0 ∧ XR G κe κ adr μ ρ h') (fun E_ _ h' => ¬ eIf (z_isIn k (nI 0) (nI (tn (μ 1 0)) - nI 1)) 1 = 0 ∧ E_ = exN (eIf (z_isIn k (nI 0) (nI (tn (μ 1 0)) - nI 1)) 1) ∧ XR G κe κ adr μ ρ h') := by
  refine con_of2 (plainFor_of_name (by decide)) rfl ?_
  intro F R Q RF RL RC RS hQ O hnh hnm
  have hb := (hI 0 (by decide)).2
  have hb' : tn (μ 1 0) ≤ 120 := Nat.le_trans hb (by decide)
  refine x_eq (L' := [(0, .ref (adr 0)), (1, .int k)]) ?_ rfl rfl rfl
  refine x_iload_n O 1 dX1_isGun_0 rfl rfl ?_
  refine x_iconst O (nI 0) dX1_isGun_1 (by decide) ?_
  refine x_aload_n O 0 dX1_isGun_2 rfl rfl ?_
  refine x_get O k_X1_29_1 XR.o0 (v := .ref (adr 1000)) rfl dX1_isGun_3 ?_
  refine x_hget O (XR.hr hI rfl : HR G κe adr _ _ 1000 (μ 1) (XR G κe κ adr μ ρ)) k_X1_76_4 rfl dX1_isGun_6 ?_
  refine x_top (v' := nI (tn (μ 1 0))) ((hI 0 (by decide)).1) ?_
  refine x_iconst O (nI 1) dX1_isGun_9 (by decide) ?_
  refine x_isub O dX1_isGun_10 ?_
  refine x_cS O 3 (c_z_isIn k (nI 0) (nI (tn (μ 1 0)) - nI 1)) (lw_S q476 q477 q103 q478) hd_X1_isIn rfl (by rw [RF]; rfl) (by rw [RL]; rfl) ⟨Nat.zero_le _, Nat.zero_le _⟩ rfl rfl dX1_isGun_11 ?_
  refine x_runE O hQ hnh (r_S O 1 (c_e_mustBe (z_isIn k (nI 0) (nI (tn (μ 1 0)) - nI 1))) (lw_S q714 q715 q103 q716) hd_X1_mustBe rfl (by rw [RF]; rfl) (by rw [RL]; rfl) (by rw [RC, RS]; decide) rfl rfl dX1_isGun_14) (by decide) (by decide) (fun c q h m => ⟨c, rfl, m⟩) (fun c => ?_)
  exact x_vretQ O hQ rfl dX1_isGun_17 (fun h m => ⟨rfl, c, m⟩)

theorem c_x_isTeller {G : UG} {κe κ : Hp} {adr : Nat → Nat} {μ : Mu} {ρ : List Nat} (hI : MI (μ 1)) (k : Int32) : Con G yX1_isTeller cX1_isTeller 2 none 7 101 1 6 [.ref (adr 0), .int k] (XR G κe κ adr μ ρ) (fun vr_ h' => vr_ = none ∧ eIf (z_isIn k (nI 0) (nI (tn (μ 1 4)) - nI 1)) 1 = 0 ∧ XR G κe κ adr μ ρ h') (fun E_ _ h' => ¬ eIf (z_isIn k (nI 0) (nI (tn (μ 1 4)) - nI 1)) 1 = 0 ∧ E_ = exN (eIf (z_isIn k (nI 0) (nI (tn (μ 1 4)) - nI 1)) 1) ∧ XR G κe κ adr μ ρ h') := by
  refine con_of2 (plainFor_of_name (by decide)) rfl ?_
  intro F R Q RF RL RC RS hQ O hnh hnm
  have hb := (hI 4 (by decide)).2
  have hb' : tn (μ 1 4) ≤ 120 := Nat.le_trans hb (by decide)
  refine x_eq (L' := [(0, .ref (adr 0)), (1, .int k)]) ?_ rfl rfl rfl
  refine x_iload_n O 1 dX1_isTeller_0 rfl rfl ?_
  refine x_iconst O (nI 0) dX1_isTeller_1 (by decide) ?_
  refine x_aload_n O 0 dX1_isTeller_2 rfl rfl ?_
  refine x_get O k_X1_29_1 XR.o0 (v := .ref (adr 1000)) rfl dX1_isTeller_3 ?_
  refine x_hget O (XR.hr hI rfl : HR G κe adr _ _ 1000 (μ 1) (XR G κe κ adr μ ρ)) k_X1_86_4 rfl dX1_isTeller_6 ?_
  refine x_top (v' := nI (tn (μ 1 4))) ((hI 4 (by decide)).1) ?_
  refine x_iconst O (nI 1) dX1_isTeller_9 (by decide) ?_
  refine x_isub O dX1_isTeller_10 ?_
  refine x_cS O 3 (c_z_isIn k (nI 0) (nI (tn (μ 1 4)) - nI 1)) (lw_S q476 q477 q103 q478) hd_X1_isIn rfl (by rw [RF]; rfl) (by rw [RL]; rfl) ⟨Nat.zero_le _, Nat.zero_le _⟩ rfl rfl dX1_isTeller_11 ?_
  refine x_runE O hQ hnh (r_S O 1 (c_e_mustBe (z_isIn k (nI 0) (nI (tn (μ 1 4)) - nI 1))) (lw_S q714 q715 q103 q716) hd_X1_mustBe rfl (by rw [RF]; rfl) (by rw [RL]; rfl) (by rw [RC, RS]; decide) rfl rfl dX1_isTeller_14) (by decide) (by decide) (fun c q h m => ⟨c, rfl, m⟩) (fun c => ?_)
  exact x_vretQ O hQ rfl dX1_isTeller_17 (fun h m => ⟨rfl, c, m⟩)

theorem c_x_isStory {G : UG} {κe κ : Hp} {adr : Nat → Nat} {μ : Mu} {ρ : List Nat} (hI : MI (μ 1)) (k : Int32) : Con G yX1_isStory cX1_isStory 2 none 7 101 1 6 [.ref (adr 0), .int k] (XR G κe κ adr μ ρ) (fun vr_ h' => vr_ = none ∧ eIf (z_isIn k (nI 0) (nI (tn (μ 1 6)) - nI 1)) 1 = 0 ∧ XR G κe κ adr μ ρ h') (fun E_ _ h' => ¬ eIf (z_isIn k (nI 0) (nI (tn (μ 1 6)) - nI 1)) 1 = 0 ∧ E_ = exN (eIf (z_isIn k (nI 0) (nI (tn (μ 1 6)) - nI 1)) 1) ∧ XR G κe κ adr μ ρ h') := by
  refine con_of2 (plainFor_of_name (by decide)) rfl ?_
  intro F R Q RF RL RC RS hQ O hnh hnm
  have hb := (hI 6 (by decide)).2
  have hb' : tn (μ 1 6) ≤ 120 := Nat.le_trans hb (by decide)
  refine x_eq (L' := [(0, .ref (adr 0)), (1, .int k)]) ?_ rfl rfl rfl
  refine x_iload_n O 1 dX1_isStory_0 rfl rfl ?_
  refine x_iconst O (nI 0) dX1_isStory_1 (by decide) ?_
  refine x_aload_n O 0 dX1_isStory_2 rfl rfl ?_
  refine x_get O k_X1_29_1 XR.o0 (v := .ref (adr 1000)) rfl dX1_isStory_3 ?_
  refine x_hget O (XR.hr hI rfl : HR G κe adr _ _ 1000 (μ 1) (XR G κe κ adr μ ρ)) k_X1_373_4 rfl dX1_isStory_6 ?_
  refine x_top (v' := nI (tn (μ 1 6))) ((hI 6 (by decide)).1) ?_
  refine x_iconst O (nI 1) dX1_isStory_9 (by decide) ?_
  refine x_isub O dX1_isStory_10 ?_
  refine x_cS O 3 (c_z_isIn k (nI 0) (nI (tn (μ 1 6)) - nI 1)) (lw_S q476 q477 q103 q478) hd_X1_isIn rfl (by rw [RF]; rfl) (by rw [RL]; rfl) ⟨Nat.zero_le _, Nat.zero_le _⟩ rfl rfl dX1_isStory_11 ?_
  refine x_runE O hQ hnh (r_S O 1 (c_e_mustBe (z_isIn k (nI 0) (nI (tn (μ 1 6)) - nI 1))) (lw_S q714 q715 q103 q716) hd_X1_mustBe rfl (by rw [RF]; rfl) (by rw [RL]; rfl) (by rw [RC, RS]; decide) rfl rfl dX1_isStory_14) (by decide) (by decide) (fun c q h m => ⟨c, rfl, m⟩) (fun c => ?_)
  exact x_vretQ O hQ rfl dX1_isStory_17 (fun h m => ⟨rfl, c, m⟩)

theorem c_x_findAt {G : UG} {κe κ : Hp} {adr : Nat → Nat} {μ : Mu} {ρ : List Nat} (hI : MI (μ 1)) (k : Int32) : Con G yX1_findAt cX1_findAt 2 (some (.object "GrassField$Find")) 7 101 1 6 [.ref (adr 0), .int k] (XR G κe κ adr μ ρ) (fun vr_ h' => (∃ q, vr_ = some (.ref q) ∧ κe q = some (fEnt (μ 1) (tn k))) ∧ eIf (z_isIn k (nI 0) (nI (tn (μ 1 3)) - nI 1)) 1 = 0 ∧ XR G κe κ adr μ ρ h') (fun E_ _ h' => ¬ eIf (z_isIn k (nI 0) (nI (tn (μ 1 3)) - nI 1)) 1 = 0 ∧ E_ = exN (eIf (z_isIn k (nI 0) (nI (tn (μ 1 3)) - nI 1)) 1) ∧ XR G κe κ adr μ ρ h') := by
  refine con_of2 (plainFor_of_name (by decide)) rfl ?_
  intro F R Q RF RL RC RS hQ O hnh hnm
  have hb := (hI 3 (by decide)).2
  have hb' : tn (μ 1 3) ≤ 120 := Nat.le_trans hb (by decide)
  refine x_eq (L' := [(0, .ref (adr 0)), (1, .int k)]) ?_ rfl rfl rfl
  refine x_iload_n O 1 dX1_findAt_0 rfl rfl ?_
  refine x_iconst O (nI 0) dX1_findAt_1 (by decide) ?_
  refine x_aload_n O 0 dX1_findAt_2 rfl rfl ?_
  refine x_get O k_X1_29_1 XR.o0 (v := .ref (adr 1000)) rfl dX1_findAt_3 ?_
  refine x_hget O (XR.hr hI rfl : HR G κe adr _ _ 1000 (μ 1) (XR G κe κ adr μ ρ)) k_X1_79_4 rfl dX1_findAt_6 ?_
  refine x_top (v' := nI (tn (μ 1 3))) ((hI 3 (by decide)).1) ?_
  refine x_iconst O (nI 1) dX1_findAt_9 (by decide) ?_
  refine x_isub O dX1_findAt_10 ?_
  refine x_cS O 3 (c_z_isIn k (nI 0) (nI (tn (μ 1 3)) - nI 1)) (lw_S q476 q477 q103 q478) hd_X1_isIn rfl (by rw [RF]; rfl) (by rw [RL]; rfl) ⟨Nat.zero_le _, Nat.zero_le _⟩ rfl rfl dX1_findAt_11 ?_
  refine x_runE O hQ hnh (r_S O 1 (c_e_mustBe (z_isIn k (nI 0) (nI (tn (μ 1 3)) - nI 1))) (lw_S q714 q715 q103 q716) hd_X1_mustBe rfl (by rw [RF]; rfl) (by rw [RL]; rfl) (by rw [RC, RS]; decide) rfl rfl dX1_findAt_14) (by decide) (by decide) (fun c q h m => ⟨c, rfl, m⟩) (fun c => ?_)
  obtain ⟨ek, hk⟩ := isK_lt c (by omega)
  refine x_aload_n O 0 dX1_findAt_17 rfl rfl ?_
  refine x_get O k_X1_29_1 XR.o0 (v := .ref (adr 1000)) rfl dX1_findAt_18 ?_
  refine x_hget O (XR.hr hI rfl : HR G κe adr _ _ 1000 (μ 1) (XR G κe κ adr μ ρ)) k_X1_82_4 rfl dX1_findAt_21 ?_
  refine x_iload_n O 1 dX1_findAt_24 rfl rfl ?_
  refine x_top (v' := nI (tn k)) ek ?_
  refine x_hfind O (XR.hr hI rfl : HR G κe adr _ _ 1000 (μ 1) (XR G κe κ adr μ ρ)) hk dX1_findAt_25 (fun q hq => ?_)
  exact x_aretQ O (x := some q) hQ rfl dX1_findAt_26 (fun h m => ⟨⟨q, rfl, hq⟩, c, m⟩)

def x_height (W : Nat → Int32) (c : Int32) : Int32 :=
  W (13 + (tn c))
def x_height_e (W : Nat → Int32) (c : Int32) : Nat :=
  (if eIf (z_isIn c (nI 0) (nI 255)) 1 = 0 then 0 else eIf (z_isIn c (nI 0) (nI 255)) 1)
set_option maxHeartbeats 1000000 in
set_option maxRecDepth 100000 in
theorem c_x_height {G : UG} {κe κ : Hp} {adr : Nat → Nat} {μ : Mu} {ρ : List Nat} (hI : MI (μ 1)) (c : Int32)  : Con G yX1_height cX1_height 2 (some .int) 8 121 1 6 [.ref (adr 0), .int c] (XR G κe κ adr μ ρ) (fun vr_ h' => vr_ = some (.int (x_height (μ 1) c)) ∧ (x_height_e (μ 1) c) = 0 ∧ XR G κe κ adr μ ρ h') (fun E_ _ h' => ¬ (x_height_e (μ 1) c) = 0 ∧ E_ = exN (x_height_e (μ 1) c) ∧ XR G κe κ adr μ ρ h') := by
  refine con_of2 (plainFor_of_name (by decide)) rfl ?_
  intro F R Q RF RL RC RS hQ O hnh hnm
  obtain ⟨res, hres⟩ : ∃ z, z = (x_height (μ 1) c) := ⟨_, rfl⟩
  rw [← hres] at hQ
  unfold x_height at hres
  obtain ⟨rcd, hrcd⟩ : ∃ z, z = (x_height_e (μ 1) c) := ⟨_, rfl⟩
  rw [← hrcd] at hQ
  unfold x_height_e at hrcd
  refine x_eq (L' := [(0, .ref (adr 0)), (1, .int c)]) ?_ rfl rfl rfl
  refine x_iload_n O 1 dX1_height_0 rfl rfl ?_
  refine x_runE O hQ hnh (r_S O 1 (c_e_isCell c) (lw_S q711 q712 q103 q713) hd_X1_isCell rfl (by rw [RF]; rfl) (by rw [RL]; rfl) (by rw [RC, RS]; decide) rfl rfl dX1_height_1) (by decide) (by decide) (fun c1 => ?_) (fun c1 => ?_)
  · have hr1 := hrcd.trans (if_neg c1)
    exact fun q h m => ⟨by rw [hr1]; exact c1, by rw [hr1], m⟩
  · have hr2 := hrcd.trans (if_pos c1)
    have hxc1 := (isC_nn c1 (by decide)).2
    refine x_aload_n O 0 dX1_height_4 rfl rfl ?_
    refine x_get O k_X1_29_1 XR.o0 (v := .ref (adr 1000)) rfl dX1_height_5 ?_
    refine x_hget O (XR.hr (μ := μ) hI rfl : HR G κe adr _ _ 1000 (μ 1) (XR G κe κ adr μ ρ)) k_X1_107_4 rfl dX1_height_8 ?_
    refine x_iload_n O 1 dX1_height_11 rfl rfl ?_
    refine x_top (v' := nI (tn c)) (isC_nn c1 (by decide)).1 ?_
    refine x_hheight O (XR.hr (μ := μ) hI rfl : HR G κe adr _ _ 1000 (μ 1) (XR G κe κ adr μ ρ)) (by omega) dX1_height_12 ?_
    refine x_widen (k' := 1) (n' := 6) (by decide) (by decide) ?_
    exact x_iretQ O hQ rfl dX1_height_13 (fun h m => ⟨by rw [hres], by rw [hr2], m⟩)

def x_sees (W : Nat → Int32) (a : Int32) (b : Int32) : Bool :=
  h_sees W (tn a) (tn b)
def x_sees_e (W : Nat → Int32) (a : Int32) (b : Int32) : Nat :=
  (if eIf (z_isIn a (nI 0) (nI 255)) 1 = 0 then (if eIf (z_isIn b (nI 0) (nI 255)) 1 = 0 then 0 else eIf (z_isIn b (nI 0) (nI 255)) 1) else eIf (z_isIn a (nI 0) (nI 255)) 1)
set_option maxHeartbeats 1000000 in
set_option maxRecDepth 100000 in
theorem c_x_sees {G : UG} {κe κ : Hp} {adr : Nat → Nat} {μ : Mu} {ρ : List Nat} (hI : MI (μ 1)) (a : Int32) (b : Int32)  : Con G yX1_sees cX1_sees 3 (some .boolean) 8 121 2 12 [.ref (adr 0), .int a, .int b] (XR G κe κ adr μ ρ) (fun vr_ h' => vr_ = some (.int (b2i (x_sees (μ 1) a b))) ∧ (x_sees_e (μ 1) a b) = 0 ∧ XR G κe κ adr μ ρ h') (fun E_ _ h' => ¬ (x_sees_e (μ 1) a b) = 0 ∧ E_ = exN (x_sees_e (μ 1) a b) ∧ XR G κe κ adr μ ρ h') := by
  refine con_of2 (plainFor_of_name (by decide)) rfl ?_
  intro F R Q RF RL RC RS hQ O hnh hnm
  obtain ⟨res, hres⟩ : ∃ z, z = (x_sees (μ 1) a b) := ⟨_, rfl⟩
  rw [← hres] at hQ
  unfold x_sees at hres
  obtain ⟨rcd, hrcd⟩ : ∃ z, z = (x_sees_e (μ 1) a b) := ⟨_, rfl⟩
  rw [← hrcd] at hQ
  unfold x_sees_e at hrcd
  refine x_eq (L' := [(0, .ref (adr 0)), (1, .int a), (2, .int b)]) ?_ rfl rfl rfl
  refine x_iload_n O 1 dX1_sees_0 rfl rfl ?_
  refine x_runE O hQ hnh (r_S O 1 (c_e_isCell a) (lw_S q711 q712 q103 q713) hd_X1_isCell rfl (by rw [RF]; rfl) (by rw [RL]; rfl) (by rw [RC, RS]; decide) rfl rfl dX1_sees_1) (by decide) (by decide) (fun c1 => ?_) (fun c1 => ?_)
  · have hr1 := hrcd.trans (if_neg c1)
    exact fun q h m => ⟨by rw [hr1]; exact c1, by rw [hr1], m⟩
  · have hr2 := hrcd.trans (if_pos c1)
    have hxc1 := (isC_nn c1 (by decide)).2
    refine x_iload_n O 2 dX1_sees_4 rfl rfl ?_
    refine x_runE O hQ hnh (r_S O 1 (c_e_isCell b) (lw_S q711 q712 q103 q713) hd_X1_isCell rfl (by rw [RF]; rfl) (by rw [RL]; rfl) (by rw [RC, RS]; decide) rfl rfl dX1_sees_5) (by decide) (by decide) (fun c5 => ?_) (fun c5 => ?_)
    · have hr3 := hr2.trans (if_neg c5)
      exact fun q h m => ⟨by rw [hr3]; exact c5, by rw [hr3], m⟩
    · have hr4 := hr2.trans (if_pos c5)
      have hxc5 := (isC_nn c5 (by decide)).2
      refine x_aload_n O 0 dX1_sees_8 rfl rfl ?_
      refine x_get O k_X1_29_1 XR.o0 (v := .ref (adr 1000)) rfl dX1_sees_9 ?_
      refine x_iload_n O 1 dX1_sees_12 rfl rfl ?_
      refine x_top (v' := nI (tn a)) (isC_nn c1 (by decide)).1 ?_
      refine x_iload_n O 2 dX1_sees_13 rfl rfl ?_
      refine x_top (v' := nI (tn b)) (isC_nn c5 (by decide)).1 ?_
      refine x_cV O 2 (c_h_sees (XR.hr (μ := μ) hI rfl : HR G κe adr _ _ 1000 (μ 1) (XR G κe κ adr μ ρ)) (tn a) (tn b) (by omega) (by omega)) (XR.hr (μ := μ) hI rfl : HR G κe adr _ _ 1000 (μ 1) (XR G κe κ adr μ ρ)).obj rfl (lw_V q777 q565 q566 q109 q567) rfl hd_X4_sees rfl (by rw [RF]; rfl) (by rw [RL]; rfl) (by rw [RC, RS]; decide) rfl rfl dX1_sees_14 ?_
      refine x_top (v' := b2i (h_sees (μ 1) (tn a) (tn b))) rfl ?_
      refine x_widen (k' := 2) (n' := 12) (by decide) (by decide) ?_
      exact x_zretQ O hQ rfl dX1_sees_17 (fun h m => ⟨by rw [hres], by rw [hr4], m⟩)

def x_needed (W : Nat → Int32) (a : Int32) (b : Int32) : Int32 :=
  h_needed W a b
def x_needed_e (W : Nat → Int32) (a : Int32) (b : Int32) : Nat :=
  (if eIf (z_isIn a (nI 0) (nI 255)) 1 = 0 then (if eIf (z_isIn b (nI 0) (nI 255)) 1 = 0 then 0 else eIf (z_isIn b (nI 0) (nI 255)) 1) else eIf (z_isIn a (nI 0) (nI 255)) 1)
set_option maxHeartbeats 1000000 in
set_option maxRecDepth 100000 in
theorem c_x_needed {G : UG} {κe κ : Hp} {adr : Nat → Nat} {μ : Mu} {ρ : List Nat} (hI : MI (μ 1)) (hkind : ∀ f : Nat, f < tn (μ 1 3) → μ 1 (349 + 6 * f) = 0 ∨ μ 1 (349 + 6 * f) = 1 ∨ μ 1 (349 + 6 * f) = 2 ∨ μ 1 (349 + 6 * f) = 3) (a : Int32) (b : Int32)  : Con G yX1_needed cX1_needed 3 (some .int) 8 121 2 12 [.ref (adr 0), .int a, .int b] (XR G κe κ adr μ ρ) (fun vr_ h' => vr_ = some (.int (x_needed (μ 1) a b)) ∧ (x_needed_e (μ 1) a b) = 0 ∧ XR G κe κ adr μ ρ h') (fun E_ _ h' => ¬ (x_needed_e (μ 1) a b) = 0 ∧ E_ = exN (x_needed_e (μ 1) a b) ∧ XR G κe κ adr μ ρ h') := by
  refine con_of2 (plainFor_of_name (by decide)) rfl ?_
  intro F R Q RF RL RC RS hQ O hnh hnm
  obtain ⟨res, hres⟩ : ∃ z, z = (x_needed (μ 1) a b) := ⟨_, rfl⟩
  rw [← hres] at hQ
  unfold x_needed at hres
  obtain ⟨rcd, hrcd⟩ : ∃ z, z = (x_needed_e (μ 1) a b) := ⟨_, rfl⟩
  rw [← hrcd] at hQ
  unfold x_needed_e at hrcd
  refine x_eq (L' := [(0, .ref (adr 0)), (1, .int a), (2, .int b)]) ?_ rfl rfl rfl
  refine x_iload_n O 1 dX1_needed_0 rfl rfl ?_
  refine x_runE O hQ hnh (r_S O 1 (c_e_isCell a) (lw_S q711 q712 q103 q713) hd_X1_isCell rfl (by rw [RF]; rfl) (by rw [RL]; rfl) (by rw [RC, RS]; decide) rfl rfl dX1_needed_1) (by decide) (by decide) (fun c1 => ?_) (fun c1 => ?_)
  · have hr1 := hrcd.trans (if_neg c1)
    exact fun q h m => ⟨by rw [hr1]; exact c1, by rw [hr1], m⟩
  · have hr2 := hrcd.trans (if_pos c1)
    have hxc1 := (isC_nn c1 (by decide)).2
    refine x_iload_n O 2 dX1_needed_4 rfl rfl ?_
    refine x_runE O hQ hnh (r_S O 1 (c_e_isCell b) (lw_S q711 q712 q103 q713) hd_X1_isCell rfl (by rw [RF]; rfl) (by rw [RL]; rfl) (by rw [RC, RS]; decide) rfl rfl dX1_needed_5) (by decide) (by decide) (fun c5 => ?_) (fun c5 => ?_)
    · have hr3 := hr2.trans (if_neg c5)
      exact fun q h m => ⟨by rw [hr3]; exact c5, by rw [hr3], m⟩
    · have hr4 := hr2.trans (if_pos c5)
      have hxc5 := (isC_nn c5 (by decide)).2
      refine x_aload_n O 0 dX1_needed_8 rfl rfl ?_
      refine x_get O k_X1_29_1 XR.o0 (v := .ref (adr 1000)) rfl dX1_needed_9 ?_
      refine x_iload_n O 1 dX1_needed_12 rfl rfl ?_
      refine x_iload_n O 2 dX1_needed_13 rfl rfl ?_
      refine x_cV O 2 (c_h_needed (XR.hr (μ := μ) hI rfl : HR G κe adr _ _ 1000 (μ 1) (XR G κe κ adr μ ρ)) hI hkind a b) (XR.hr (μ := μ) hI rfl : HR G κe adr _ _ 1000 (μ 1) (XR G κe κ adr μ ρ)).obj rfl (lw_V q1372 q1373 q1374 q109 q1375) rfl hd_X4_needed rfl (by rw [RF]; rfl) (by rw [RL]; rfl) (by rw [RC, RS]; decide) rfl rfl dX1_needed_14 ?_
      refine x_top (v' := h_needed (μ 1) a b) rfl ?_
      refine x_widen (k' := 2) (n' := 12) (by decide) (by decide) ?_
      exact x_iretQ O hQ rfl dX1_needed_17 (fun h m => ⟨by rw [hres], by rw [hr4], m⟩)

def x_talked (W : Nat → Int32) (a : Int32) (b : Int32) : Bool :=
  h_talked W (tn a) (tn b)
def x_talked_e (W : Nat → Int32) (a : Int32) (b : Int32) : Nat :=
  (if eIf (z_isIn a (nI 0) (nI (tn (W 4)) - nI 1)) 1 = 0 then (if eIf (z_isIn b (nI 0) (nI (tn (W 4)) - nI 1)) 1 = 0 then 0 else eIf (z_isIn b (nI 0) (nI (tn (W 4)) - nI 1)) 1) else eIf (z_isIn a (nI 0) (nI (tn (W 4)) - nI 1)) 1)
set_option maxHeartbeats 1000000 in
set_option maxRecDepth 100000 in
theorem c_x_talked {G : UG} {κe κ : Hp} {adr : Nat → Nat} {μ : Mu} {ρ : List Nat} (hI : MI (μ 1)) (a : Int32) (b : Int32)  : Con G yX1_talked cX1_talked 3 (some .boolean) 8 122 2 12 [.ref (adr 0), .int a, .int b] (XR G κe κ adr μ ρ) (fun vr_ h' => vr_ = some (.int (b2i (x_talked (μ 1) a b))) ∧ (x_talked_e (μ 1) a b) = 0 ∧ XR G κe κ adr μ ρ h') (fun E_ _ h' => ¬ (x_talked_e (μ 1) a b) = 0 ∧ E_ = exN (x_talked_e (μ 1) a b) ∧ XR G κe κ adr μ ρ h') := by
  refine con_of2 (plainFor_of_name (by decide)) rfl ?_
  intro F R Q RF RL RC RS hQ O hnh hnm
  obtain ⟨res, hres⟩ : ∃ z, z = (x_talked (μ 1) a b) := ⟨_, rfl⟩
  rw [← hres] at hQ
  unfold x_talked at hres
  obtain ⟨rcd, hrcd⟩ : ∃ z, z = (x_talked_e (μ 1) a b) := ⟨_, rfl⟩
  rw [← hrcd] at hQ
  unfold x_talked_e at hrcd
  refine x_eq (L' := [(0, .ref (adr 0)), (1, .int a), (2, .int b)]) ?_ rfl rfl rfl
  refine x_aload_n O 0 dX1_talked_0 rfl rfl ?_
  refine x_iload_n O 1 dX1_talked_1 rfl rfl ?_
  refine x_runE O hQ hnh (r_V O 1 (c_x_isTeller (μ := μ) hI a) XR.o0 rfl (lw_V q1549 q1551 qs29 q103 q1552) rfl hd_X1_isTeller rfl (by rw [RF]; rfl) (by rw [RL]; rfl) (by rw [RC, RS]; decide) rfl rfl dX1_talked_2) (by decide) (by decide) (fun c2 => ?_) (fun c2 => ?_)
  · have hr1 := hrcd.trans (if_neg c2)
    exact fun q h m => ⟨by rw [hr1]; exact c2, by rw [hr1], m⟩
  · have hr2 := hrcd.trans (if_pos c2)
    have hzc2 : tn (μ 1 4) ≤ 120 := Nat.le_trans (hI 4 (by decide)).2 (by decide)
    have hxc2 := (isK_lt c2 (by omega)).2
    refine x_aload_n O 0 dX1_talked_5 rfl rfl ?_
    refine x_iload_n O 2 dX1_talked_6 rfl rfl ?_
    refine x_runE O hQ hnh (r_V O 1 (c_x_isTeller (μ := μ) hI b) XR.o0 rfl (lw_V q1549 q1551 qs29 q103 q1552) rfl hd_X1_isTeller rfl (by rw [RF]; rfl) (by rw [RL]; rfl) (by rw [RC, RS]; decide) rfl rfl dX1_talked_7) (by decide) (by decide) (fun c7 => ?_) (fun c7 => ?_)
    · have hr3 := hr2.trans (if_neg c7)
      exact fun q h m => ⟨by rw [hr3]; exact c7, by rw [hr3], m⟩
    · have hr4 := hr2.trans (if_pos c7)
      have hzc7 : tn (μ 1 4) ≤ 120 := Nat.le_trans (hI 4 (by decide)).2 (by decide)
      have hxc7 := (isK_lt c7 (by omega)).2
      refine x_aload_n O 0 dX1_talked_10 rfl rfl ?_
      refine x_get O k_X1_29_1 XR.o0 (v := .ref (adr 1000)) rfl dX1_talked_11 ?_
      refine x_iload_n O 1 dX1_talked_14 rfl rfl ?_
      refine x_top (v' := nI (tn a)) (isK_lt c2 (by omega)).1 ?_
      refine x_iload_n O 2 dX1_talked_15 rfl rfl ?_
      refine x_top (v' := nI (tn b)) (isK_lt c7 (by omega)).1 ?_
      refine x_cV O 2 (c_h_talked (XR.hr (μ := μ) hI rfl : HR G κe adr _ _ 1000 (μ 1) (XR G κe κ adr μ ρ)) hI (tn a) (tn b) (by omega) (by omega)) (XR.hr (μ := μ) hI rfl : HR G κe adr _ _ 1000 (μ 1) (XR G κe κ adr μ ρ)).obj rfl (lw_V q577 q578 q579 q109 q580) rfl hd_X4_talked rfl (by rw [RF]; rfl) (by rw [RL]; rfl) (by rw [RC, RS]; decide) rfl rfl dX1_talked_16 ?_
      refine x_top (v' := b2i (h_talked (μ 1) (tn a) (tn b))) rfl ?_
      refine x_widen (k' := 2) (n' := 12) (by decide) (by decide) ?_
      exact x_zretQ O hQ rfl dX1_talked_19 (fun h m => ⟨by rw [hres], by rw [hr4], m⟩)

def x_same (W : Nat → Int32) (a : Int32) (b : Int32) (what : Int32) : Int32 :=
  (if what = 0 then j_bits ((h_mayBe W (tn a)) &&& (h_mayBe W (tn b))) else (j_bits (h_mayBe W (tn a))) * (j_bits (h_mayBe W (tn b))))
def x_same_e (W : Nat → Int32) (a : Int32) (b : Int32) (what : Int32) : Nat :=
  (if eIf (z_isIn a (nI 0) (nI (tn (W 3)) - nI 1)) 1 = 0 then (if eIf (z_isIn b (nI 0) (nI (tn (W 3)) - nI 1)) 1 = 0 then (if eIf ((if h_isCase W (tn a) = true then (if h_isCase W (tn b) = true then true else false) else false)) 2 = 0 then (if eIf (z_isIn what (nI 0) (nI 1)) 4 = 0 then 0 else eIf (z_isIn what (nI 0) (nI 1)) 4) else eIf ((if h_isCase W (tn a) = true then (if h_isCase W (tn b) = true then true else false) else false)) 2) else eIf (z_isIn b (nI 0) (nI (tn (W 3)) - nI 1)) 1) else eIf (z_isIn a (nI 0) (nI (tn (W 3)) - nI 1)) 1)
set_option maxHeartbeats 1000000 in
set_option maxRecDepth 100000 in
theorem c_x_same {G : UG} {κe κ : Hp} {adr : Nat → Nat} {μ : Mu} {ρ : List Nat} (hI : MI (μ 1)) (hkind : ∀ f : Nat, f < tn (μ 1 3) → μ 1 (349 + 6 * f) = 0 ∨ μ 1 (349 + 6 * f) = 1 ∨ μ 1 (349 + 6 * f) = 2 ∨ μ 1 (349 + 6 * f) = 3) (a : Int32) (b : Int32) (what : Int32)  : Con G yX1_same cX1_same 6 (some .int) 8 122 4 24 [.ref (adr 0), .int a, .int b, .int what] (XR G κe κ adr μ ρ) (fun vr_ h' => vr_ = some (.int (x_same (μ 1) a b what)) ∧ (x_same_e (μ 1) a b what) = 0 ∧ XR G κe κ adr μ ρ h') (fun E_ _ h' => ¬ (x_same_e (μ 1) a b what) = 0 ∧ E_ = exN (x_same_e (μ 1) a b what) ∧ XR G κe κ adr μ ρ h') := by
  refine con_of2 (plainFor_of_name (by decide)) rfl ?_
  intro F R Q RF RL RC RS hQ O hnh hnm
  obtain ⟨res, hres⟩ : ∃ z, z = (x_same (μ 1) a b what) := ⟨_, rfl⟩
  rw [← hres] at hQ
  unfold x_same at hres
  obtain ⟨rcd, hrcd⟩ : ∃ z, z = (x_same_e (μ 1) a b what) := ⟨_, rfl⟩
  rw [← hrcd] at hQ
  unfold x_same_e at hrcd
  refine x_eq (L' := [(0, .ref (adr 0)), (1, .int a), (2, .int b), (3, .int what)]) ?_ rfl rfl rfl
  refine x_aload_n O 0 dX1_same_0 rfl rfl ?_
  refine x_get O k_X1_29_1 XR.o0 (v := .ref (adr 1000)) rfl dX1_same_1 ?_
  refine x_aload_n O 0 dX1_same_4 rfl rfl ?_
  refine x_iload_n O 1 dX1_same_5 rfl rfl ?_
  refine x_runF O hQ hnh (r_V O 1 (c_x_findAt (μ := μ) hI a) XR.o0 rfl (lw_V q1313 q1315 qs22 q103 q1316) rfl hd_X1_findAt rfl (by rw [RF]; rfl) (by rw [RL]; rfl) (by rw [RC, RS]; decide) rfl rfl dX1_same_6) (by decide) (by decide) (fun c6 => ?_) (fun c6 => ?_)
  · have hr7 := hrcd.trans (if_neg c6)
    exact fun q h m => ⟨by rw [hr7]; exact c6, by rw [hr7], m⟩
  · have hr8 := hrcd.trans (if_pos c6)
    intro q1 hq2
    have hzc6 : tn (μ 1 3) ≤ 120 := Nat.le_trans (hI 3 (by decide)).2 (by decide)
    have hxc6 := (isK_lt c6 (by omega)).2
    refine x_cV O 1 (c_h_mayBe (XR.hr (μ := μ) hI rfl : HR G κe adr _ _ 1000 (μ 1) (XR G κe κ adr μ ρ)) hI hkind (tn a) (by omega) _ hq2) (XR.hr (μ := μ) hI rfl : HR G κe adr _ _ 1000 (μ 1) (XR G κe κ adr μ ρ)).obj rfl (lw_V q1336 q1337 q1338 q109 q1339) rfl hd_X4_mayBe rfl (by rw [RF]; rfl) (by rw [RL]; rfl) (by rw [RC, RS]; decide) rfl rfl dX1_same_9 ?_
    refine x_top (v' := h_mayBe (μ 1) (tn a)) rfl ?_
    refine x_istore O [(4, .int (h_mayBe (μ 1) (tn a))), (0, .ref (adr 0)), (1, .int a), (2, .int b), (3, .int what)] dX1_same_12 rfl rfl ?_
    refine x_aload_n O 1 dX1_same_14 rfl rfl ?_
    refine x_get O k_X1_29_1 XR.o0 (v := .ref (adr 1000)) rfl dX1_same_15 ?_
    refine x_aload_n O 1 dX1_same_18 rfl rfl ?_
    refine x_iload_n O 3 dX1_same_19 rfl rfl ?_
    refine x_runF O hQ hnh (r_V O 1 (c_x_findAt (μ := μ) hI b) XR.o0 rfl (lw_V q1313 q1315 qs22 q103 q1316) rfl hd_X1_findAt rfl (by rw [RF]; rfl) (by rw [RL]; rfl) (by rw [RC, RS]; decide) rfl rfl dX1_same_20) (by decide) (by decide) (fun c20 => ?_) (fun c20 => ?_)
    · have hr9 := hr8.trans (if_neg c20)
      exact fun q h m => ⟨by rw [hr9]; exact c20, by rw [hr9], m⟩
    · have hr10 := hr8.trans (if_pos c20)
      intro q3 hq4
      have hzc20 : tn (μ 1 3) ≤ 120 := Nat.le_trans (hI 3 (by decide)).2 (by decide)
      have hxc20 := (isK_lt c20 (by omega)).2
      refine x_cV O 1 (c_h_mayBe (XR.hr (μ := μ) hI rfl : HR G κe adr _ _ 1000 (μ 1) (XR G κe κ adr μ ρ)) hI hkind (tn b) (by omega) _ hq4) (XR.hr (μ := μ) hI rfl : HR G κe adr _ _ 1000 (μ 1) (XR G κe κ adr μ ρ)).obj rfl (lw_V q1336 q1337 q1338 q109 q1339) rfl hd_X4_mayBe rfl (by rw [RF]; rfl) (by rw [RL]; rfl) (by rw [RC, RS]; decide) rfl rfl dX1_same_23 ?_
      refine x_top (v' := h_mayBe (μ 1) (tn b)) rfl ?_
      refine x_istore O [(5, .int (h_mayBe (μ 1) (tn b))), (4, .int (h_mayBe (μ 1) (tn a))), (0, .ref (adr 0)), (1, .int a), (2, .int b), (3, .int what)] dX1_same_26 rfl rfl ?_
      refine x_aload_n O 2 dX1_same_28 rfl rfl ?_
      refine x_get O k_X1_29_1 XR.o0 (v := .ref (adr 1000)) rfl dX1_same_29 ?_
      refine x_iload_n O 3 dX1_same_32 rfl rfl ?_
      refine x_top (v' := nI (tn a)) (isK_lt c6 (by omega)).1 ?_
      refine x_cV O 1 (c_h_isCase (XR.hr (μ := μ) hI rfl : HR G κe adr _ _ 1000 (μ 1) (XR G κe κ adr μ ρ)) hkind (tn a) (by omega)) (XR.hr (μ := μ) hI rfl : HR G κe adr _ _ 1000 (μ 1) (XR G κe κ adr μ ρ)).obj rfl (lw_V q1390 q1378 q1379 q109 q1380) rfl hd_X4_isCase rfl (by rw [RF]; rfl) (by rw [RL]; rfl) (by rw [RC, RS]; decide) rfl rfl dX1_same_33 ?_
      refine x_top (v' := b2i (h_isCase (μ 1) (tn a))) rfl ?_
      have J11 : ∀ (y5 : Bool), y5 = (if h_isCase (μ 1) (tn a) = true then (if h_isCase (μ 1) (tn b) = true then true else false) else false) → X G F R Q 6 55 [(5, .int (h_mayBe (μ 1) (tn b))), (4, .int (h_mayBe (μ 1) (tn a))), (0, .ref (adr 0)), (3, .int what)] [.int (b2i y5)] (XR G κe κ adr μ ρ) 2 12 := by
        intro y5 e12
        subst e12
        refine x_runE O hQ hnh (r_S O 1 (c_e_must ((if h_isCase (μ 1) (tn a) = true then (if h_isCase (μ 1) (tn b) = true then true else false) else false))) (lw_S q738 q739 q103 q740) hd_X1_must rfl (by rw [RF]; rfl) (by rw [RL]; rfl) (by rw [RC, RS]; decide) rfl rfl dX1_same_55) (by decide) (by decide) (fun c55 => ?_) (fun c55 => ?_)
        · have hr13 := hr10.trans (if_neg c55)
          exact fun q h m => ⟨by rw [hr13]; exact c55, by rw [hr13], m⟩
        · have hr14 := hr10.trans (if_pos c55)
          refine x_iload_n O 3 dX1_same_58 rfl rfl ?_
          refine x_iconst O (nI 0) dX1_same_59 (by decide) ?_
          refine x_iconst O (nI 1) dX1_same_60 (by decide) ?_
          refine x_cS O 3 (c_z_isIn what (nI 0) (nI 1)) (lw_S q476 q477 q103 q478) hd_X1_isIn rfl (by rw [RF]; rfl) (by rw [RL]; rfl) (by rw [RC, RS]; decide) rfl rfl dX1_same_61 ?_
          refine x_top (v' := b2i (z_isIn what (nI 0) (nI 1))) rfl ?_
          refine x_runE O hQ hnh (r_S O 1 (c_e_thereIs (z_isIn what (nI 0) (nI 1))) (lw_S q1391 q1392 q103 q1393) hd_X1_thereIs rfl (by rw [RF]; rfl) (by rw [RL]; rfl) (by rw [RC, RS]; decide) rfl rfl dX1_same_64) (by decide) (by decide) (fun c64 => ?_) (fun c64 => ?_)
          · have hr15 := hr14.trans (if_neg c64)
            exact fun q h m => ⟨by rw [hr15]; exact c64, by rw [hr15], m⟩
          · have hr16 := hr14.trans (if_pos c64)
            refine x_iload_n O 3 dX1_same_67 rfl rfl ?_
            have J17 : ∀ (y6 : Int32), y6 = (if what = 0 then j_bits ((h_mayBe (μ 1) (tn a)) &&& (h_mayBe (μ 1) (tn b))) else (j_bits (h_mayBe (μ 1) (tn a))) * (j_bits (h_mayBe (μ 1) (tn b)))) → X G F R Q 6 93 [(0, .ref (adr 0))] [.int y6] (XR G κe κ adr μ ρ) 4 24 := by
              intro y6 e18
              subst e18
              refine x_widen (k' := 4) (n' := 24) (by decide) (by decide) ?_
              exact x_iretQ O hQ rfl dX1_same_93 (fun h m => ⟨by rw [hres], by rw [hr16], m⟩)
            refine x_ifne O 82 dX1_same_68 (by decide) (fun c68 => ?_) (fun c68 => ?_)
            · refine x_sub [0, 1, 2] (L' := [(5, .int (h_mayBe (μ 1) (tn b))), (4, .int (h_mayBe (μ 1) (tn a))), (0, .ref (adr 0))]) rfl ?_
              refine x_iload O 1 dX1_same_82 rfl ?_
              refine x_cS O 1 (c_j_bits (h_mayBe (μ 1) (tn a))) (lw_S q571 q572 q142 q573) hd_J13_bitCount rfl (by rw [RF]; rfl) (by rw [RL]; rfl) (by rw [RC, RS]; decide) rfl rfl dX1_same_84 ?_
              refine x_top (v' := j_bits (h_mayBe (μ 1) (tn a))) rfl ?_
              refine x_iload O 0 dX1_same_87 rfl ?_
              refine x_cS O 1 (c_j_bits (h_mayBe (μ 1) (tn b))) (lw_S q571 q572 q142 q573) hd_J13_bitCount rfl (by rw [RF]; rfl) (by rw [RL]; rfl) (by rw [RC, RS]; decide) rfl rfl dX1_same_89 ?_
              refine x_top (v' := j_bits (h_mayBe (μ 1) (tn b))) rfl ?_
              refine x_imul O dX1_same_92 ?_
              refine x_sub [2] rfl ?_
              exact J17 ((j_bits (h_mayBe (μ 1) (tn a))) * (j_bits (h_mayBe (μ 1) (tn b)))) (by rw [if_neg c68])
            · refine x_sub [0, 1, 2] (L' := [(5, .int (h_mayBe (μ 1) (tn b))), (4, .int (h_mayBe (μ 1) (tn a))), (0, .ref (adr 0))]) rfl ?_
              refine x_iload O 1 dX1_same_71 rfl ?_
              refine x_iload O 0 dX1_same_73 rfl ?_
              refine x_iand O dX1_same_75 ?_
              refine x_cS O 1 (c_j_bits ((h_mayBe (μ 1) (tn a)) &&& (h_mayBe (μ 1) (tn b)))) (lw_S q571 q572 q142 q573) hd_J13_bitCount rfl (by rw [RF]; rfl) (by rw [RL]; rfl) (by rw [RC, RS]; decide) rfl rfl dX1_same_76 ?_
              refine x_top (v' := j_bits ((h_mayBe (μ 1) (tn a)) &&& (h_mayBe (μ 1) (tn b)))) rfl ?_
              refine x_goto O 93 dX1_same_79 (by decide) ?_
              refine x_sub [2] (L' := [(0, .ref (adr 0))]) rfl ?_
              exact J17 (j_bits ((h_mayBe (μ 1) (tn a)) &&& (h_mayBe (μ 1) (tn b)))) (by rw [if_pos c68])
      refine x_ifeqB O 54 dX1_same_36 (by decide) (fun c36 => ?_) (fun c36 => ?_)
      · refine x_sub [0, 1, 2, 5] (L' := [(5, .int (h_mayBe (μ 1) (tn b))), (4, .int (h_mayBe (μ 1) (tn a))), (0, .ref (adr 0)), (3, .int what)]) rfl ?_
        refine x_iconst O (nI 0) dX1_same_54 (by decide) ?_
        refine x_top (v' := b2i false) (by decide) ?_
        exact J11 false (by rw [if_neg c36])
      · refine x_sub [0, 1, 2, 4, 5] (L' := [(5, .int (h_mayBe (μ 1) (tn b))), (4, .int (h_mayBe (μ 1) (tn a))), (0, .ref (adr 0)), (2, .int b), (3, .int what)]) rfl ?_
        refine x_aload_n O 2 dX1_same_39 rfl rfl ?_
        refine x_get O k_X1_29_1 XR.o0 (v := .ref (adr 1000)) rfl dX1_same_40 ?_
        refine x_iload_n O 3 dX1_same_43 rfl rfl ?_
        refine x_top (v' := nI (tn b)) (isK_lt c20 (by omega)).1 ?_
        refine x_cV O 1 (c_h_isCase (XR.hr (μ := μ) hI rfl : HR G κe adr _ _ 1000 (μ 1) (XR G κe κ adr μ ρ)) hkind (tn b) (by omega)) (XR.hr (μ := μ) hI rfl : HR G κe adr _ _ 1000 (μ 1) (XR G κe κ adr μ ρ)).obj rfl (lw_V q1390 q1378 q1379 q109 q1380) rfl hd_X4_isCase rfl (by rw [RF]; rfl) (by rw [RL]; rfl) (by rw [RC, RS]; decide) rfl rfl dX1_same_44 ?_
        refine x_top (v' := b2i (h_isCase (μ 1) (tn b))) rfl ?_
        refine x_ifeqB O 54 dX1_same_47 (by decide) (fun c47 => ?_) (fun c47 => ?_)
        · refine x_sub [0, 1, 2, 4] (L' := [(5, .int (h_mayBe (μ 1) (tn b))), (4, .int (h_mayBe (μ 1) (tn a))), (0, .ref (adr 0)), (3, .int what)]) rfl ?_
          refine x_iconst O (nI 0) dX1_same_54 (by decide) ?_
          refine x_top (v' := b2i false) (by decide) ?_
          exact J11 false (by first | (rw [if_pos c36, if_neg c47]; done) | simp only [if_pos c36, if_neg c47])
        · refine x_sub [0, 1, 2, 4] (L' := [(5, .int (h_mayBe (μ 1) (tn b))), (4, .int (h_mayBe (μ 1) (tn a))), (0, .ref (adr 0)), (3, .int what)]) rfl ?_
          refine x_iconst O (nI 1) dX1_same_50 (by decide) ?_
          refine x_goto O 55 dX1_same_51 (by decide) ?_
          refine x_top (v' := b2i true) (by decide) ?_
          exact J11 true (by first | (rw [if_pos c36, if_pos c47]; done) | simp only [if_pos c36, if_pos c47])

def x_later_b127 (W : Nat → Int32) (i5_19 : Nat) (i9_127 : Nat) (v8_127 : Bool) : Bool :=
  (if v8_127 = true then (if (((h_mayBe W i5_19) >>> ((nI i9_127) &&& 31)) &&& (nI 1)) = 0 then true else (if (W (271 + 4 * i9_127)) ≤ (W 8) then false else true)) else false)
def x_later_b19 (W : Nat → Int32)  (i5_19 : Nat) (v4_19 : Nat) (v3_19 : Nat) (v2_19 : Nat) : Nat × Nat × Nat :=
  ((if h_isSeen W i5_19 = true then (if (W (349 + 6 * i5_19)) = 0 then v4_19 + ((if (h_mayBe W i5_19) = 0 then 1 else 0)) else v4_19) else v4_19), (if h_isSeen W i5_19 = true then (if (W (349 + 6 * i5_19)) = 0 then v3_19 + ((if (fr (fun i s => x_later_b127 W i5_19 i s) (tn (W 0)) 0 (if (h_mayBe W i5_19) = 0 then false else true)) = true then 1 else 0)) else v3_19) else v3_19), (if h_isSeen W i5_19 = true then v2_19 + ((if (W (349 + 6 * i5_19)) = (nI 3) then (if (W (352 + 6 * i5_19)) ≤ (W 8) then 0 else 1) else 0)) else v2_19))
def x_later (W : Nat → Int32) (what : Int32) : Int32 :=
  nI ((if what = 0 then ((fr (fun i s => x_later_b19 W i s.1 s.2.1 s.2.2) (tn (W 3)) 0 (0, 0, 0)).2.2) + ((fr (fun i s => x_later_b19 W i s.1 s.2.1 s.2.2) (tn (W 3)) 0 (0, 0, 0)).2.1) else (if what = (nI 1) then (fr (fun i s => x_later_b19 W i s.1 s.2.1 s.2.2) (tn (W 3)) 0 (0, 0, 0)).2.1 else (fr (fun i s => x_later_b19 W i s.1 s.2.1 s.2.2) (tn (W 3)) 0 (0, 0, 0)).1)))
def x_later_e (W : Nat → Int32) (what : Int32) : Nat :=
  (if eIf (z_isIn what (nI 0) (nI 2)) 4 = 0 then 0 else eIf (z_isIn what (nI 0) (nI 2)) 4)
set_option maxHeartbeats 1000000 in
set_option maxRecDepth 100000 in
theorem c_x_later {G : UG} {κe κ : Hp} {adr : Nat → Nat} {μ : Mu} {ρ : List Nat} (hI : MI (μ 1)) (hkind : ∀ f : Nat, f < tn (μ 1 3) → μ 1 (349 + 6 * f) = 0 ∨ μ 1 (349 + 6 * f) = 1 ∨ μ 1 (349 + 6 * f) = 2 ∨ μ 1 (349 + 6 * f) = 3) (what : Int32)  : Con G yX1_later cX1_later 10 (some .int) 7 101 1 6 [.ref (adr 0), .int what] (XR G κe κ adr μ ρ) (fun vr_ h' => vr_ = some (.int (x_later (μ 1) what)) ∧ (x_later_e (μ 1) what) = 0 ∧ XR G κe κ adr μ ρ h') (fun E_ _ h' => ¬ (x_later_e (μ 1) what) = 0 ∧ E_ = exN (x_later_e (μ 1) what) ∧ XR G κe κ adr μ ρ h') := by
  refine con_of2 (plainFor_of_name (by decide)) rfl ?_
  intro F R Q RF RL RC RS hQ O hnh hnm
  obtain ⟨res, hres⟩ : ∃ z, z = (x_later (μ 1) what) := ⟨_, rfl⟩
  rw [← hres] at hQ
  unfold x_later at hres
  obtain ⟨rcd, hrcd⟩ : ∃ z, z = (x_later_e (μ 1) what) := ⟨_, rfl⟩
  rw [← hrcd] at hQ
  unfold x_later_e at hrcd
  have hb0 : tn (μ 1 0) ≤ 8 := (hI 0 (by decide)).2
  have hb3 : tn (μ 1 3) ≤ 120 := (hI 3 (by decide)).2
  refine x_eq (L' := [(0, .ref (adr 0)), (1, .int what)]) ?_ rfl rfl rfl
  refine x_iload_n O 1 dX1_later_0 rfl rfl ?_
  refine x_iconst O (nI 0) dX1_later_1 (by decide) ?_
  refine x_iconst O (nI 2) dX1_later_2 (by decide) ?_
  refine x_cS O 3 (c_z_isIn what (nI 0) (nI 2)) (lw_S q476 q477 q103 q478) hd_X1_isIn rfl (by rw [RF]; rfl) (by rw [RL]; rfl) ⟨Nat.zero_le _, Nat.zero_le _⟩ rfl rfl dX1_later_3 ?_
  refine x_top (v' := b2i (z_isIn what (nI 0) (nI 2))) rfl ?_
  refine x_runE O hQ hnh (r_S O 1 (c_e_thereIs (z_isIn what (nI 0) (nI 2))) (lw_S q1391 q1392 q103 q1393) hd_X1_thereIs rfl (by rw [RF]; rfl) (by rw [RL]; rfl) (by rw [RC, RS]; decide) rfl rfl dX1_later_6) (by decide) (by decide) (fun c6 => ?_) (fun c6 => ?_)
  · have hr12 := hrcd.trans (if_neg c6)
    exact fun q h m => ⟨by rw [hr12]; exact c6, by rw [hr12], m⟩
  · have hr13 := hrcd.trans (if_pos c6)
    refine x_iconst O (nI 0) dX1_later_9 (by decide) ?_
    refine x_istore_n O [(2, .int (nI 0)), (0, .ref (adr 0)), (1, .int what)] dX1_later_10 rfl rfl rfl ?_
    refine x_iconst O (nI 0) dX1_later_11 (by decide) ?_
    refine x_istore_n O [(3, .int (nI 0)), (2, .int (nI 0)), (0, .ref (adr 0)), (1, .int what)] dX1_later_12 rfl rfl rfl ?_
    refine x_iconst O (nI 0) dX1_later_13 (by decide) ?_
    refine x_istore O [(4, .int (nI 0)), (3, .int (nI 0)), (2, .int (nI 0)), (0, .ref (adr 0)), (1, .int what)] dX1_later_14 rfl rfl ?_
    refine x_iconst O (nI 0) dX1_later_16 (by decide) ?_
    refine x_istore O [(5, .int (nI 0)), (4, .int (nI 0)), (3, .int (nI 0)), (2, .int (nI 0)), (0, .ref (adr 0)), (1, .int what)] dX1_later_17 rfl rfl ?_
    have LOOP19 : ∀ (cc_ : Nat) (i5_19 : Nat) (v4_19 : Nat) (v3_19 : Nat) (v2_19 : Nat), cc_ = tn (μ 1 3) - i5_19 → i5_19 < 2147483648 → (∀ (y0 : Nat) (y1 : Nat) (y2 : Nat), (y0, y1, y2) = fr (fun i s => x_later_b19 (μ 1) i s.1 s.2.1 s.2.2) cc_ i5_19 (v4_19, v3_19, v2_19) → X G F R Q 10 224 [(4, .int (nI y0)), (3, .int (nI y1)), (2, .int (nI y2)), (0, .ref (adr 0)), (1, .int what)] [] (XR G κe κ adr μ ρ) 1 6) → X G F R Q 10 19 [(5, .int (nI i5_19)), (4, .int (nI v4_19)), (3, .int (nI v3_19)), (2, .int (nI v2_19)), (0, .ref (adr 0)), (1, .int what)] [] (XR G κe κ adr μ ρ) 1 6 := by
      intro cc_
      induction cc_ using Nat.strongRecOn with
      | ind cc_ IH_ =>
        intro i5_19 v4_19 v3_19 v2_19 hc_ hb_  K_
        refine x_iload O 0 dX1_later_19 rfl ?_
        refine x_aload_n O 4 dX1_later_21 rfl rfl ?_
        refine x_get O k_X1_29_1 XR.o0 (v := .ref (adr 1000)) rfl dX1_later_22 ?_
        refine x_hget O (XR.hr (μ := μ) hI rfl : HR G κe adr _ _ 1000 (μ 1) (XR G κe κ adr μ ρ)) k_X1_79_4 rfl dX1_later_25 ?_
        refine x_top (v' := nI (tn (μ 1 3))) (hI 3 (by decide)).1 ?_
        refine x_icmpgeN O 224 (by omega) (by omega) dX1_later_28 (by decide) (fun c28 => ?_) (fun c28 => ?_)
        · refine x_sub [1, 2, 3, 4, 5] (L' := [(4, .int (nI v4_19)), (3, .int (nI v3_19)), (2, .int (nI v2_19)), (0, .ref (adr 0)), (1, .int what)]) rfl ?_
          obtain rfl : cc_ = 0 := by omega
          exact K_ _ _ _ rfl
        · refine x_aload_n O 4 dX1_later_31 rfl rfl ?_
          refine x_get O k_X1_29_1 XR.o0 (v := .ref (adr 1000)) rfl dX1_later_32 ?_
          refine x_iload O 0 dX1_later_35 rfl ?_
          refine x_cV O 1 (c_h_isSeen (XR.hr (μ := μ) hI rfl : HR G κe adr _ _ 1000 (μ 1) (XR G κe κ adr μ ρ)) i5_19 (by omega)) (XR.hr (μ := μ) hI rfl : HR G κe adr _ _ 1000 (μ 1) (XR G κe κ adr μ ρ)).obj rfl (lw_V q1335 q496 q497 q109 q498) rfl hd_X4_isSeen rfl (by rw [RF]; rfl) (by rw [RL]; rfl) (by rw [RC, RS]; decide) rfl rfl dX1_later_37 ?_
          refine x_top (v' := b2i (h_isSeen (μ 1) i5_19)) rfl ?_
          have J14 : ∀ (y8 : Nat) (y9 : Nat) (y10 : Nat), y8 = (if h_isSeen (μ 1) i5_19 = true then (if (μ 1 (349 + 6 * i5_19)) = 0 then v4_19 + ((if (h_mayBe (μ 1) i5_19) = 0 then 1 else 0)) else v4_19) else v4_19) → y9 = (if h_isSeen (μ 1) i5_19 = true then (if (μ 1 (349 + 6 * i5_19)) = 0 then v3_19 + ((if (fr (fun i s => x_later_b127 (μ 1) i5_19 i s) (tn (μ 1 0)) 0 (if (h_mayBe (μ 1) i5_19) = 0 then false else true)) = true then 1 else 0)) else v3_19) else v3_19) → y10 = (if h_isSeen (μ 1) i5_19 = true then v2_19 + ((if (μ 1 (349 + 6 * i5_19)) = (nI 3) then (if (μ 1 (352 + 6 * i5_19)) ≤ (μ 1 8) then 0 else 1) else 0)) else v2_19) → X G F R Q 10 218 [(4, .int (nI y8)), (3, .int (nI y9)), (2, .int (nI y10)), (5, .int (nI i5_19)), (0, .ref (adr 0)), (1, .int what)] [] (XR G κe κ adr μ ρ) 1 6 := by
            intro y8 y9 y10 e15 e16 e17
            subst e15; subst e16; subst e17
            refine x_iincN O 3 [(5, .int (nI (i5_19 + 1))), (4, .int (nI ((if h_isSeen (μ 1) i5_19 = true then (if (μ 1 (349 + 6 * i5_19)) = 0 then v4_19 + ((if (h_mayBe (μ 1) i5_19) = 0 then 1 else 0)) else v4_19) else v4_19)))), (3, .int (nI ((if h_isSeen (μ 1) i5_19 = true then (if (μ 1 (349 + 6 * i5_19)) = 0 then v3_19 + ((if (fr (fun i s => x_later_b127 (μ 1) i5_19 i s) (tn (μ 1 0)) 0 (if (h_mayBe (μ 1) i5_19) = 0 then false else true)) = true then 1 else 0)) else v3_19) else v3_19)))), (2, .int (nI ((if h_isSeen (μ 1) i5_19 = true then v2_19 + ((if (μ 1 (349 + 6 * i5_19)) = (nI 3) then (if (μ 1 (352 + 6 * i5_19)) ≤ (μ 1 8) then 0 else 1) else 0)) else v2_19)))), (0, .ref (adr 0)), (1, .int what)] dX1_later_218 rfl rfl rfl ?_
            refine x_goto O 19 dX1_later_221 (by decide) ?_
            obtain ⟨c2_, rfl⟩ : ∃ z, cc_ = z + 1 := ⟨cc_ - 1, by omega⟩
            have hs_ : (fun i s => x_later_b19 (μ 1) i s.1 s.2.1 s.2.2) i5_19 (v4_19, v3_19, v2_19) = ((if h_isSeen (μ 1) i5_19 = true then (if (μ 1 (349 + 6 * i5_19)) = 0 then v4_19 + ((if (h_mayBe (μ 1) i5_19) = 0 then 1 else 0)) else v4_19) else v4_19), (if h_isSeen (μ 1) i5_19 = true then (if (μ 1 (349 + 6 * i5_19)) = 0 then v3_19 + ((if (fr (fun i s => x_later_b127 (μ 1) i5_19 i s) (tn (μ 1 0)) 0 (if (h_mayBe (μ 1) i5_19) = 0 then false else true)) = true then 1 else 0)) else v3_19) else v3_19), (if h_isSeen (μ 1) i5_19 = true then v2_19 + ((if (μ 1 (349 + 6 * i5_19)) = (nI 3) then (if (μ 1 (352 + 6 * i5_19)) ≤ (μ 1 8) then 0 else 1) else 0)) else v2_19)) := by show x_later_b19 (μ 1) i5_19 v4_19 v3_19 v2_19 = _; unfold x_later_b19; rfl
            exact IH_ c2_ (by omega) _ _ _ _ (by omega) (by omega) (fun y0 y1 y2 hy_ => K_ y0 y1 y2 (hy_.trans (fr_step hs_).symm))
          refine x_ifneB O 46 dX1_later_40 (by decide) (fun c40 => ?_) (fun c40 => ?_)
          · refine x_aload_n O 4 dX1_later_46 rfl rfl ?_
            refine x_get O k_X1_29_1 XR.o0 (v := .ref (adr 1000)) rfl dX1_later_47 ?_
            refine x_hget O (XR.hr (μ := μ) hI rfl : HR G κe adr _ _ 1000 (μ 1) (XR G κe κ adr μ ρ)) k_X1_82_4 rfl dX1_later_50 ?_
            refine x_iload O 0 dX1_later_53 rfl ?_
            refine x_hfind O (XR.hr (μ := μ) hI rfl : HR G κe adr _ _ 1000 (μ 1) (XR G κe κ adr μ ρ)) (by omega) dX1_later_55 (fun q1 hq2 => ?_)
            refine x_astore O [(6, .ref q1), (5, .int (nI i5_19)), (4, .int (nI v4_19)), (3, .int (nI v3_19)), (2, .int (nI v2_19)), (0, .ref (adr 0)), (1, .int what)] dX1_later_56 rfl rfl ?_
            refine x_iload_n O 4 dX1_later_58 rfl rfl ?_
            refine x_aload O 0 dX1_later_59 rfl ?_
            refine x_fkind O (f := i5_19) (w := μ 1) q1317 ((XR.hr (μ := μ) hI rfl : HR G κe adr _ _ 1000 (μ 1) (XR G κe κ adr μ ρ)).fr hq2) (hkind i5_19 (by omega)) (by rw [RF]; rfl) (by rw [RL]; rfl) (by rw [RC, RS]; decide) rfl dX1_later_61 ?_
            refine x_iconst O (nI 3) dX1_later_64 (by decide) ?_
            have J18 : ∀ (y3 : Nat), y3 = (if (μ 1 (349 + 6 * i5_19)) = (nI 3) then (if (μ 1 (352 + 6 * i5_19)) ≤ (μ 1 8) then 0 else 1) else 0) → X G F R Q 10 88 [(6, .ref q1), (5, .int (nI i5_19)), (4, .int (nI v4_19)), (3, .int (nI v3_19)), (0, .ref (adr 0)), (1, .int what)] [.int (nI y3), .int (nI v2_19)] (XR G κe κ adr μ ρ) 1 6 := by
              intro y3 e19
              subst e19
              refine x_iaddN O dX1_later_88 ?_
              refine x_istore_n O [(2, .int (nI (v2_19 + ((if (μ 1 (349 + 6 * i5_19)) = (nI 3) then (if (μ 1 (352 + 6 * i5_19)) ≤ (μ 1 8) then 0 else 1) else 0))))), (6, .ref q1), (5, .int (nI i5_19)), (4, .int (nI v4_19)), (3, .int (nI v3_19)), (0, .ref (adr 0)), (1, .int what)] dX1_later_89 rfl rfl rfl ?_
              refine x_aload O 1 dX1_later_90 rfl ?_
              refine x_fkind O (f := i5_19) (w := μ 1) q1317 ((XR.hr (μ := μ) hI rfl : HR G κe adr _ _ 1000 (μ 1) (XR G κe κ adr μ ρ)).fr hq2) (hkind i5_19 (by omega)) (by rw [RF]; rfl) (by rw [RL]; rfl) (by rw [RC, RS]; decide) rfl dX1_later_92 ?_
              refine x_ifeq O 101 dX1_later_95 (by decide) (fun c95 => ?_) (fun c95 => ?_)
              · refine x_aload_n O 5 dX1_later_101 rfl rfl ?_
                refine x_get O k_X1_29_1 XR.o0 (v := .ref (adr 1000)) rfl dX1_later_102 ?_
                refine x_aload O 1 dX1_later_105 rfl ?_
                refine x_cV O 1 (c_h_mayBe (XR.hr (μ := μ) hI rfl : HR G κe adr _ _ 1000 (μ 1) (XR G κe κ adr μ ρ)) hI hkind i5_19 (by omega) _ hq2) (XR.hr (μ := μ) hI rfl : HR G κe adr _ _ 1000 (μ 1) (XR G κe κ adr μ ρ)).obj rfl (lw_V q1336 q1337 q1338 q109 q1339) rfl hd_X4_mayBe rfl (by rw [RF]; rfl) (by rw [RL]; rfl) (by rw [RC, RS]; decide) rfl rfl dX1_later_107 ?_
                refine x_top (v' := h_mayBe (μ 1) i5_19) rfl ?_
                refine x_istore O [(7, .int (h_mayBe (μ 1) i5_19)), (2, .int (nI (v2_19 + ((if (μ 1 (349 + 6 * i5_19)) = (nI 3) then (if (μ 1 (352 + 6 * i5_19)) ≤ (μ 1 8) then 0 else 1) else 0))))), (6, .ref q1), (5, .int (nI i5_19)), (4, .int (nI v4_19)), (3, .int (nI v3_19)), (0, .ref (adr 0)), (1, .int what)] dX1_later_110 rfl rfl ?_
                refine x_sub [0, 1, 3, 4, 5, 6, 7] (L' := [(7, .int (h_mayBe (μ 1) i5_19)), (2, .int (nI (v2_19 + ((if (μ 1 (349 + 6 * i5_19)) = (nI 3) then (if (μ 1 (352 + 6 * i5_19)) ≤ (μ 1 8) then 0 else 1) else 0))))), (5, .int (nI i5_19)), (4, .int (nI v4_19)), (3, .int (nI v3_19)), (0, .ref (adr 0)), (1, .int what)]) rfl ?_
                refine x_iload O 0 dX1_later_112 rfl ?_
                have J20 : ∀ (y4 : Bool), y4 = (if (h_mayBe (μ 1) i5_19) = 0 then false else true) → X G F R Q 10 122 [(7, .int (h_mayBe (μ 1) i5_19)), (2, .int (nI (v2_19 + ((if (μ 1 (349 + 6 * i5_19)) = (nI 3) then (if (μ 1 (352 + 6 * i5_19)) ≤ (μ 1 8) then 0 else 1) else 0))))), (5, .int (nI i5_19)), (4, .int (nI v4_19)), (3, .int (nI v3_19)), (0, .ref (adr 0)), (1, .int what)] [.int (b2i y4)] (XR G κe κ adr μ ρ) 1 6 := by
                  intro y4 e21
                  subst e21
                  refine x_istore O [(8, .int (b2i ((if (h_mayBe (μ 1) i5_19) = 0 then false else true)))), (7, .int (h_mayBe (μ 1) i5_19)), (2, .int (nI (v2_19 + ((if (μ 1 (349 + 6 * i5_19)) = (nI 3) then (if (μ 1 (352 + 6 * i5_19)) ≤ (μ 1 8) then 0 else 1) else 0))))), (5, .int (nI i5_19)), (4, .int (nI v4_19)), (3, .int (nI v3_19)), (0, .ref (adr 0)), (1, .int what)] dX1_later_122 rfl rfl ?_
                  refine x_iconst O (nI 0) dX1_later_124 (by decide) ?_
                  refine x_istore O [(9, .int (nI 0)), (8, .int (b2i ((if (h_mayBe (μ 1) i5_19) = 0 then false else true)))), (7, .int (h_mayBe (μ 1) i5_19)), (2, .int (nI (v2_19 + ((if (μ 1 (349 + 6 * i5_19)) = (nI 3) then (if (μ 1 (352 + 6 * i5_19)) ≤ (μ 1 8) then 0 else 1) else 0))))), (5, .int (nI i5_19)), (4, .int (nI v4_19)), (3, .int (nI v3_19)), (0, .ref (adr 0)), (1, .int what)] dX1_later_125 rfl rfl ?_
                  have LOOP127 : ∀ (cc_ : Nat) (i9_127 : Nat) (v8_127 : Bool), cc_ = tn (μ 1 0) - i9_127 → i9_127 < 2147483648 → (∀ (y0 : Bool), y0 = fr (fun i s => x_later_b127 (μ 1) i5_19 i s) cc_ i9_127 v8_127 → X G F R Q 10 190 [(8, .int (b2i y0)), (7, .int (h_mayBe (μ 1) i5_19)), (2, .int (nI (v2_19 + ((if (μ 1 (349 + 6 * i5_19)) = (nI 3) then (if (μ 1 (352 + 6 * i5_19)) ≤ (μ 1 8) then 0 else 1) else 0))))), (5, .int (nI i5_19)), (4, .int (nI v4_19)), (3, .int (nI v3_19)), (0, .ref (adr 0)), (1, .int what)] [] (XR G κe κ adr μ ρ) 1 6) → X G F R Q 10 127 [(9, .int (nI i9_127)), (8, .int (b2i v8_127)), (7, .int (h_mayBe (μ 1) i5_19)), (2, .int (nI (v2_19 + ((if (μ 1 (349 + 6 * i5_19)) = (nI 3) then (if (μ 1 (352 + 6 * i5_19)) ≤ (μ 1 8) then 0 else 1) else 0))))), (5, .int (nI i5_19)), (4, .int (nI v4_19)), (3, .int (nI v3_19)), (0, .ref (adr 0)), (1, .int what)] [] (XR G κe κ adr μ ρ) 1 6 := by
                    intro cc_
                    induction cc_ using Nat.strongRecOn with
                    | ind cc_ IH_ =>
                      intro i9_127 v8_127 hc_ hb_  K_
                      refine x_iload O 0 dX1_later_127 rfl ?_
                      refine x_aload_n O 7 dX1_later_129 rfl rfl ?_
                      refine x_get O k_X1_29_1 XR.o0 (v := .ref (adr 1000)) rfl dX1_later_130 ?_
                      refine x_hget O (XR.hr (μ := μ) hI rfl : HR G κe adr _ _ 1000 (μ 1) (XR G κe κ adr μ ρ)) k_X1_76_4 rfl dX1_later_133 ?_
                      refine x_top (v' := nI (tn (μ 1 0))) (hI 0 (by decide)).1 ?_
                      refine x_icmpgeN O 190 (by omega) (by omega) dX1_later_136 (by decide) (fun c136 => ?_) (fun c136 => ?_)
                      · refine x_sub [1, 2, 3, 4, 5, 6, 7, 8] (L' := [(8, .int (b2i v8_127)), (7, .int (h_mayBe (μ 1) i5_19)), (2, .int (nI (v2_19 + ((if (μ 1 (349 + 6 * i5_19)) = (nI 3) then (if (μ 1 (352 + 6 * i5_19)) ≤ (μ 1 8) then 0 else 1) else 0))))), (5, .int (nI i5_19)), (4, .int (nI v4_19)), (3, .int (nI v3_19)), (0, .ref (adr 0)), (1, .int what)]) rfl ?_
                        obtain rfl : cc_ = 0 := by omega
                        exact K_ _ rfl
                      · refine x_iload O 1 dX1_later_139 rfl ?_
                        have J22 : ∀ (y5 : Bool), y5 = (if v8_127 = true then (if (((h_mayBe (μ 1) i5_19) >>> ((nI i9_127) &&& 31)) &&& (nI 1)) = 0 then true else (if (μ 1 (271 + 4 * i9_127)) ≤ (μ 1 8) then false else true)) else false) → X G F R Q 10 182 [(9, .int (nI i9_127)), (7, .int (h_mayBe (μ 1) i5_19)), (2, .int (nI (v2_19 + ((if (μ 1 (349 + 6 * i5_19)) = (nI 3) then (if (μ 1 (352 + 6 * i5_19)) ≤ (μ 1 8) then 0 else 1) else 0))))), (5, .int (nI i5_19)), (4, .int (nI v4_19)), (3, .int (nI v3_19)), (0, .ref (adr 0)), (1, .int what)] [.int (b2i y5)] (XR G κe κ adr μ ρ) 1 6 := by
                          intro y5 e23
                          subst e23
                          refine x_istore O [(8, .int (b2i ((if v8_127 = true then (if (((h_mayBe (μ 1) i5_19) >>> ((nI i9_127) &&& 31)) &&& (nI 1)) = 0 then true else (if (μ 1 (271 + 4 * i9_127)) ≤ (μ 1 8) then false else true)) else false)))), (9, .int (nI i9_127)), (7, .int (h_mayBe (μ 1) i5_19)), (2, .int (nI (v2_19 + ((if (μ 1 (349 + 6 * i5_19)) = (nI 3) then (if (μ 1 (352 + 6 * i5_19)) ≤ (μ 1 8) then 0 else 1) else 0))))), (5, .int (nI i5_19)), (4, .int (nI v4_19)), (3, .int (nI v3_19)), (0, .ref (adr 0)), (1, .int what)] dX1_later_182 rfl rfl ?_
                          refine x_iincN O 1 [(9, .int (nI (i9_127 + 1))), (8, .int (b2i ((if v8_127 = true then (if (((h_mayBe (μ 1) i5_19) >>> ((nI i9_127) &&& 31)) &&& (nI 1)) = 0 then true else (if (μ 1 (271 + 4 * i9_127)) ≤ (μ 1 8) then false else true)) else false)))), (7, .int (h_mayBe (μ 1) i5_19)), (2, .int (nI (v2_19 + ((if (μ 1 (349 + 6 * i5_19)) = (nI 3) then (if (μ 1 (352 + 6 * i5_19)) ≤ (μ 1 8) then 0 else 1) else 0))))), (5, .int (nI i5_19)), (4, .int (nI v4_19)), (3, .int (nI v3_19)), (0, .ref (adr 0)), (1, .int what)] dX1_later_184 rfl rfl rfl ?_
                          refine x_goto O 127 dX1_later_187 (by decide) ?_
                          obtain ⟨c2_, rfl⟩ : ∃ z, cc_ = z + 1 := ⟨cc_ - 1, by omega⟩
                          have hs_ : (fun i s => x_later_b127 (μ 1) i5_19 i s) i9_127 v8_127 = (if v8_127 = true then (if (((h_mayBe (μ 1) i5_19) >>> ((nI i9_127) &&& 31)) &&& (nI 1)) = 0 then true else (if (μ 1 (271 + 4 * i9_127)) ≤ (μ 1 8) then false else true)) else false) := by show x_later_b127 (μ 1) i5_19 i9_127 v8_127 = _; unfold x_later_b127; rfl
                          exact IH_ c2_ (by omega) _ _ (by omega) (by omega) (fun y0 hy_ => K_ y0 (hy_.trans (fr_step hs_).symm))
                        refine x_ifeqB O 181 dX1_later_141 (by decide) (fun c141 => ?_) (fun c141 => ?_)
                        · refine x_sub [0, 2, 3, 4, 5, 6, 7, 8] (L' := [(9, .int (nI i9_127)), (7, .int (h_mayBe (μ 1) i5_19)), (2, .int (nI (v2_19 + ((if (μ 1 (349 + 6 * i5_19)) = (nI 3) then (if (μ 1 (352 + 6 * i5_19)) ≤ (μ 1 8) then 0 else 1) else 0))))), (5, .int (nI i5_19)), (4, .int (nI v4_19)), (3, .int (nI v3_19)), (0, .ref (adr 0)), (1, .int what)]) rfl ?_
                          refine x_iconst O (nI 0) dX1_later_181 (by decide) ?_
                          refine x_top (v' := b2i false) (by decide) ?_
                          exact J22 false (by rw [if_neg c141])
                        · refine x_sub [0, 2, 3, 4, 5, 6, 7, 8] (L' := [(9, .int (nI i9_127)), (7, .int (h_mayBe (μ 1) i5_19)), (2, .int (nI (v2_19 + ((if (μ 1 (349 + 6 * i5_19)) = (nI 3) then (if (μ 1 (352 + 6 * i5_19)) ≤ (μ 1 8) then 0 else 1) else 0))))), (5, .int (nI i5_19)), (4, .int (nI v4_19)), (3, .int (nI v3_19)), (0, .ref (adr 0)), (1, .int what)]) rfl ?_
                          refine x_iload O 1 dX1_later_144 rfl ?_
                          refine x_iload O 0 dX1_later_146 rfl ?_
                          refine x_ishr O dX1_later_148 ?_
                          refine x_iconst O (nI 1) dX1_later_149 (by decide) ?_
                          refine x_iand O dX1_later_150 ?_
                          refine x_ifeq O 177 dX1_later_151 (by decide) (fun c151 => ?_) (fun c151 => ?_)
                          · refine x_iconst O (nI 1) dX1_later_177 (by decide) ?_
                            refine x_goto O 182 dX1_later_178 (by decide) ?_
                            refine x_top (v' := b2i true) (by decide) ?_
                            exact J22 true (by first | (rw [if_pos c141, if_pos c151]; done) | simp only [if_pos c141, if_pos c151])
                          · refine x_aload_n O 6 dX1_later_154 rfl rfl ?_
                            refine x_get O k_X1_29_1 XR.o0 (v := .ref (adr 1000)) rfl dX1_later_155 ?_
                            refine x_hget O (XR.hr (μ := μ) hI rfl : HR G κe adr _ _ 1000 (μ 1) (XR G κe κ adr μ ρ)) k_X1_121_4 rfl dX1_later_158 ?_
                            refine x_iload O 0 dX1_later_161 rfl ?_
                            refine x_hgun O (XR.hr (μ := μ) hI rfl : HR G κe adr _ _ 1000 (μ 1) (XR G κe κ adr μ ρ)) (by omega) dX1_later_163 ?_
                            refine x_get O k_X1_276_7 ((XR.hr (μ := μ) hI rfl : HR G κe adr _ _ 1000 (μ 1) (XR G κe κ adr μ ρ)).gun (by omega)) (v := .int (μ 1 (271 + 4 * i9_127))) rfl dX1_later_164 ?_
                            refine x_aload_n O 6 dX1_later_167 rfl rfl ?_
                            refine x_get O k_X1_29_1 XR.o0 (v := .ref (adr 1000)) rfl dX1_later_168 ?_
                            refine x_hget O (XR.hr (μ := μ) hI rfl : HR G κe adr _ _ 1000 (μ 1) (XR G κe κ adr μ ρ)) k_X1_130_4 rfl dX1_later_171 ?_
                            refine x_icmple O 181 dX1_later_174 (by decide) (fun c174 => ?_) (fun c174 => ?_)
                            · refine x_iconst O (nI 0) dX1_later_181 (by decide) ?_
                              refine x_top (v' := b2i false) (by decide) ?_
                              exact J22 false (by first | (rw [if_pos c141, if_neg c151, if_pos c174]; done) | simp only [if_pos c141, if_neg c151, if_pos c174])
                            · refine x_iconst O (nI 1) dX1_later_177 (by decide) ?_
                              refine x_goto O 182 dX1_later_178 (by decide) ?_
                              refine x_top (v' := b2i true) (by decide) ?_
                              exact J22 true (by first | (rw [if_pos c141, if_neg c151, if_neg c174]; done) | simp only [if_pos c141, if_neg c151, if_neg c174])
                  refine LOOP127 (tn (μ 1 0)) 0 ((if (h_mayBe (μ 1) i5_19) = 0 then false else true)) rfl (by omega) (fun y0 hy_127 => ?_)
                  subst hy_127
                  refine x_iload_n O 5 dX1_later_190 rfl rfl ?_
                  refine x_iload O 0 dX1_later_191 rfl ?_
                  have J24 : ∀ (y6 : Nat), y6 = (if (fr (fun i s => x_later_b127 (μ 1) i5_19 i s) (tn (μ 1 0)) 0 (if (h_mayBe (μ 1) i5_19) = 0 then false else true)) = true then 1 else 0) → X G F R Q 10 201 [(7, .int (h_mayBe (μ 1) i5_19)), (2, .int (nI (v2_19 + ((if (μ 1 (349 + 6 * i5_19)) = (nI 3) then (if (μ 1 (352 + 6 * i5_19)) ≤ (μ 1 8) then 0 else 1) else 0))))), (5, .int (nI i5_19)), (4, .int (nI v4_19)), (0, .ref (adr 0)), (1, .int what)] [.int (nI y6), .int (nI v3_19)] (XR G κe κ adr μ ρ) 1 6 := by
                    intro y6 e25
                    subst e25
                    refine x_iaddN O dX1_later_201 ?_
                    refine x_istore_n O [(3, .int (nI (v3_19 + ((if (fr (fun i s => x_later_b127 (μ 1) i5_19 i s) (tn (μ 1 0)) 0 (if (h_mayBe (μ 1) i5_19) = 0 then false else true)) = true then 1 else 0))))), (7, .int (h_mayBe (μ 1) i5_19)), (2, .int (nI (v2_19 + ((if (μ 1 (349 + 6 * i5_19)) = (nI 3) then (if (μ 1 (352 + 6 * i5_19)) ≤ (μ 1 8) then 0 else 1) else 0))))), (5, .int (nI i5_19)), (4, .int (nI v4_19)), (0, .ref (adr 0)), (1, .int what)] dX1_later_202 rfl rfl rfl ?_
                    refine x_iload O 4 dX1_later_203 rfl ?_
                    refine x_iload O 1 dX1_later_205 rfl ?_
                    have J26 : ∀ (y7 : Nat), y7 = (if (h_mayBe (μ 1) i5_19) = 0 then 1 else 0) → X G F R Q 10 215 [(3, .int (nI (v3_19 + ((if (fr (fun i s => x_later_b127 (μ 1) i5_19 i s) (tn (μ 1 0)) 0 (if (h_mayBe (μ 1) i5_19) = 0 then false else true)) = true then 1 else 0))))), (2, .int (nI (v2_19 + ((if (μ 1 (349 + 6 * i5_19)) = (nI 3) then (if (μ 1 (352 + 6 * i5_19)) ≤ (μ 1 8) then 0 else 1) else 0))))), (5, .int (nI i5_19)), (0, .ref (adr 0)), (1, .int what)] [.int (nI y7), .int (nI v4_19)] (XR G κe κ adr μ ρ) 1 6 := by
                      intro y7 e27
                      subst e27
                      refine x_iaddN O dX1_later_215 ?_
                      refine x_istore O [(4, .int (nI (v4_19 + ((if (h_mayBe (μ 1) i5_19) = 0 then 1 else 0))))), (3, .int (nI (v3_19 + ((if (fr (fun i s => x_later_b127 (μ 1) i5_19 i s) (tn (μ 1 0)) 0 (if (h_mayBe (μ 1) i5_19) = 0 then false else true)) = true then 1 else 0))))), (2, .int (nI (v2_19 + ((if (μ 1 (349 + 6 * i5_19)) = (nI 3) then (if (μ 1 (352 + 6 * i5_19)) ≤ (μ 1 8) then 0 else 1) else 0))))), (5, .int (nI i5_19)), (0, .ref (adr 0)), (1, .int what)] dX1_later_216 rfl rfl ?_
                      exact J14 (v4_19 + ((if (h_mayBe (μ 1) i5_19) = 0 then 1 else 0))) (v3_19 + ((if (fr (fun i s => x_later_b127 (μ 1) i5_19 i s) (tn (μ 1 0)) 0 (if (h_mayBe (μ 1) i5_19) = 0 then false else true)) = true then 1 else 0))) (v2_19 + ((if (μ 1 (349 + 6 * i5_19)) = (nI 3) then (if (μ 1 (352 + 6 * i5_19)) ≤ (μ 1 8) then 0 else 1) else 0))) (by first | (rw [if_pos c40, if_pos c95]; done) | simp only [if_pos c40, if_pos c95]) (by first | (rw [if_pos c40, if_pos c95]; done) | simp only [if_pos c40, if_pos c95]) (by first | (rw [if_pos c40]; done) | simp only [if_pos c40])
                    refine x_ifne O 214 dX1_later_207 (by decide) (fun c207 => ?_) (fun c207 => ?_)
                    · refine x_sub [0, 2, 3, 5, 6] (L' := [(3, .int (nI (v3_19 + ((if (fr (fun i s => x_later_b127 (μ 1) i5_19 i s) (tn (μ 1 0)) 0 (if (h_mayBe (μ 1) i5_19) = 0 then false else true)) = true then 1 else 0))))), (2, .int (nI (v2_19 + ((if (μ 1 (349 + 6 * i5_19)) = (nI 3) then (if (μ 1 (352 + 6 * i5_19)) ≤ (μ 1 8) then 0 else 1) else 0))))), (5, .int (nI i5_19)), (0, .ref (adr 0)), (1, .int what)]) rfl ?_
                      refine x_iconst O (nI 0) dX1_later_214 (by decide) ?_
                      exact J26 0 (by rw [if_neg c207])
                    · refine x_sub [0, 2, 3, 5, 6] (L' := [(3, .int (nI (v3_19 + ((if (fr (fun i s => x_later_b127 (μ 1) i5_19 i s) (tn (μ 1 0)) 0 (if (h_mayBe (μ 1) i5_19) = 0 then false else true)) = true then 1 else 0))))), (2, .int (nI (v2_19 + ((if (μ 1 (349 + 6 * i5_19)) = (nI 3) then (if (μ 1 (352 + 6 * i5_19)) ≤ (μ 1 8) then 0 else 1) else 0))))), (5, .int (nI i5_19)), (0, .ref (adr 0)), (1, .int what)]) rfl ?_
                      refine x_iconst O (nI 1) dX1_later_210 (by decide) ?_
                      refine x_goto O 215 dX1_later_211 (by decide) ?_
                      exact J26 1 (by rw [if_pos c207])
                  refine x_ifeqB O 200 dX1_later_193 (by decide) (fun c193 => ?_) (fun c193 => ?_)
                  · refine x_sub [1, 2, 3, 4, 6, 7] (L' := [(7, .int (h_mayBe (μ 1) i5_19)), (2, .int (nI (v2_19 + ((if (μ 1 (349 + 6 * i5_19)) = (nI 3) then (if (μ 1 (352 + 6 * i5_19)) ≤ (μ 1 8) then 0 else 1) else 0))))), (5, .int (nI i5_19)), (4, .int (nI v4_19)), (0, .ref (adr 0)), (1, .int what)]) rfl ?_
                    refine x_iconst O (nI 0) dX1_later_200 (by decide) ?_
                    exact J24 0 (by rw [if_neg c193])
                  · refine x_sub [1, 2, 3, 4, 6, 7] (L' := [(7, .int (h_mayBe (μ 1) i5_19)), (2, .int (nI (v2_19 + ((if (μ 1 (349 + 6 * i5_19)) = (nI 3) then (if (μ 1 (352 + 6 * i5_19)) ≤ (μ 1 8) then 0 else 1) else 0))))), (5, .int (nI i5_19)), (4, .int (nI v4_19)), (0, .ref (adr 0)), (1, .int what)]) rfl ?_
                    refine x_iconst O (nI 1) dX1_later_196 (by decide) ?_
                    refine x_goto O 201 dX1_later_197 (by decide) ?_
                    exact J24 1 (by rw [if_pos c193])
                refine x_ifeq O 121 dX1_later_114 (by decide) (fun c114 => ?_) (fun c114 => ?_)
                · refine x_iconst O (nI 0) dX1_later_121 (by decide) ?_
                  refine x_top (v' := b2i false) (by decide) ?_
                  exact J20 false (by rw [if_pos c114])
                · refine x_iconst O (nI 1) dX1_later_117 (by decide) ?_
                  refine x_goto O 122 dX1_later_118 (by decide) ?_
                  refine x_top (v' := b2i true) (by decide) ?_
                  exact J20 true (by rw [if_neg c114])
              · refine x_sub [0, 2, 3, 4, 5, 6] (L' := [(2, .int (nI (v2_19 + ((if (μ 1 (349 + 6 * i5_19)) = (nI 3) then (if (μ 1 (352 + 6 * i5_19)) ≤ (μ 1 8) then 0 else 1) else 0))))), (5, .int (nI i5_19)), (4, .int (nI v4_19)), (3, .int (nI v3_19)), (0, .ref (adr 0)), (1, .int what)]) rfl ?_
                refine x_goto O 218 dX1_later_98 (by decide) ?_
                refine x_sub [2, 3, 0, 1, 4, 5] rfl ?_
                exact J14 v4_19 v3_19 (v2_19 + ((if (μ 1 (349 + 6 * i5_19)) = (nI 3) then (if (μ 1 (352 + 6 * i5_19)) ≤ (μ 1 8) then 0 else 1) else 0))) (by first | (rw [if_pos c40, if_neg c95]; done) | simp only [if_pos c40, if_neg c95]) (by first | (rw [if_pos c40, if_neg c95]; done) | simp only [if_pos c40, if_neg c95]) (by first | (rw [if_pos c40]; done) | simp only [if_pos c40])
            refine x_icmpne O 87 dX1_later_65 (by decide) (fun c65 => ?_) (fun c65 => ?_)
            · refine x_sub [0, 1, 2, 3, 5, 6] (L' := [(6, .ref q1), (5, .int (nI i5_19)), (4, .int (nI v4_19)), (3, .int (nI v3_19)), (0, .ref (adr 0)), (1, .int what)]) rfl ?_
              refine x_iconst O (nI 0) dX1_later_87 (by decide) ?_
              exact J18 0 (by rw [if_neg c65])
            · refine x_sub [0, 1, 2, 3, 5, 6] (L' := [(6, .ref q1), (5, .int (nI i5_19)), (4, .int (nI v4_19)), (3, .int (nI v3_19)), (0, .ref (adr 0)), (1, .int what)]) rfl ?_
              refine x_aload O 0 dX1_later_68 rfl ?_
              refine x_ftells O (f := i5_19) (w := μ 1) q1320 ((XR.hr (μ := μ) hI rfl : HR G κe adr _ _ 1000 (μ 1) (XR G κe κ adr μ ρ)).fr hq2) (by rw [RF]; rfl) (by rw [RL]; rfl) (by rw [RC, RS]; decide) rfl dX1_later_70 ?_
              refine x_aload_n O 4 dX1_later_73 rfl rfl ?_
              refine x_get O k_X1_29_1 XR.o0 (v := .ref (adr 1000)) rfl dX1_later_74 ?_
              refine x_hget O (XR.hr (μ := μ) hI rfl : HR G κe adr _ _ 1000 (μ 1) (XR G κe κ adr μ ρ)) k_X1_130_4 rfl dX1_later_77 ?_
              refine x_icmple O 87 dX1_later_80 (by decide) (fun c80 => ?_) (fun c80 => ?_)
              · refine x_iconst O (nI 0) dX1_later_87 (by decide) ?_
                exact J18 0 (by first | (rw [if_pos c65, if_pos c80]; done) | simp only [if_pos c65, if_pos c80])
              · refine x_iconst O (nI 1) dX1_later_83 (by decide) ?_
                refine x_goto O 88 dX1_later_84 (by decide) ?_
                exact J18 1 (by first | (rw [if_pos c65, if_neg c80]; done) | simp only [if_pos c65, if_neg c80])
          · refine x_goto O 218 dX1_later_43 (by decide) ?_
            refine x_sub [1, 2, 3, 0, 4, 5] rfl ?_
            exact J14 v4_19 v3_19 v2_19 (by rw [if_neg c40]) (by rw [if_neg c40]) (by rw [if_neg c40])
    refine LOOP19 (tn (μ 1 3)) 0 0 0 0 rfl (by omega) (fun y0 y1 y2 hy_19 => ?_)
    obtain rfl : y0 = (fr (fun i s => x_later_b19 (μ 1) i s.1 s.2.1 s.2.2) (tn (μ 1 3)) 0 (0, 0, 0)).1 := congrArg (fun z => z.1) hy_19
    obtain rfl : y1 = (fr (fun i s => x_later_b19 (μ 1) i s.1 s.2.1 s.2.2) (tn (μ 1 3)) 0 (0, 0, 0)).2.1 := congrArg (fun z => z.2.1) hy_19
    obtain rfl : y2 = (fr (fun i s => x_later_b19 (μ 1) i s.1 s.2.1 s.2.2) (tn (μ 1 3)) 0 (0, 0, 0)).2.2 := congrArg (fun z => z.2.2) hy_19
    refine x_iload_n O 4 dX1_later_224 rfl rfl ?_
    have J28 : ∀ (y11 : Nat), y11 = (if what = 0 then ((fr (fun i s => x_later_b19 (μ 1) i s.1 s.2.1 s.2.2) (tn (μ 1 3)) 0 (0, 0, 0)).2.2) + ((fr (fun i s => x_later_b19 (μ 1) i s.1 s.2.1 s.2.2) (tn (μ 1 3)) 0 (0, 0, 0)).2.1) else (if what = (nI 1) then (fr (fun i s => x_later_b19 (μ 1) i s.1 s.2.1 s.2.2) (tn (μ 1 3)) 0 (0, 0, 0)).2.1 else (fr (fun i s => x_later_b19 (μ 1) i s.1 s.2.1 s.2.2) (tn (μ 1 3)) 0 (0, 0, 0)).1)) → X G F R Q 10 245 [(0, .ref (adr 0))] [.int (nI y11)] (XR G κe κ adr μ ρ) 1 6 := by
      intro y11 e29
      subst e29
      refine x_widen (k' := 1) (n' := 6) (by decide) (by decide) ?_
      exact x_iretQ O hQ rfl dX1_later_245 (fun h m => ⟨by rw [hres], by rw [hr13], m⟩)
    refine x_ifne O 234 dX1_later_225 (by decide) (fun c225 => ?_) (fun c225 => ?_)
    · refine x_sub [0, 1, 3, 4] (L' := [(4, .int (nI ((fr (fun i s => x_later_b19 (μ 1) i s.1 s.2.1 s.2.2) (tn (μ 1 3)) 0 (0, 0, 0)).1))), (3, .int (nI ((fr (fun i s => x_later_b19 (μ 1) i s.1 s.2.1 s.2.2) (tn (μ 1 3)) 0 (0, 0, 0)).2.1))), (0, .ref (adr 0)), (1, .int what)]) rfl ?_
      refine x_iload_n O 3 dX1_later_234 rfl rfl ?_
      refine x_iconst O (nI 1) dX1_later_235 (by decide) ?_
      refine x_icmpne O 243 dX1_later_236 (by decide) (fun c236 => ?_) (fun c236 => ?_)
      · refine x_sub [0, 2] (L' := [(4, .int (nI ((fr (fun i s => x_later_b19 (μ 1) i s.1 s.2.1 s.2.2) (tn (μ 1 3)) 0 (0, 0, 0)).1))), (0, .ref (adr 0))]) rfl ?_
        refine x_iload O 0 dX1_later_243 rfl ?_
        refine x_sub [1] rfl ?_
        exact J28 ((fr (fun i s => x_later_b19 (μ 1) i s.1 s.2.1 s.2.2) (tn (μ 1 3)) 0 (0, 0, 0)).1) (by first | (rw [if_neg c225, if_neg c236]; done) | simp only [if_neg c225, if_neg c236])
      · refine x_sub [1, 2] (L' := [(3, .int (nI ((fr (fun i s => x_later_b19 (μ 1) i s.1 s.2.1 s.2.2) (tn (μ 1 3)) 0 (0, 0, 0)).2.1))), (0, .ref (adr 0))]) rfl ?_
        refine x_iload_n O 0 dX1_later_239 rfl rfl ?_
        refine x_goto O 245 dX1_later_240 (by decide) ?_
        refine x_sub [1] (L' := [(0, .ref (adr 0))]) rfl ?_
        exact J28 ((fr (fun i s => x_later_b19 (μ 1) i s.1 s.2.1 s.2.2) (tn (μ 1 3)) 0 (0, 0, 0)).2.1) (by first | (rw [if_neg c225, if_pos c236]; done) | simp only [if_neg c225, if_pos c236])
    · refine x_sub [1, 2, 3] (L' := [(3, .int (nI ((fr (fun i s => x_later_b19 (μ 1) i s.1 s.2.1 s.2.2) (tn (μ 1 3)) 0 (0, 0, 0)).2.1))), (2, .int (nI ((fr (fun i s => x_later_b19 (μ 1) i s.1 s.2.1 s.2.2) (tn (μ 1 3)) 0 (0, 0, 0)).2.2))), (0, .ref (adr 0))]) rfl ?_
      refine x_iload_n O 1 dX1_later_228 rfl rfl ?_
      refine x_iload_n O 0 dX1_later_229 rfl rfl ?_
      refine x_iaddN O dX1_later_230 ?_
      refine x_goto O 245 dX1_later_231 (by decide) ?_
      refine x_sub [2] (L' := [(0, .ref (adr 0))]) rfl ?_
      exact J28 (((fr (fun i s => x_later_b19 (μ 1) i s.1 s.2.1 s.2.2) (tn (μ 1 3)) 0 (0, 0, 0)).2.2) + ((fr (fun i s => x_later_b19 (μ 1) i s.1 s.2.1 s.2.2) (tn (μ 1 3)) 0 (0, 0, 0)).2.1)) (by rw [if_pos c225])

def x_could (W : Nat → Int32) (t : Int32) (fits : Bool) : Bool :=
  (if fits = true then h_fits W (tn t) else h_could W (tn t))
def x_could_e (W : Nat → Int32) (t : Int32) (fits : Bool) : Nat :=
  (if eIf (z_isIn t (nI 0) ((nI (tn (W 5))) - (nI 1))) 1 = 0 then 0 else eIf (z_isIn t (nI 0) ((nI (tn (W 5))) - (nI 1))) 1)
set_option maxHeartbeats 1000000 in
set_option maxRecDepth 100000 in
theorem c_x_could {G : UG} {κe κ : Hp} {adr : Nat → Nat} {μ : Mu} {ρ : List Nat} (hI : MI (μ 1)) (hkind : ∀ f : Nat, f < tn (μ 1 3) → μ 1 (349 + 6 * f) = 0 ∨ μ 1 (349 + 6 * f) = 1 ∨ μ 1 (349 + 6 * f) = 2 ∨ μ 1 (349 + 6 * f) = 3) (hJ : MJ (μ 1)) (hT : ∀ t, t < tn (μ 1 5) → tn (μ 1 (1101 + 3 * t)) < tn (μ 1 4)) (t : Int32) (fits : Bool)  : Con G yX1_could cX1_could 4 (some .boolean) 7 116 1 6 [.ref (adr 0), .int t, .int (b2i fits)] (XR G κe κ adr μ ρ) (fun vr_ h' => vr_ = some (.int (b2i (x_could (μ 1) t fits))) ∧ (x_could_e (μ 1) t fits) = 0 ∧ XR G κe κ adr μ ρ h') (fun E_ _ h' => ¬ (x_could_e (μ 1) t fits) = 0 ∧ E_ = exN (x_could_e (μ 1) t fits) ∧ XR G κe κ adr μ ρ h') := by
  refine con_of2 (plainFor_of_name (by decide)) rfl ?_
  intro F R Q RF RL RC RS hQ O hnh hnm
  obtain ⟨res, hres⟩ : ∃ z, z = (x_could (μ 1) t fits) := ⟨_, rfl⟩
  rw [← hres] at hQ
  unfold x_could at hres
  obtain ⟨rcd, hrcd⟩ : ∃ z, z = (x_could_e (μ 1) t fits) := ⟨_, rfl⟩
  rw [← hrcd] at hQ
  unfold x_could_e at hrcd
  have hb5 : tn (μ 1 5) ≤ 20 := (hI 5 (by decide)).2
  refine x_eq (L' := [(0, .ref (adr 0)), (1, .int t), (2, .int (b2i fits))]) ?_ rfl rfl rfl
  refine x_iload_n O 1 dX1_could_0 rfl rfl ?_
  refine x_iconst O (nI 0) dX1_could_1 (by decide) ?_
  refine x_aload_n O 0 dX1_could_2 rfl rfl ?_
  refine x_get O k_X1_29_1 XR.o0 (v := .ref (adr 1000)) rfl dX1_could_3 ?_
  refine x_hget O (XR.hr (μ := μ) hI rfl : HR G κe adr _ _ 1000 (μ 1) (XR G κe κ adr μ ρ)) k_X1_332_4 rfl dX1_could_6 ?_
  refine x_top (v' := nI (tn (μ 1 5))) (hI 5 (by decide)).1 ?_
  refine x_iconst O (nI 1) dX1_could_9 (by decide) ?_
  refine x_isub O dX1_could_10 ?_
  refine x_cS O 3 (c_z_isIn t (nI 0) ((nI (tn (μ 1 5))) - (nI 1))) (lw_S q476 q477 q103 q478) hd_X1_isIn rfl (by rw [RF]; rfl) (by rw [RL]; rfl) ⟨Nat.zero_le _, Nat.zero_le _⟩ rfl rfl dX1_could_11 ?_
  refine x_top (v' := b2i (z_isIn t (nI 0) ((nI (tn (μ 1 5))) - (nI 1)))) rfl ?_
  refine x_runE O hQ hnh (r_S O 1 (c_e_mustBe (z_isIn t (nI 0) ((nI (tn (μ 1 5))) - (nI 1)))) (lw_S q714 q715 q103 q716) hd_X1_mustBe rfl (by rw [RF]; rfl) (by rw [RL]; rfl) (by rw [RC, RS]; decide) rfl rfl dX1_could_14) (by decide) (by decide) (fun c14 => ?_) (fun c14 => ?_)
  · have hr4 := hrcd.trans (if_neg c14)
    exact fun q h m => ⟨by rw [hr4]; exact c14, by rw [hr4], m⟩
  · have hr5 := hrcd.trans (if_pos c14)
    have hx14 := (isK_lt c14 (by omega)).2
    refine x_aload_n O 0 dX1_could_17 rfl rfl ?_
    refine x_get O k_X1_29_1 XR.o0 (v := .ref (adr 1000)) rfl dX1_could_18 ?_
    refine x_hget O (XR.hr (μ := μ) hI rfl : HR G κe adr _ _ 1000 (μ 1) (XR G κe κ adr μ ρ)) k_X1_335_4 rfl dX1_could_21 ?_
    refine x_iload_n O 1 dX1_could_24 rfl rfl ?_
    refine x_top (v' := nI (tn t)) (isK_lt c14 (by omega)).1 ?_
    refine x_htelling O (XR.hr (μ := μ) hI rfl : HR G κe adr _ _ 1000 (μ 1) (XR G κe κ adr μ ρ)) (by omega) dX1_could_25 (fun q1 hq2 => ?_)
    refine x_astore_n O [(3, .ref q1), (0, .ref (adr 0)), (1, .int t), (2, .int (b2i fits))] dX1_could_26 rfl rfl rfl ?_
    refine x_sub [0, 1, 3] (L' := [(3, .ref q1), (0, .ref (adr 0)), (2, .int (b2i fits))]) rfl ?_
    refine x_iload_n O 2 dX1_could_27 rfl rfl ?_
    have J6 : ∀ (y3 : Bool), y3 = (if fits = true then h_fits (μ 1) (tn t) else h_could (μ 1) (tn t)) → X G F R Q 4 50 [(0, .ref (adr 0))] [.int (b2i y3)] (XR G κe κ adr μ ρ) 1 6 := by
      intro y3 e7
      subst e7
      refine x_widen (k' := 1) (n' := 6) (by decide) (by decide) ?_
      exact x_zretQ O hQ rfl dX1_could_50 (fun h m => ⟨by rw [hres], by rw [hr5], m⟩)
    refine x_ifeqB O 42 dX1_could_28 (by decide) (fun c28 => ?_) (fun c28 => ?_)
    · refine x_sub [0, 1] (L' := [(3, .ref q1), (0, .ref (adr 0))]) rfl ?_
      refine x_aload_n O 1 dX1_could_42 rfl rfl ?_
      refine x_get O k_X1_29_1 XR.o0 (v := .ref (adr 1000)) rfl dX1_could_43 ?_
      refine x_aload_n O 0 dX1_could_46 rfl rfl ?_
      refine x_cV O 1 (c_h_could (XR.hr (μ := μ) hI rfl : HR G κe adr _ _ 1000 (μ 1) (XR G κe κ adr μ ρ)) hJ hT (tn t) (by omega) _ hq2) (XR.hr (μ := μ) hI rfl : HR G κe adr _ _ 1000 (μ 1) (XR G κe κ adr μ ρ)).obj rfl (lw_V q1580 q561 q562 q109 q563) rfl hd_X4_could rfl (by rw [RF]; rfl) (by rw [RL]; rfl) (by rw [RC, RS]; decide) rfl rfl dX1_could_47 ?_
      refine x_top (v' := b2i (h_could (μ 1) (tn t))) rfl ?_
      refine x_sub [1] rfl ?_
      exact J6 (h_could (μ 1) (tn t)) (by rw [if_neg c28])
    · refine x_sub [0, 1] (L' := [(3, .ref q1), (0, .ref (adr 0))]) rfl ?_
      refine x_aload_n O 1 dX1_could_31 rfl rfl ?_
      refine x_get O k_X1_29_1 XR.o0 (v := .ref (adr 1000)) rfl dX1_could_32 ?_
      refine x_aload_n O 0 dX1_could_35 rfl rfl ?_
      refine x_cV O 1 (c_h_fits (XR.hr (μ := μ) hI rfl : HR G κe adr _ _ 1000 (μ 1) (XR G κe κ adr μ ρ)) hI hkind hJ hT (tn t) (by omega) _ hq2) (XR.hr (μ := μ) hI rfl : HR G κe adr _ _ 1000 (μ 1) (XR G κe κ adr μ ρ)).obj rfl (lw_V q526 q527 q528 q109 q529) rfl hd_X4_fits rfl (by rw [RF]; rfl) (by rw [RL]; rfl) (by rw [RC, RS]; decide) rfl rfl dX1_could_36 ?_
      refine x_top (v' := b2i (h_fits (μ 1) (tn t))) rfl ?_
      refine x_goto O 50 dX1_could_39 (by decide) ?_
      refine x_sub [1] (L' := [(0, .ref (adr 0))]) rfl ?_
      exact J6 (h_fits (μ 1) (tn t)) (by rw [if_pos c28])

def x_apart_b4 (W : Nat → Int32)  (i2_4 : Nat) (v1_4 : Int32) : Int32 :=
  v1_4 ||| ((if h_fits W i2_4 = true then (nI 1) <<< ((W (1101 + 3 * i2_4)) &&& 31) else nI 0))
def x_apart_b124 (W : Nat → Int32) (i3_65 : Nat) (i5_104 : Nat) (i6_124 : Nat) (v4_124 : Bool) : (Bool) ⊕ (Bool) :=
  (if v4_124 = true then .inl (if (((nI i3_65) >>> ((nI i5_104) &&& 31)) &&& (nI 1)) = 0 then true else (if (((nI i3_65) >>> ((nI i6_124) &&& 31)) &&& (nI 1)) = 0 then true else (if h_talked W i5_104 i6_124 = true then false else true))) else .inr v4_124)
def x_apart_b104 (W : Nat → Int32) (i3_65 : Nat) (i5_104 : Nat) (v4_104 : Bool) : (Bool) ⊕ (Bool) :=
  (if v4_104 = true then .inl (frb (fun i s => x_apart_b124 W i3_65 i5_104 i s) i5_104 0 v4_104) else .inr v4_104)
def x_apart_b65 (W : Nat → Int32)  (i3_65 : Nat) (v2_65 : Int32) : Int32 :=
  (if (frb (fun i s => x_apart_b104 W i3_65 i s) (tn (W 4)) 0 (if ((nI i3_65) &&& (((fr (fun i s => x_apart_b4 W i s) (tn (W 5)) 0 (nI 0))) ^^^ ((-1)))) = 0 then (if (j_bits (nI i3_65)) ≤ v2_65 then false else true) else false)) = true then j_bits (nI i3_65) else v2_65)
def x_apart (W : Nat → Int32)  : Int32 :=
  (fr (fun i s => x_apart_b65 W i s) (2 ^ tn (W 4)) 0 (nI 0))
set_option maxHeartbeats 1000000 in
set_option maxRecDepth 100000 in
theorem c_x_apart {G : UG} {κe κ : Hp} {adr : Nat → Nat} {μ : Mu} {ρ : List Nat} (hI : MI (μ 1)) (hkind : ∀ f : Nat, f < tn (μ 1 3) → μ 1 (349 + 6 * f) = 0 ∨ μ 1 (349 + 6 * f) = 1 ∨ μ 1 (349 + 6 * f) = 2 ∨ μ 1 (349 + 6 * f) = 3) (hJ : MJ (μ 1)) (hT : ∀ t, t < tn (μ 1 5) → tn (μ 1 (1101 + 3 * t)) < tn (μ 1 4))   : Con G yX1_apart cX1_apart 7 (some .int) 5 116 0 0 [.ref (adr 0)] (XR G κe κ adr μ ρ) (fun vr_ h' => vr_ = some (.int (x_apart (μ 1))) ∧ XR G κe κ adr μ ρ h') nX := by
  refine con_of2 (plainFor_of_name (by decide)) rfl ?_
  intro F R Q RF RL RC RS hQ O hnh hnm
  obtain ⟨res, hres⟩ : ∃ z, z = (x_apart (μ 1)) := ⟨_, rfl⟩
  rw [← hres] at hQ
  unfold x_apart at hres
  have hb4 : tn (μ 1 4) ≤ 8 := (hI 4 (by decide)).2
  have hb5 : tn (μ 1 5) ≤ 20 := (hI 5 (by decide)).2
  have hp0 := pow8 hb4
  refine x_eq (L' := [(0, .ref (adr 0))]) ?_ rfl rfl rfl
  refine x_iconst O (nI 0) dX1_apart_0 (by decide) ?_
  refine x_istore_n O [(1, .int (nI 0)), (0, .ref (adr 0))] dX1_apart_1 rfl rfl rfl ?_
  refine x_iconst O (nI 0) dX1_apart_2 (by decide) ?_
  refine x_istore_n O [(2, .int (nI 0)), (1, .int (nI 0)), (0, .ref (adr 0))] dX1_apart_3 rfl rfl rfl ?_
  have LOOP4 : ∀ (cc_ : Nat) (i2_4 : Nat) (v1_4 : Int32), cc_ = tn (μ 1 5) - i2_4 → i2_4 < 2147483648 → (∀ (y0 : Int32), y0 = fr (fun i s => x_apart_b4 (μ 1) i s) cc_ i2_4 v1_4 → X G F R Q 7 61 [(1, .int y0), (0, .ref (adr 0))] [] (XR G κe κ adr μ ρ) 0 0) → X G F R Q 7 4 [(2, .int (nI i2_4)), (1, .int v1_4), (0, .ref (adr 0))] [] (XR G κe κ adr μ ρ) 0 0 := by
    intro cc_
    induction cc_ using Nat.strongRecOn with
    | ind cc_ IH_ =>
      intro i2_4 v1_4 hc_ hb_  K_
      refine x_iload_n O 0 dX1_apart_4 rfl rfl ?_
      refine x_aload_n O 2 dX1_apart_5 rfl rfl ?_
      refine x_get O k_X1_29_1 XR.o0 (v := .ref (adr 1000)) rfl dX1_apart_6 ?_
      refine x_hget O (XR.hr (μ := μ) hI rfl : HR G κe adr _ _ 1000 (μ 1) (XR G κe κ adr μ ρ)) k_X1_332_4 rfl dX1_apart_9 ?_
      refine x_top (v' := nI (tn (μ 1 5))) (hI 5 (by decide)).1 ?_
      refine x_icmpgeN O 61 (by omega) (by omega) dX1_apart_12 (by decide) (fun c12 => ?_) (fun c12 => ?_)
      · refine x_sub [1, 2] (L' := [(1, .int v1_4), (0, .ref (adr 0))]) rfl ?_
        obtain rfl : cc_ = 0 := by omega
        exact K_ _ rfl
      · refine x_iload_n O 1 dX1_apart_15 rfl rfl ?_
        refine x_aload_n O 2 dX1_apart_16 rfl rfl ?_
        refine x_get O k_X1_29_1 XR.o0 (v := .ref (adr 1000)) rfl dX1_apart_17 ?_
        refine x_aload_n O 2 dX1_apart_20 rfl rfl ?_
        refine x_get O k_X1_29_1 XR.o0 (v := .ref (adr 1000)) rfl dX1_apart_21 ?_
        refine x_hget O (XR.hr (μ := μ) hI rfl : HR G κe adr _ _ 1000 (μ 1) (XR G κe κ adr μ ρ)) k_X1_335_4 rfl dX1_apart_24 ?_
        refine x_iload_n O 0 dX1_apart_27 rfl rfl ?_
        refine x_htelling O (XR.hr (μ := μ) hI rfl : HR G κe adr _ _ 1000 (μ 1) (XR G κe κ adr μ ρ)) (by omega) dX1_apart_28 (fun q1 hq2 => ?_)
        refine x_cV O 1 (c_h_fits (XR.hr (μ := μ) hI rfl : HR G κe adr _ _ 1000 (μ 1) (XR G κe κ adr μ ρ)) hI hkind hJ hT i2_4 (by omega) _ hq2) (XR.hr (μ := μ) hI rfl : HR G κe adr _ _ 1000 (μ 1) (XR G κe κ adr μ ρ)).obj rfl (lw_V q526 q527 q528 q109 q529) rfl hd_X4_fits rfl (by rw [RF]; rfl) (by rw [RL]; rfl) ⟨Nat.zero_le _, Nat.zero_le _⟩ rfl rfl dX1_apart_29 ?_
        refine x_top (v' := b2i (h_fits (μ 1) i2_4)) rfl ?_
        have J9 : ∀ (y5 : Int32), y5 = (if h_fits (μ 1) i2_4 = true then (nI 1) <<< ((μ 1 (1101 + 3 * i2_4)) &&& 31) else nI 0) → X G F R Q 7 53 [(2, .int (nI i2_4)), (0, .ref (adr 0))] [.int y5, .int v1_4] (XR G κe κ adr μ ρ) 0 0 := by
          intro y5 e10
          subst e10
          refine x_ior O dX1_apart_53 ?_
          refine x_istore_n O [(1, .int (v1_4 ||| ((if h_fits (μ 1) i2_4 = true then (nI 1) <<< ((μ 1 (1101 + 3 * i2_4)) &&& 31) else nI 0)))), (2, .int (nI i2_4)), (0, .ref (adr 0))] dX1_apart_54 rfl rfl rfl ?_
          refine x_iincN O 1 [(2, .int (nI (i2_4 + 1))), (1, .int (v1_4 ||| ((if h_fits (μ 1) i2_4 = true then (nI 1) <<< ((μ 1 (1101 + 3 * i2_4)) &&& 31) else nI 0)))), (0, .ref (adr 0))] dX1_apart_55 rfl rfl rfl ?_
          refine x_goto O 4 dX1_apart_58 (by decide) ?_
          obtain ⟨c2_, rfl⟩ : ∃ z, cc_ = z + 1 := ⟨cc_ - 1, by omega⟩
          have hs_ : (fun i s => x_apart_b4 (μ 1) i s) i2_4 v1_4 = v1_4 ||| ((if h_fits (μ 1) i2_4 = true then (nI 1) <<< ((μ 1 (1101 + 3 * i2_4)) &&& 31) else nI 0)) := by show x_apart_b4 (μ 1) i2_4 v1_4 = _; unfold x_apart_b4; rfl
          exact IH_ c2_ (by omega) _ _ (by omega) (by omega) (fun y0 hy_ => K_ y0 (hy_.trans (fr_step hs_).symm))
        refine x_ifeqB O 52 dX1_apart_32 (by decide) (fun c32 => ?_) (fun c32 => ?_)
        · refine x_sub [0, 2] (L' := [(2, .int (nI i2_4)), (0, .ref (adr 0))]) rfl ?_
          refine x_iconst O (nI 0) dX1_apart_52 (by decide) ?_
          exact J9 (nI 0) (by rw [if_neg c32])
        · refine x_sub [0, 2] (L' := [(2, .int (nI i2_4)), (0, .ref (adr 0))]) rfl ?_
          refine x_iconst O (nI 1) dX1_apart_35 (by decide) ?_
          refine x_aload_n O 1 dX1_apart_36 rfl rfl ?_
          refine x_get O k_X1_29_1 XR.o0 (v := .ref (adr 1000)) rfl dX1_apart_37 ?_
          refine x_hget O (XR.hr (μ := μ) hI rfl : HR G κe adr _ _ 1000 (μ 1) (XR G κe κ adr μ ρ)) k_X1_335_4 rfl dX1_apart_40 ?_
          refine x_iload_n O 0 dX1_apart_43 rfl rfl ?_
          refine x_htelling O (XR.hr (μ := μ) hI rfl : HR G κe adr _ _ 1000 (μ 1) (XR G κe κ adr μ ρ)) (by omega) dX1_apart_44 (fun q3 hq4 => ?_)
          refine x_get O k_X1_352_27 ((XR.hr (μ := μ) hI rfl : HR G κe adr _ _ 1000 (μ 1) (XR G κe κ adr μ ρ)).fr hq4) (v := .int (μ 1 (1101 + 3 * i2_4))) rfl dX1_apart_45 ?_
          refine x_ishl O dX1_apart_48 ?_
          refine x_goto O 53 dX1_apart_49 (by decide) ?_
          exact J9 ((nI 1) <<< ((μ 1 (1101 + 3 * i2_4)) &&& 31)) (by rw [if_pos c32])
  refine LOOP4 (tn (μ 1 5)) 0 (nI 0) rfl (by omega) (fun y0 hy_4 => ?_)
  subst hy_4
  refine x_iconst O (nI 0) dX1_apart_61 (by decide) ?_
  refine x_istore_n O [(2, .int (nI 0)), (1, .int ((fr (fun i s => x_apart_b4 (μ 1) i s) (tn (μ 1 5)) 0 (nI 0)))), (0, .ref (adr 0))] dX1_apart_62 rfl rfl rfl ?_
  refine x_iconst O (nI 0) dX1_apart_63 (by decide) ?_
  refine x_istore_n O [(3, .int (nI 0)), (2, .int (nI 0)), (1, .int ((fr (fun i s => x_apart_b4 (μ 1) i s) (tn (μ 1 5)) 0 (nI 0)))), (0, .ref (adr 0))] dX1_apart_64 rfl rfl rfl ?_
  have LOOP65 : ∀ (cc_ : Nat) (i3_65 : Nat) (v2_65 : Int32), cc_ = 2 ^ tn (μ 1 4) - i3_65 → i3_65 < 2147483648 → (∀ (y0 : Int32), y0 = fr (fun i s => x_apart_b65 (μ 1) i s) cc_ i3_65 v2_65 → X G F R Q 7 203 [(2, .int y0), (0, .ref (adr 0))] [] (XR G κe κ adr μ ρ) 0 0) → X G F R Q 7 65 [(3, .int (nI i3_65)), (2, .int v2_65), (1, .int ((fr (fun i s => x_apart_b4 (μ 1) i s) (tn (μ 1 5)) 0 (nI 0)))), (0, .ref (adr 0))] [] (XR G κe κ adr μ ρ) 0 0 := by
    intro cc_
    induction cc_ using Nat.strongRecOn with
    | ind cc_ IH_ =>
      intro i3_65 v2_65 hc_ hb_  K_
      refine x_iload_n O 0 dX1_apart_65 rfl rfl ?_
      refine x_iconst O (nI 1) dX1_apart_66 (by decide) ?_
      refine x_aload_n O 3 dX1_apart_67 rfl rfl ?_
      refine x_get O k_X1_29_1 XR.o0 (v := .ref (adr 1000)) rfl dX1_apart_68 ?_
      refine x_hget O (XR.hr (μ := μ) hI rfl : HR G κe adr _ _ 1000 (μ 1) (XR G κe κ adr μ ρ)) k_X1_86_4 rfl dX1_apart_71 ?_
      refine x_top (v' := nI (tn (μ 1 4))) (hI 4 (by decide)).1 ?_
      refine x_ishl O dX1_apart_74 ?_
      refine x_top (v' := nI (2 ^ tn (μ 1 4))) (shl1 hb4) ?_
      refine x_icmpgeN O 203 (by omega) (by omega) dX1_apart_75 (by decide) (fun c75 => ?_) (fun c75 => ?_)
      · refine x_sub [1, 3] (L' := [(2, .int v2_65), (0, .ref (adr 0))]) rfl ?_
        obtain rfl : cc_ = 0 := by omega
        exact K_ _ rfl
      · refine x_iload_n O 0 dX1_apart_78 rfl rfl ?_
        refine x_iload_n O 2 dX1_apart_79 rfl rfl ?_
        refine x_iconst O ((-1)) dX1_apart_80 (by decide) ?_
        refine x_ixor O dX1_apart_81 ?_
        refine x_iand O dX1_apart_82 ?_
        have J11 : ∀ (y6 : Bool), y6 = (if ((nI i3_65) &&& (((fr (fun i s => x_apart_b4 (μ 1) i s) (tn (μ 1 5)) 0 (nI 0))) ^^^ ((-1)))) = 0 then (if (j_bits (nI i3_65)) ≤ v2_65 then false else true) else false) → X G F R Q 7 99 [(3, .int (nI i3_65)), (2, .int v2_65), (1, .int ((fr (fun i s => x_apart_b4 (μ 1) i s) (tn (μ 1 5)) 0 (nI 0)))), (0, .ref (adr 0))] [.int (b2i y6)] (XR G κe κ adr μ ρ) 0 0 := by
          intro y6 e12
          subst e12
          refine x_istore O [(4, .int (b2i ((if ((nI i3_65) &&& (((fr (fun i s => x_apart_b4 (μ 1) i s) (tn (μ 1 5)) 0 (nI 0))) ^^^ ((-1)))) = 0 then (if (j_bits (nI i3_65)) ≤ v2_65 then false else true) else false)))), (3, .int (nI i3_65)), (2, .int v2_65), (1, .int ((fr (fun i s => x_apart_b4 (μ 1) i s) (tn (μ 1 5)) 0 (nI 0)))), (0, .ref (adr 0))] dX1_apart_99 rfl rfl ?_
          refine x_iconst O (nI 0) dX1_apart_101 (by decide) ?_
          refine x_istore O [(5, .int (nI 0)), (4, .int (b2i ((if ((nI i3_65) &&& (((fr (fun i s => x_apart_b4 (μ 1) i s) (tn (μ 1 5)) 0 (nI 0))) ^^^ ((-1)))) = 0 then (if (j_bits (nI i3_65)) ≤ v2_65 then false else true) else false)))), (3, .int (nI i3_65)), (2, .int v2_65), (1, .int ((fr (fun i s => x_apart_b4 (μ 1) i s) (tn (μ 1 5)) 0 (nI 0)))), (0, .ref (adr 0))] dX1_apart_102 rfl rfl ?_
          have LOOP104 : ∀ (cc_ : Nat) (i5_104 : Nat) (v4_104 : Bool), cc_ = tn (μ 1 4) - i5_104 → i5_104 < 2147483648 → (∀ (y0 : Bool), y0 = frb (fun i s => x_apart_b104 (μ 1) i3_65 i s) cc_ i5_104 v4_104 → X G F R Q 7 187 [(4, .int (b2i y0)), (3, .int (nI i3_65)), (2, .int v2_65), (1, .int ((fr (fun i s => x_apart_b4 (μ 1) i s) (tn (μ 1 5)) 0 (nI 0)))), (0, .ref (adr 0))] [] (XR G κe κ adr μ ρ) 0 0) → X G F R Q 7 104 [(5, .int (nI i5_104)), (4, .int (b2i v4_104)), (3, .int (nI i3_65)), (2, .int v2_65), (1, .int ((fr (fun i s => x_apart_b4 (μ 1) i s) (tn (μ 1 5)) 0 (nI 0)))), (0, .ref (adr 0))] [] (XR G κe κ adr μ ρ) 0 0 := by
            intro cc_
            induction cc_ using Nat.strongRecOn with
            | ind cc_ IH_ =>
              intro i5_104 v4_104 hc_ hb_  K_
              refine x_iload O 0 dX1_apart_104 rfl ?_
              refine x_aload_n O 5 dX1_apart_106 rfl rfl ?_
              refine x_get O k_X1_29_1 XR.o0 (v := .ref (adr 1000)) rfl dX1_apart_107 ?_
              refine x_hget O (XR.hr (μ := μ) hI rfl : HR G κe adr _ _ 1000 (μ 1) (XR G κe κ adr μ ρ)) k_X1_86_4 rfl dX1_apart_110 ?_
              refine x_top (v' := nI (tn (μ 1 4))) (hI 4 (by decide)).1 ?_
              refine x_icmpgeN O 187 (by omega) (by omega) dX1_apart_113 (by decide) (fun c113 => ?_) (fun c113 => ?_)
              · refine x_sub [1, 2, 3, 4, 5] (L' := [(4, .int (b2i v4_104)), (3, .int (nI i3_65)), (2, .int v2_65), (1, .int ((fr (fun i s => x_apart_b4 (μ 1) i s) (tn (μ 1 5)) 0 (nI 0)))), (0, .ref (adr 0))]) rfl ?_
                obtain rfl : cc_ = 0 := by omega
                exact K_ _ rfl
              · refine x_iload O 1 dX1_apart_116 rfl ?_
                refine x_ifeqB O 187 dX1_apart_118 (by decide) (fun c118 => ?_) (fun c118 => ?_)
                · refine x_sub [1, 2, 3, 4, 5] (L' := [(4, .int (b2i v4_104)), (3, .int (nI i3_65)), (2, .int v2_65), (1, .int ((fr (fun i s => x_apart_b4 (μ 1) i s) (tn (μ 1 5)) 0 (nI 0)))), (0, .ref (adr 0))]) rfl ?_
                  obtain ⟨c2_, rfl⟩ : ∃ z, cc_ = z + 1 := ⟨cc_ - 1, by omega⟩
                  have hs_ : (fun i s => x_apart_b104 (μ 1) i3_65 i s) i5_104 v4_104 = .inr v4_104 := by show x_apart_b104 (μ 1) i3_65 i5_104 v4_104 = _; unfold x_apart_b104; rw [if_neg c118]
                  exact K_ _ (frb_stop hs_).symm
                · refine x_iconst O (nI 0) dX1_apart_121 (by decide) ?_
                  refine x_istore O [(6, .int (nI 0)), (5, .int (nI i5_104)), (4, .int (b2i v4_104)), (3, .int (nI i3_65)), (2, .int v2_65), (1, .int ((fr (fun i s => x_apart_b4 (μ 1) i s) (tn (μ 1 5)) 0 (nI 0)))), (0, .ref (adr 0))] dX1_apart_122 rfl rfl ?_
                  have LOOP124 : ∀ (cc_ : Nat) (i6_124 : Nat) (v4_124 : Bool), cc_ = i5_104 - i6_124 → i6_124 < 2147483648 → (∀ (y0 : Bool), y0 = frb (fun i s => x_apart_b124 (μ 1) i3_65 i5_104 i s) cc_ i6_124 v4_124 → X G F R Q 7 181 [(5, .int (nI i5_104)), (4, .int (b2i y0)), (3, .int (nI i3_65)), (2, .int v2_65), (1, .int ((fr (fun i s => x_apart_b4 (μ 1) i s) (tn (μ 1 5)) 0 (nI 0)))), (0, .ref (adr 0))] [] (XR G κe κ adr μ ρ) 0 0) → X G F R Q 7 124 [(6, .int (nI i6_124)), (5, .int (nI i5_104)), (4, .int (b2i v4_124)), (3, .int (nI i3_65)), (2, .int v2_65), (1, .int ((fr (fun i s => x_apart_b4 (μ 1) i s) (tn (μ 1 5)) 0 (nI 0)))), (0, .ref (adr 0))] [] (XR G κe κ adr μ ρ) 0 0 := by
                    intro cc_
                    induction cc_ using Nat.strongRecOn with
                    | ind cc_ IH_ =>
                      intro i6_124 v4_124 hc_ hb_  K_
                      refine x_iload O 0 dX1_apart_124 rfl ?_
                      refine x_iload O 1 dX1_apart_126 rfl ?_
                      refine x_icmpgeN O 181 (by omega) (by omega) dX1_apart_128 (by decide) (fun c128 => ?_) (fun c128 => ?_)
                      · refine x_sub [1, 2, 3, 4, 5, 6] (L' := [(5, .int (nI i5_104)), (4, .int (b2i v4_124)), (3, .int (nI i3_65)), (2, .int v2_65), (1, .int ((fr (fun i s => x_apart_b4 (μ 1) i s) (tn (μ 1 5)) 0 (nI 0)))), (0, .ref (adr 0))]) rfl ?_
                        obtain rfl : cc_ = 0 := by omega
                        exact K_ _ rfl
                      · refine x_iload O 2 dX1_apart_131 rfl ?_
                        refine x_ifeqB O 181 dX1_apart_133 (by decide) (fun c133 => ?_) (fun c133 => ?_)
                        · refine x_sub [1, 2, 3, 4, 5, 6] (L' := [(5, .int (nI i5_104)), (4, .int (b2i v4_124)), (3, .int (nI i3_65)), (2, .int v2_65), (1, .int ((fr (fun i s => x_apart_b4 (μ 1) i s) (tn (μ 1 5)) 0 (nI 0)))), (0, .ref (adr 0))]) rfl ?_
                          obtain ⟨c2_, rfl⟩ : ∃ z, cc_ = z + 1 := ⟨cc_ - 1, by omega⟩
                          have hs_ : (fun i s => x_apart_b124 (μ 1) i3_65 i5_104 i s) i6_124 v4_124 = .inr v4_124 := by show x_apart_b124 (μ 1) i3_65 i5_104 i6_124 v4_124 = _; unfold x_apart_b124; rw [if_neg c133]
                          exact K_ _ (frb_stop hs_).symm
                        · refine x_sub [0, 1, 3, 4, 5, 6] (L' := [(6, .int (nI i6_124)), (5, .int (nI i5_104)), (3, .int (nI i3_65)), (2, .int v2_65), (1, .int ((fr (fun i s => x_apart_b4 (μ 1) i s) (tn (μ 1 5)) 0 (nI 0)))), (0, .ref (adr 0))]) rfl ?_
                          refine x_iload_n O 2 dX1_apart_136 rfl rfl ?_
                          refine x_iload O 1 dX1_apart_137 rfl ?_
                          refine x_ishr O dX1_apart_139 ?_
                          refine x_iconst O (nI 1) dX1_apart_140 (by decide) ?_
                          refine x_iand O dX1_apart_141 ?_
                          have J13 : ∀ (y7 : Bool), y7 = (if (((nI i3_65) >>> ((nI i5_104) &&& 31)) &&& (nI 1)) = 0 then true else (if (((nI i3_65) >>> ((nI i6_124) &&& 31)) &&& (nI 1)) = 0 then true else (if h_talked (μ 1) i5_104 i6_124 = true then false else true))) → X G F R Q 7 173 [(6, .int (nI i6_124)), (5, .int (nI i5_104)), (3, .int (nI i3_65)), (2, .int v2_65), (1, .int ((fr (fun i s => x_apart_b4 (μ 1) i s) (tn (μ 1 5)) 0 (nI 0)))), (0, .ref (adr 0))] [.int (b2i y7)] (XR G κe κ adr μ ρ) 0 0 := by
                            intro y7 e14
                            subst e14
                            refine x_istore O [(4, .int (b2i ((if (((nI i3_65) >>> ((nI i5_104) &&& 31)) &&& (nI 1)) = 0 then true else (if (((nI i3_65) >>> ((nI i6_124) &&& 31)) &&& (nI 1)) = 0 then true else (if h_talked (μ 1) i5_104 i6_124 = true then false else true)))))), (6, .int (nI i6_124)), (5, .int (nI i5_104)), (3, .int (nI i3_65)), (2, .int v2_65), (1, .int ((fr (fun i s => x_apart_b4 (μ 1) i s) (tn (μ 1 5)) 0 (nI 0)))), (0, .ref (adr 0))] dX1_apart_173 rfl rfl ?_
                            refine x_iincN O 1 [(6, .int (nI (i6_124 + 1))), (4, .int (b2i ((if (((nI i3_65) >>> ((nI i5_104) &&& 31)) &&& (nI 1)) = 0 then true else (if (((nI i3_65) >>> ((nI i6_124) &&& 31)) &&& (nI 1)) = 0 then true else (if h_talked (μ 1) i5_104 i6_124 = true then false else true)))))), (5, .int (nI i5_104)), (3, .int (nI i3_65)), (2, .int v2_65), (1, .int ((fr (fun i s => x_apart_b4 (μ 1) i s) (tn (μ 1 5)) 0 (nI 0)))), (0, .ref (adr 0))] dX1_apart_175 rfl rfl rfl ?_
                            refine x_goto O 124 dX1_apart_178 (by decide) ?_
                            obtain ⟨c2_, rfl⟩ : ∃ z, cc_ = z + 1 := ⟨cc_ - 1, by omega⟩
                            refine x_sub [0, 2, 1, 3, 4, 5, 6] rfl ?_
                            have hs_ : (fun i s => x_apart_b124 (μ 1) i3_65 i5_104 i s) i6_124 v4_124 = .inl (if (((nI i3_65) >>> ((nI i5_104) &&& 31)) &&& (nI 1)) = 0 then true else (if (((nI i3_65) >>> ((nI i6_124) &&& 31)) &&& (nI 1)) = 0 then true else (if h_talked (μ 1) i5_104 i6_124 = true then false else true))) := by show x_apart_b124 (μ 1) i3_65 i5_104 i6_124 v4_124 = _; unfold x_apart_b124; rw [if_pos c133]
                            exact IH_ c2_ (by omega) _ _ (by omega) (by omega) (fun y0 hy_ => K_ y0 (hy_.trans (frb_step hs_).symm))
                          refine x_ifeq O 168 dX1_apart_142 (by decide) (fun c142 => ?_) (fun c142 => ?_)
                          · refine x_iconst O (nI 1) dX1_apart_168 (by decide) ?_
                            refine x_goto O 173 dX1_apart_169 (by decide) ?_
                            refine x_top (v' := b2i true) (by decide) ?_
                            exact J13 true (by rw [if_pos c142])
                          · refine x_iload_n O 2 dX1_apart_145 rfl rfl ?_
                            refine x_iload O 0 dX1_apart_146 rfl ?_
                            refine x_ishr O dX1_apart_148 ?_
                            refine x_iconst O (nI 1) dX1_apart_149 (by decide) ?_
                            refine x_iand O dX1_apart_150 ?_
                            refine x_ifeq O 168 dX1_apart_151 (by decide) (fun c151 => ?_) (fun c151 => ?_)
                            · refine x_iconst O (nI 1) dX1_apart_168 (by decide) ?_
                              refine x_goto O 173 dX1_apart_169 (by decide) ?_
                              refine x_top (v' := b2i true) (by decide) ?_
                              exact J13 true (by first | (rw [if_neg c142, if_pos c151]; done) | simp only [if_neg c142, if_pos c151])
                            · refine x_aload_n O 5 dX1_apart_154 rfl rfl ?_
                              refine x_get O k_X1_29_1 XR.o0 (v := .ref (adr 1000)) rfl dX1_apart_155 ?_
                              refine x_iload O 1 dX1_apart_158 rfl ?_
                              refine x_iload O 0 dX1_apart_160 rfl ?_
                              refine x_cV O 2 (c_h_talked (XR.hr (μ := μ) hI rfl : HR G κe adr _ _ 1000 (μ 1) (XR G κe κ adr μ ρ)) hI i5_104 i6_124 (by omega) (by omega)) (XR.hr (μ := μ) hI rfl : HR G κe adr _ _ 1000 (μ 1) (XR G κe κ adr μ ρ)).obj rfl (lw_V q577 q578 q579 q109 q580) rfl hd_X4_talked rfl (by rw [RF]; rfl) (by rw [RL]; rfl) ⟨Nat.zero_le _, Nat.zero_le _⟩ rfl rfl dX1_apart_162 ?_
                              refine x_top (v' := b2i (h_talked (μ 1) i5_104 i6_124)) rfl ?_
                              refine x_ifneB O 172 dX1_apart_165 (by decide) (fun c165 => ?_) (fun c165 => ?_)
                              · refine x_iconst O (nI 0) dX1_apart_172 (by decide) ?_
                                refine x_top (v' := b2i false) (by decide) ?_
                                exact J13 false (by first | (rw [if_neg c142, if_neg c151, if_pos c165]; done) | simp only [if_neg c142, if_neg c151, if_pos c165])
                              · refine x_iconst O (nI 1) dX1_apart_168 (by decide) ?_
                                refine x_goto O 173 dX1_apart_169 (by decide) ?_
                                refine x_top (v' := b2i true) (by decide) ?_
                                exact J13 true (by first | (rw [if_neg c142, if_neg c151, if_neg c165]; done) | simp only [if_neg c142, if_neg c151, if_neg c165])
                  refine LOOP124 i5_104 0 v4_104 rfl (by omega) (fun y0 hy_124 => ?_)
                  subst hy_124
                  refine x_iincN O 0 [(5, .int (nI (i5_104 + 1))), (4, .int (b2i ((frb (fun i s => x_apart_b124 (μ 1) i3_65 i5_104 i s) i5_104 0 v4_104)))), (3, .int (nI i3_65)), (2, .int v2_65), (1, .int ((fr (fun i s => x_apart_b4 (μ 1) i s) (tn (μ 1 5)) 0 (nI 0)))), (0, .ref (adr 0))] dX1_apart_181 rfl rfl rfl ?_
                  refine x_goto O 104 dX1_apart_184 (by decide) ?_
                  obtain ⟨c2_, rfl⟩ : ∃ z, cc_ = z + 1 := ⟨cc_ - 1, by omega⟩
                  have hs_ : (fun i s => x_apart_b104 (μ 1) i3_65 i s) i5_104 v4_104 = .inl (frb (fun i s => x_apart_b124 (μ 1) i3_65 i5_104 i s) i5_104 0 v4_104) := by show x_apart_b104 (μ 1) i3_65 i5_104 v4_104 = _; unfold x_apart_b104; rw [if_pos c118]
                  exact IH_ c2_ (by omega) _ _ (by omega) (by omega) (fun y0 hy_ => K_ y0 (hy_.trans (frb_step hs_).symm))
          refine LOOP104 (tn (μ 1 4)) 0 ((if ((nI i3_65) &&& (((fr (fun i s => x_apart_b4 (μ 1) i s) (tn (μ 1 5)) 0 (nI 0))) ^^^ ((-1)))) = 0 then (if (j_bits (nI i3_65)) ≤ v2_65 then false else true) else false)) rfl (by omega) (fun y0 hy_104 => ?_)
          subst hy_104
          refine x_iload O 0 dX1_apart_187 rfl ?_
          have J15 : ∀ (y8 : Int32), y8 = (if (frb (fun i s => x_apart_b104 (μ 1) i3_65 i s) (tn (μ 1 4)) 0 (if ((nI i3_65) &&& (((fr (fun i s => x_apart_b4 (μ 1) i s) (tn (μ 1 5)) 0 (nI 0))) ^^^ ((-1)))) = 0 then (if (j_bits (nI i3_65)) ≤ v2_65 then false else true) else false)) = true then j_bits (nI i3_65) else v2_65) → X G F R Q 7 197 [(3, .int (nI i3_65)), (2, .int y8), (1, .int ((fr (fun i s => x_apart_b4 (μ 1) i s) (tn (μ 1 5)) 0 (nI 0)))), (0, .ref (adr 0))] [] (XR G κe κ adr μ ρ) 0 0 := by
            intro y8 e16
            subst e16
            refine x_iincN O 0 [(3, .int (nI (i3_65 + 1))), (2, .int ((if (frb (fun i s => x_apart_b104 (μ 1) i3_65 i s) (tn (μ 1 4)) 0 (if ((nI i3_65) &&& (((fr (fun i s => x_apart_b4 (μ 1) i s) (tn (μ 1 5)) 0 (nI 0))) ^^^ ((-1)))) = 0 then (if (j_bits (nI i3_65)) ≤ v2_65 then false else true) else false)) = true then j_bits (nI i3_65) else v2_65))), (1, .int ((fr (fun i s => x_apart_b4 (μ 1) i s) (tn (μ 1 5)) 0 (nI 0)))), (0, .ref (adr 0))] dX1_apart_197 rfl rfl rfl ?_
            refine x_goto O 65 dX1_apart_200 (by decide) ?_
            obtain ⟨c2_, rfl⟩ : ∃ z, cc_ = z + 1 := ⟨cc_ - 1, by omega⟩
            have hs_ : (fun i s => x_apart_b65 (μ 1) i s) i3_65 v2_65 = (if (frb (fun i s => x_apart_b104 (μ 1) i3_65 i s) (tn (μ 1 4)) 0 (if ((nI i3_65) &&& (((fr (fun i s => x_apart_b4 (μ 1) i s) (tn (μ 1 5)) 0 (nI 0))) ^^^ ((-1)))) = 0 then (if (j_bits (nI i3_65)) ≤ v2_65 then false else true) else false)) = true then j_bits (nI i3_65) else v2_65) := by show x_apart_b65 (μ 1) i3_65 v2_65 = _; unfold x_apart_b65; rfl
            exact IH_ c2_ (by omega) _ _ (by omega) (by omega) (fun y0 hy_ => K_ y0 (hy_.trans (fr_step hs_).symm))
          refine x_ifeqB O 197 dX1_apart_189 (by decide) (fun c189 => ?_) (fun c189 => ?_)
          · refine x_sub [1, 2, 3, 4] (L' := [(3, .int (nI i3_65)), (2, .int v2_65), (1, .int ((fr (fun i s => x_apart_b4 (μ 1) i s) (tn (μ 1 5)) 0 (nI 0)))), (0, .ref (adr 0))]) rfl ?_
            exact J15 v2_65 (by rw [if_neg c189])
          · refine x_sub [1, 3, 4] (L' := [(3, .int (nI i3_65)), (1, .int ((fr (fun i s => x_apart_b4 (μ 1) i s) (tn (μ 1 5)) 0 (nI 0)))), (0, .ref (adr 0))]) rfl ?_
            refine x_iload_n O 0 dX1_apart_192 rfl rfl ?_
            refine x_cS O 1 (c_j_bits (nI i3_65)) (lw_S q571 q572 q142 q573) hd_J13_bitCount rfl (by rw [RF]; rfl) (by rw [RL]; rfl) ⟨Nat.zero_le _, Nat.zero_le _⟩ rfl rfl dX1_apart_193 ?_
            refine x_top (v' := j_bits (nI i3_65)) rfl ?_
            refine x_istore_n O [(2, .int (j_bits (nI i3_65))), (3, .int (nI i3_65)), (1, .int ((fr (fun i s => x_apart_b4 (μ 1) i s) (tn (μ 1 5)) 0 (nI 0)))), (0, .ref (adr 0))] dX1_apart_196 rfl rfl rfl ?_
            refine x_sub [1, 0, 2, 3] rfl ?_
            exact J15 (j_bits (nI i3_65)) (by rw [if_pos c189])
        refine x_ifne O 98 dX1_apart_83 (by decide) (fun c83 => ?_) (fun c83 => ?_)
        · refine x_iconst O (nI 0) dX1_apart_98 (by decide) ?_
          refine x_top (v' := b2i false) (by decide) ?_
          exact J11 false (by rw [if_neg c83])
        · refine x_iload_n O 0 dX1_apart_86 rfl rfl ?_
          refine x_cS O 1 (c_j_bits (nI i3_65)) (lw_S q571 q572 q142 q573) hd_J13_bitCount rfl (by rw [RF]; rfl) (by rw [RL]; rfl) ⟨Nat.zero_le _, Nat.zero_le _⟩ rfl rfl dX1_apart_87 ?_
          refine x_top (v' := j_bits (nI i3_65)) rfl ?_
          refine x_iload_n O 1 dX1_apart_90 rfl rfl ?_
          refine x_icmple O 98 dX1_apart_91 (by decide) (fun c91 => ?_) (fun c91 => ?_)
          · refine x_iconst O (nI 0) dX1_apart_98 (by decide) ?_
            refine x_top (v' := b2i false) (by decide) ?_
            exact J11 false (by first | (rw [if_pos c83, if_pos c91]; done) | simp only [if_pos c83, if_pos c91])
          · refine x_iconst O (nI 1) dX1_apart_94 (by decide) ?_
            refine x_goto O 99 dX1_apart_95 (by decide) ?_
            refine x_top (v' := b2i true) (by decide) ?_
            exact J11 true (by first | (rw [if_pos c83, if_neg c91]; done) | simp only [if_pos c83, if_neg c91])
  refine LOOP65 (2 ^ tn (μ 1 4)) 0 (nI 0) rfl (by omega) (fun y0 hy_65 => ?_)
  subst hy_65
  refine x_iload_n O 0 dX1_apart_203 rfl rfl ?_
  exact x_iretQ O hQ rfl dX1_apart_204 (fun h m => ⟨by rw [hres], m⟩)

def x_gunsIn_b6 (W : Nat → Int32) (a : Int32) (b : Int32) (may : Bool) (i5_6 : Nat) (v4_6 : Int32) : Int32 :=
  (if h_isCase W i5_6 = true then (if z_isInArea (W (350 + 6 * i5_6)) a b = true then v4_6 ||| ((if may = true then h_mayBe W i5_6 else (if (j_bits (h_mayBe W i5_6)) = (nI 1) then h_mayBe W i5_6 else nI 0))) else v4_6) else v4_6)
def x_gunsIn (W : Nat → Int32) (a : Int32) (b : Int32) (may : Bool) : Int32 :=
  (fr (fun i s => x_gunsIn_b6 W a b may i s) (tn (W 3)) 0 (nI 0))
set_option maxHeartbeats 1000000 in
set_option maxRecDepth 100000 in
theorem c_x_gunsIn {G : UG} {κe κ : Hp} {adr : Nat → Nat} {μ : Mu} {ρ : List Nat} (hI : MI (μ 1)) (hkind : ∀ f : Nat, f < tn (μ 1 3) → μ 1 (349 + 6 * f) = 0 ∨ μ 1 (349 + 6 * f) = 1 ∨ μ 1 (349 + 6 * f) = 2 ∨ μ 1 (349 + 6 * f) = 3) (a : Int32) (b : Int32) (may : Bool)  : Con G yX1_gunsIn cX1_gunsIn 7 (some .int) 4 85 0 0 [.ref (adr 0), .int a, .int b, .int (b2i may)] (XR G κe κ adr μ ρ) (fun vr_ h' => vr_ = some (.int (x_gunsIn (μ 1) a b may)) ∧ XR G κe κ adr μ ρ h') nX := by
  refine con_of2 (plainFor_of_name (by decide)) rfl ?_
  intro F R Q RF RL RC RS hQ O hnh hnm
  obtain ⟨res, hres⟩ : ∃ z, z = (x_gunsIn (μ 1) a b may) := ⟨_, rfl⟩
  rw [← hres] at hQ
  unfold x_gunsIn at hres
  have hb3 : tn (μ 1 3) ≤ 120 := (hI 3 (by decide)).2
  refine x_eq (L' := [(0, .ref (adr 0)), (1, .int a), (2, .int b), (3, .int (b2i may))]) ?_ rfl rfl rfl
  refine x_iconst O (nI 0) dX1_gunsIn_0 (by decide) ?_
  refine x_istore O [(4, .int (nI 0)), (0, .ref (adr 0)), (1, .int a), (2, .int b), (3, .int (b2i may))] dX1_gunsIn_1 rfl rfl ?_
  refine x_iconst O (nI 0) dX1_gunsIn_3 (by decide) ?_
  refine x_istore O [(5, .int (nI 0)), (4, .int (nI 0)), (0, .ref (adr 0)), (1, .int a), (2, .int b), (3, .int (b2i may))] dX1_gunsIn_4 rfl rfl ?_
  have LOOP6 : ∀ (cc_ : Nat) (i5_6 : Nat) (v4_6 : Int32), cc_ = tn (μ 1 3) - i5_6 → i5_6 < 2147483648 → (∀ (y0 : Int32), y0 = fr (fun i s => x_gunsIn_b6 (μ 1) a b may i s) cc_ i5_6 v4_6 → X G F R Q 7 103 [(4, .int y0), (0, .ref (adr 0))] [] (XR G κe κ adr μ ρ) 0 0) → X G F R Q 7 6 [(5, .int (nI i5_6)), (4, .int v4_6), (0, .ref (adr 0)), (1, .int a), (2, .int b), (3, .int (b2i may))] [] (XR G κe κ adr μ ρ) 0 0 := by
    intro cc_
    induction cc_ using Nat.strongRecOn with
    | ind cc_ IH_ =>
      intro i5_6 v4_6 hc_ hb_  K_
      refine x_iload O 0 dX1_gunsIn_6 rfl ?_
      refine x_aload_n O 2 dX1_gunsIn_8 rfl rfl ?_
      refine x_get O k_X1_29_1 XR.o0 (v := .ref (adr 1000)) rfl dX1_gunsIn_9 ?_
      refine x_hget O (XR.hr (μ := μ) hI rfl : HR G κe adr _ _ 1000 (μ 1) (XR G κe κ adr μ ρ)) k_X1_79_4 rfl dX1_gunsIn_12 ?_
      refine x_top (v' := nI (tn (μ 1 3))) (hI 3 (by decide)).1 ?_
      refine x_icmpgeN O 103 (by omega) (by omega) dX1_gunsIn_15 (by decide) (fun c15 => ?_) (fun c15 => ?_)
      · refine x_sub [1, 2] (L' := [(4, .int v4_6), (0, .ref (adr 0))]) rfl ?_
        obtain rfl : cc_ = 0 := by omega
        exact K_ _ rfl
      · refine x_aload_n O 2 dX1_gunsIn_18 rfl rfl ?_
        refine x_get O k_X1_29_1 XR.o0 (v := .ref (adr 1000)) rfl dX1_gunsIn_19 ?_
        refine x_iload O 0 dX1_gunsIn_22 rfl ?_
        refine x_cV O 1 (c_h_isCase (XR.hr (μ := μ) hI rfl : HR G κe adr _ _ 1000 (μ 1) (XR G κe κ adr μ ρ)) hkind i5_6 (by omega)) (XR.hr (μ := μ) hI rfl : HR G κe adr _ _ 1000 (μ 1) (XR G κe κ adr μ ρ)).obj rfl (lw_V q1390 q1378 q1379 q109 q1380) rfl hd_X4_isCase rfl (by rw [RF]; rfl) (by rw [RL]; rfl) ⟨Nat.zero_le _, Nat.zero_le _⟩ rfl rfl dX1_gunsIn_24 ?_
        refine x_top (v' := b2i (h_isCase (μ 1) i5_6)) rfl ?_
        have J7 : ∀ (y6 : Int32), y6 = (if h_isCase (μ 1) i5_6 = true then (if z_isInArea (μ 1 (350 + 6 * i5_6)) a b = true then v4_6 ||| ((if may = true then h_mayBe (μ 1) i5_6 else (if (j_bits (h_mayBe (μ 1) i5_6)) = (nI 1) then h_mayBe (μ 1) i5_6 else nI 0))) else v4_6) else v4_6) → X G F R Q 7 97 [(5, .int (nI i5_6)), (4, .int y6), (0, .ref (adr 0)), (1, .int a), (2, .int b), (3, .int (b2i may))] [] (XR G κe κ adr μ ρ) 0 0 := by
          intro y6 e8
          subst e8
          refine x_iincN O 0 [(5, .int (nI (i5_6 + 1))), (4, .int ((if h_isCase (μ 1) i5_6 = true then (if z_isInArea (μ 1 (350 + 6 * i5_6)) a b = true then v4_6 ||| ((if may = true then h_mayBe (μ 1) i5_6 else (if (j_bits (h_mayBe (μ 1) i5_6)) = (nI 1) then h_mayBe (μ 1) i5_6 else nI 0))) else v4_6) else v4_6))), (0, .ref (adr 0)), (1, .int a), (2, .int b), (3, .int (b2i may))] dX1_gunsIn_97 rfl rfl rfl ?_
          refine x_goto O 6 dX1_gunsIn_100 (by decide) ?_
          obtain ⟨c2_, rfl⟩ : ∃ z, cc_ = z + 1 := ⟨cc_ - 1, by omega⟩
          have hs_ : (fun i s => x_gunsIn_b6 (μ 1) a b may i s) i5_6 v4_6 = (if h_isCase (μ 1) i5_6 = true then (if z_isInArea (μ 1 (350 + 6 * i5_6)) a b = true then v4_6 ||| ((if may = true then h_mayBe (μ 1) i5_6 else (if (j_bits (h_mayBe (μ 1) i5_6)) = (nI 1) then h_mayBe (μ 1) i5_6 else nI 0))) else v4_6) else v4_6) := by show x_gunsIn_b6 (μ 1) a b may i5_6 v4_6 = _; unfold x_gunsIn_b6; rfl
          exact IH_ c2_ (by omega) _ _ (by omega) (by omega) (fun y0 hy_ => K_ y0 (hy_.trans (fr_step hs_).symm))
        refine x_ifeqB O 97 dX1_gunsIn_27 (by decide) (fun c27 => ?_) (fun c27 => ?_)
        · exact J7 v4_6 (by rw [if_neg c27])
        · refine x_aload_n O 2 dX1_gunsIn_30 rfl rfl ?_
          refine x_get O k_X1_29_1 XR.o0 (v := .ref (adr 1000)) rfl dX1_gunsIn_31 ?_
          refine x_hget O (XR.hr (μ := μ) hI rfl : HR G κe adr _ _ 1000 (μ 1) (XR G κe κ adr μ ρ)) k_X1_82_4 rfl dX1_gunsIn_34 ?_
          refine x_iload O 0 dX1_gunsIn_37 rfl ?_
          refine x_hfind O (XR.hr (μ := μ) hI rfl : HR G κe adr _ _ 1000 (μ 1) (XR G κe κ adr μ ρ)) (by omega) dX1_gunsIn_39 (fun q1 hq2 => ?_)
          refine x_fcell O (f := i5_6) (w := μ 1) q1318 ((XR.hr (μ := μ) hI rfl : HR G κe adr _ _ 1000 (μ 1) (XR G κe κ adr μ ρ)).fr hq2) (by rw [RF]; rfl) (by rw [RL]; rfl) ⟨Nat.zero_le _, Nat.zero_le _⟩ rfl dX1_gunsIn_40 ?_
          refine x_iload_n O 3 dX1_gunsIn_43 rfl rfl ?_
          refine x_iload_n O 4 dX1_gunsIn_44 rfl rfl ?_
          refine x_cS O 3 (c_z_isInArea (μ 1 (350 + 6 * i5_6)) a b) (lw_S q756 q757 q109 q758) hd_X4_isIn rfl (by rw [RF]; rfl) (by rw [RL]; rfl) ⟨Nat.zero_le _, Nat.zero_le _⟩ rfl rfl dX1_gunsIn_45 ?_
          refine x_top (v' := b2i (z_isInArea (μ 1 (350 + 6 * i5_6)) a b)) rfl ?_
          refine x_ifneB O 54 dX1_gunsIn_48 (by decide) (fun c48 => ?_) (fun c48 => ?_)
          · refine x_aload_n O 2 dX1_gunsIn_54 rfl rfl ?_
            refine x_get O k_X1_29_1 XR.o0 (v := .ref (adr 1000)) rfl dX1_gunsIn_55 ?_
            refine x_aload_n O 2 dX1_gunsIn_58 rfl rfl ?_
            refine x_get O k_X1_29_1 XR.o0 (v := .ref (adr 1000)) rfl dX1_gunsIn_59 ?_
            refine x_hget O (XR.hr (μ := μ) hI rfl : HR G κe adr _ _ 1000 (μ 1) (XR G κe κ adr μ ρ)) k_X1_82_4 rfl dX1_gunsIn_62 ?_
            refine x_iload O 0 dX1_gunsIn_65 rfl ?_
            refine x_hfind O (XR.hr (μ := μ) hI rfl : HR G κe adr _ _ 1000 (μ 1) (XR G κe κ adr μ ρ)) (by omega) dX1_gunsIn_67 (fun q3 hq4 => ?_)
            refine x_cV O 1 (c_h_mayBe (XR.hr (μ := μ) hI rfl : HR G κe adr _ _ 1000 (μ 1) (XR G κe κ adr μ ρ)) hI hkind i5_6 (by omega) _ hq4) (XR.hr (μ := μ) hI rfl : HR G κe adr _ _ 1000 (μ 1) (XR G κe κ adr μ ρ)).obj rfl (lw_V q1336 q1337 q1338 q109 q1339) rfl hd_X4_mayBe rfl (by rw [RF]; rfl) (by rw [RL]; rfl) ⟨Nat.zero_le _, Nat.zero_le _⟩ rfl rfl dX1_gunsIn_68 ?_
            refine x_top (v' := h_mayBe (μ 1) i5_6) rfl ?_
            refine x_istore O [(6, .int (h_mayBe (μ 1) i5_6)), (5, .int (nI i5_6)), (4, .int v4_6), (0, .ref (adr 0)), (1, .int a), (2, .int b), (3, .int (b2i may))] dX1_gunsIn_71 rfl rfl ?_
            refine x_iload O 2 dX1_gunsIn_73 rfl ?_
            refine x_iload_n O 6 dX1_gunsIn_75 rfl rfl ?_
            have J9 : ∀ (y5 : Int32), y5 = (if may = true then h_mayBe (μ 1) i5_6 else (if (j_bits (h_mayBe (μ 1) i5_6)) = (nI 1) then h_mayBe (μ 1) i5_6 else nI 0)) → X G F R Q 7 94 [(5, .int (nI i5_6)), (0, .ref (adr 0)), (1, .int a), (2, .int b), (3, .int (b2i may))] [.int y5, .int v4_6] (XR G κe κ adr μ ρ) 0 0 := by
              intro y5 e10
              subst e10
              refine x_ior O dX1_gunsIn_94 ?_
              refine x_istore O [(4, .int (v4_6 ||| ((if may = true then h_mayBe (μ 1) i5_6 else (if (j_bits (h_mayBe (μ 1) i5_6)) = (nI 1) then h_mayBe (μ 1) i5_6 else nI 0))))), (5, .int (nI i5_6)), (0, .ref (adr 0)), (1, .int a), (2, .int b), (3, .int (b2i may))] dX1_gunsIn_95 rfl rfl ?_
              refine x_sub [1, 0, 2, 3, 4, 5] rfl ?_
              exact J7 (v4_6 ||| ((if may = true then h_mayBe (μ 1) i5_6 else (if (j_bits (h_mayBe (μ 1) i5_6)) = (nI 1) then h_mayBe (μ 1) i5_6 else nI 0)))) (by first | (rw [if_pos c27, if_pos c48]; done) | simp only [if_pos c27, if_pos c48])
            refine x_ifneB O 88 dX1_gunsIn_76 (by decide) (fun c76 => ?_) (fun c76 => ?_)
            · refine x_sub [0, 1, 3, 4, 5, 6] (L' := [(6, .int (h_mayBe (μ 1) i5_6)), (5, .int (nI i5_6)), (0, .ref (adr 0)), (1, .int a), (2, .int b), (3, .int (b2i may))]) rfl ?_
              refine x_iload O 0 dX1_gunsIn_88 rfl ?_
              refine x_goto O 94 dX1_gunsIn_90 (by decide) ?_
              refine x_sub [1, 2, 3, 4, 5] (L' := [(5, .int (nI i5_6)), (0, .ref (adr 0)), (1, .int a), (2, .int b), (3, .int (b2i may))]) rfl ?_
              exact J9 (h_mayBe (μ 1) i5_6) (by rw [if_pos c76])
            · refine x_sub [0, 1, 3, 4, 5, 6] (L' := [(6, .int (h_mayBe (μ 1) i5_6)), (5, .int (nI i5_6)), (0, .ref (adr 0)), (1, .int a), (2, .int b), (3, .int (b2i may))]) rfl ?_
              refine x_iload O 0 dX1_gunsIn_79 rfl ?_
              refine x_cS O 1 (c_j_bits (h_mayBe (μ 1) i5_6)) (lw_S q571 q572 q142 q573) hd_J13_bitCount rfl (by rw [RF]; rfl) (by rw [RL]; rfl) ⟨Nat.zero_le _, Nat.zero_le _⟩ rfl rfl dX1_gunsIn_81 ?_
              refine x_top (v' := j_bits (h_mayBe (μ 1) i5_6)) rfl ?_
              refine x_iconst O (nI 1) dX1_gunsIn_84 (by decide) ?_
              refine x_icmpne O 93 dX1_gunsIn_85 (by decide) (fun c85 => ?_) (fun c85 => ?_)
              · refine x_sub [1, 2, 3, 4, 5] (L' := [(5, .int (nI i5_6)), (0, .ref (adr 0)), (1, .int a), (2, .int b), (3, .int (b2i may))]) rfl ?_
                refine x_iconst O (nI 0) dX1_gunsIn_93 (by decide) ?_
                exact J9 (nI 0) (by first | (rw [if_neg c76, if_neg c85]; done) | simp only [if_neg c76, if_neg c85])
              · refine x_iload O 0 dX1_gunsIn_88 rfl ?_
                refine x_goto O 94 dX1_gunsIn_90 (by decide) ?_
                refine x_sub [1, 2, 3, 4, 5] (L' := [(5, .int (nI i5_6)), (0, .ref (adr 0)), (1, .int a), (2, .int b), (3, .int (b2i may))]) rfl ?_
                exact J9 (h_mayBe (μ 1) i5_6) (by first | (rw [if_neg c76, if_pos c85]; done) | simp only [if_neg c76, if_pos c85])
          · refine x_goto O 97 dX1_gunsIn_51 (by decide) ?_
            exact J7 v4_6 (by first | (rw [if_pos c27, if_neg c48]; done) | simp only [if_pos c27, if_neg c48])
  refine LOOP6 (tn (μ 1 3)) 0 (nI 0) rfl (by omega) (fun y0 hy_6 => ?_)
  subst hy_6
  refine x_iload O 0 dX1_gunsIn_103 rfl ?_
  exact x_iretQ O hQ rfl dX1_gunsIn_105 (fun h m => ⟨by rw [hres], m⟩)

def x_joined (W : Nat → Int32) (a : Int32) (b : Int32) (c : Int32) (d : Int32) (may : Bool) : Int32 :=
  (x_gunsIn W a b may) &&& (x_gunsIn W c d may)
def x_joined_e (W : Nat → Int32) (a : Int32) (b : Int32) (c : Int32) (d : Int32) (may : Bool) : Nat :=
  (if eIf (z_isIn a (nI 0) (nI 255)) 1 = 0 then (if eIf (z_isIn b (nI 0) (nI 255)) 1 = 0 then (if eIf (z_isIn c (nI 0) (nI 255)) 1 = 0 then (if eIf (z_isIn d (nI 0) (nI 255)) 1 = 0 then 0 else eIf (z_isIn d (nI 0) (nI 255)) 1) else eIf (z_isIn c (nI 0) (nI 255)) 1) else eIf (z_isIn b (nI 0) (nI 255)) 1) else eIf (z_isIn a (nI 0) (nI 255)) 1)
set_option maxHeartbeats 1000000 in
set_option maxRecDepth 100000 in
theorem c_x_joined {G : UG} {κe κ : Hp} {adr : Nat → Nat} {μ : Mu} {ρ : List Nat} (hI : MI (μ 1)) (hkind : ∀ f : Nat, f < tn (μ 1 3) → μ 1 (349 + 6 * f) = 0 ∨ μ 1 (349 + 6 * f) = 1 ∨ μ 1 (349 + 6 * f) = 2 ∨ μ 1 (349 + 6 * f) = 3) (a : Int32) (b : Int32) (c : Int32) (d : Int32) (may : Bool)  : Con G yX1_joined cX1_joined 6 (some .int) 8 121 4 24 [.ref (adr 0), .int a, .int b, .int c, .int d, .int (b2i may)] (XR G κe κ adr μ ρ) (fun vr_ h' => vr_ = some (.int (x_joined (μ 1) a b c d may)) ∧ (x_joined_e (μ 1) a b c d may) = 0 ∧ XR G κe κ adr μ ρ h') (fun E_ _ h' => ¬ (x_joined_e (μ 1) a b c d may) = 0 ∧ E_ = exN (x_joined_e (μ 1) a b c d may) ∧ XR G κe κ adr μ ρ h') := by
  refine con_of2 (plainFor_of_name (by decide)) rfl ?_
  intro F R Q RF RL RC RS hQ O hnh hnm
  obtain ⟨res, hres⟩ : ∃ z, z = (x_joined (μ 1) a b c d may) := ⟨_, rfl⟩
  rw [← hres] at hQ
  unfold x_joined at hres
  obtain ⟨rcd, hrcd⟩ : ∃ z, z = (x_joined_e (μ 1) a b c d may) := ⟨_, rfl⟩
  rw [← hrcd] at hQ
  unfold x_joined_e at hrcd
  refine x_eq (L' := [(0, .ref (adr 0)), (1, .int a), (2, .int b), (3, .int c), (4, .int d), (5, .int (b2i may))]) ?_ rfl rfl rfl
  refine x_iload_n O 1 dX1_joined_0 rfl rfl ?_
  refine x_runE O hQ hnh (r_S O 1 (c_e_isCell a) (lw_S q711 q712 q103 q713) hd_X1_isCell rfl (by rw [RF]; rfl) (by rw [RL]; rfl) (by rw [RC, RS]; decide) rfl rfl dX1_joined_1) (by decide) (by decide) (fun c1 => ?_) (fun c1 => ?_)
  · have hr1 := hrcd.trans (if_neg c1)
    exact fun q h m => ⟨by rw [hr1]; exact c1, by rw [hr1], m⟩
  · have hr2 := hrcd.trans (if_pos c1)
    have hxc1 := (isC_nn c1 (by decide)).2
    refine x_iload_n O 2 dX1_joined_4 rfl rfl ?_
    refine x_runE O hQ hnh (r_S O 1 (c_e_isCell b) (lw_S q711 q712 q103 q713) hd_X1_isCell rfl (by rw [RF]; rfl) (by rw [RL]; rfl) (by rw [RC, RS]; decide) rfl rfl dX1_joined_5) (by decide) (by decide) (fun c5 => ?_) (fun c5 => ?_)
    · have hr3 := hr2.trans (if_neg c5)
      exact fun q h m => ⟨by rw [hr3]; exact c5, by rw [hr3], m⟩
    · have hr4 := hr2.trans (if_pos c5)
      have hxc5 := (isC_nn c5 (by decide)).2
      refine x_iload_n O 3 dX1_joined_8 rfl rfl ?_
      refine x_runE O hQ hnh (r_S O 1 (c_e_isCell c) (lw_S q711 q712 q103 q713) hd_X1_isCell rfl (by rw [RF]; rfl) (by rw [RL]; rfl) (by rw [RC, RS]; decide) rfl rfl dX1_joined_9) (by decide) (by decide) (fun c9 => ?_) (fun c9 => ?_)
      · have hr5 := hr4.trans (if_neg c9)
        exact fun q h m => ⟨by rw [hr5]; exact c9, by rw [hr5], m⟩
      · have hr6 := hr4.trans (if_pos c9)
        have hxc9 := (isC_nn c9 (by decide)).2
        refine x_iload O 4 dX1_joined_12 rfl ?_
        refine x_runE O hQ hnh (r_S O 1 (c_e_isCell d) (lw_S q711 q712 q103 q713) hd_X1_isCell rfl (by rw [RF]; rfl) (by rw [RL]; rfl) (by rw [RC, RS]; decide) rfl rfl dX1_joined_14) (by decide) (by decide) (fun c14 => ?_) (fun c14 => ?_)
        · have hr7 := hr6.trans (if_neg c14)
          exact fun q h m => ⟨by rw [hr7]; exact c14, by rw [hr7], m⟩
        · have hr8 := hr6.trans (if_pos c14)
          have hxc14 := (isC_nn c14 (by decide)).2
          refine x_aload_n O 0 dX1_joined_17 rfl rfl ?_
          refine x_iload_n O 1 dX1_joined_18 rfl rfl ?_
          refine x_iload_n O 2 dX1_joined_19 rfl rfl ?_
          refine x_iload O 5 dX1_joined_20 rfl ?_
          refine x_cV O 3 (c_x_gunsIn (μ := μ) hI hkind a b may) XR.o0 rfl (lw_V q1606 q1608 qs31 q103 q1609) rfl hd_X1_gunsIn rfl (by rw [RF]; rfl) (by rw [RL]; rfl) (by rw [RC, RS]; decide) rfl rfl dX1_joined_22 ?_
          refine x_top (v' := x_gunsIn (μ 1) a b may) rfl ?_
          refine x_aload_n O 0 dX1_joined_25 rfl rfl ?_
          refine x_iload_n O 3 dX1_joined_26 rfl rfl ?_
          refine x_iload O 4 dX1_joined_27 rfl ?_
          refine x_iload O 5 dX1_joined_29 rfl ?_
          refine x_cV O 3 (c_x_gunsIn (μ := μ) hI hkind c d may) XR.o0 rfl (lw_V q1606 q1608 qs31 q103 q1609) rfl hd_X1_gunsIn rfl (by rw [RF]; rfl) (by rw [RL]; rfl) (by rw [RC, RS]; decide) rfl rfl dX1_joined_31 ?_
          refine x_top (v' := x_gunsIn (μ 1) c d may) rfl ?_
          refine x_iand O dX1_joined_34 ?_
          refine x_widen (k' := 4) (n' := 24) (by decide) (by decide) ?_
          exact x_iretQ O hQ rfl dX1_joined_35 (fun h m => ⟨by rw [hres], by rw [hr8], m⟩)

def x_count_b82 (W : Nat → Int32)  (i3_82 : Nat) (v2_82 : Nat) : Nat :=
  v2_82 + ((if decide (W (304 + 6 * i3_82) = 1) = true then 1 else 0))
def x_count_b193 (W : Nat → Int32)  (i3_193 : Nat) (v2_193 : Int32) : Int32 :=
  v2_193 + (W (272 + 4 * i3_193))
def x_count (W : Nat → Int32) (what : Int32) : Int32 :=
  (if what = nI 0 then nI (tn (W 0)) else (if what = nI 1 then nI (tn (W 1)) else (if what = nI 2 then nI ((fr (fun i s => x_count_b82 W i s) (tn (W 1)) 0 0)) else (if what = nI 3 then nI (tn (W 2)) else (if what = nI 4 then nI (tn (W 3)) else (if what = nI 5 then nI (h_seen W) else (if what = nI 6 then nI (tn (W 7)) else (if what = nI 7 then nI (tn (W 4)) else (if what = nI 8 then nI (tn (W 5)) else (if what = nI 9 then nI (tn (W 6)) else (if what = nI 10 then j_bits (W 12) else (if what = nI 11 then (fr (fun i s => x_count_b193 W i s) (tn (W 0)) 0 (nI 0)) else (-1)))))))))))))
set_option maxHeartbeats 1000000 in
set_option maxRecDepth 100000 in
theorem c_x_count {G : UG} {κe κ : Hp} {adr : Nat → Nat} {μ : Mu} {ρ : List Nat} (hI : MI (μ 1)) (what : Int32)  : Con G yX1_count cX1_count 4 (some .int) 4 86 0 0 [.ref (adr 0), .int what] (XR G κe κ adr μ ρ) (fun vr_ h' => vr_ = some (.int (x_count (μ 1) what)) ∧ XR G κe κ adr μ ρ h') nX := by
  refine con_of2 (plainFor_of_name (by decide)) rfl ?_
  intro F R Q RF RL RC RS hQ O hnh hnm
  obtain ⟨res, hres⟩ : ∃ z, z = (x_count (μ 1) what) := ⟨_, rfl⟩
  rw [← hres] at hQ
  unfold x_count at hres
  have hb0 : tn (μ 1 0) ≤ 8 := (hI 0 (by decide)).2
  have hb1 : tn (μ 1 1) ≤ 8 := (hI 1 (by decide)).2
  refine x_eq (L' := [(0, .ref (adr 0)), (1, .int what)]) ?_ rfl rfl rfl
  refine x_iconst O (nI 0) dX1_count_0 (by decide) ?_
  refine x_istore_n O [(2, .int (nI 0)), (0, .ref (adr 0)), (1, .int what)] dX1_count_1 rfl rfl rfl ?_
  refine x_iload_n O 2 dX1_count_2 rfl rfl ?_
  refine x_dc (what = nI 0) (fun c3_0 => ?_) (fun c3_0 => ?_)
  · have hr2 := hres.trans (if_pos c3_0)
    refine x_tabIn O 64 dX1_count_3 (by rw [c3_0]; decide) (by rw [c3_0]; decide) (by rw [c3_0]; rfl) (by decide) ?_
    refine x_sub [1] (L' := [(0, .ref (adr 0))]) rfl ?_
    refine x_aload_n O 0 dX1_count_64 rfl rfl ?_
    refine x_get O k_X1_29_1 XR.o0 (v := .ref (adr 1000)) rfl dX1_count_65 ?_
    refine x_hget O (XR.hr (μ := μ) hI rfl : HR G κe adr _ _ 1000 (μ 1) (XR G κe κ adr μ ρ)) k_X1_76_4 rfl dX1_count_68 ?_
    refine x_top (v' := nI (tn (μ 1 0))) (hI 0 (by decide)).1 ?_
    exact x_iretQ O hQ rfl dX1_count_71 (fun h m => ⟨by rw [hr2], m⟩)
  · have hr3 := hres.trans (if_neg c3_0)
    refine x_dc (what = nI 1) (fun c3_1 => ?_) (fun c3_1 => ?_)
    · have hr4 := hr3.trans (if_pos c3_1)
      refine x_tabIn O 72 dX1_count_3 (by rw [c3_1]; decide) (by rw [c3_1]; decide) (by rw [c3_1]; rfl) (by decide) ?_
      refine x_sub [1] (L' := [(0, .ref (adr 0))]) rfl ?_
      refine x_aload_n O 0 dX1_count_72 rfl rfl ?_
      refine x_get O k_X1_29_1 XR.o0 (v := .ref (adr 1000)) rfl dX1_count_73 ?_
      refine x_hget O (XR.hr (μ := μ) hI rfl : HR G κe adr _ _ 1000 (μ 1) (XR G κe κ adr μ ρ)) k_X1_156_4 rfl dX1_count_76 ?_
      refine x_top (v' := nI (tn (μ 1 1))) (hI 1 (by decide)).1 ?_
      exact x_iretQ O hQ rfl dX1_count_79 (fun h m => ⟨by rw [hr4], m⟩)
    · have hr5 := hr3.trans (if_neg c3_1)
      refine x_dc (what = nI 2) (fun c3_2 => ?_) (fun c3_2 => ?_)
      · have hr6 := hr5.trans (if_pos c3_2)
        refine x_tabIn O 80 dX1_count_3 (by rw [c3_2]; decide) (by rw [c3_2]; decide) (by rw [c3_2]; rfl) (by decide) ?_
        refine x_sub [0, 1] (L' := [(2, .int (nI 0)), (0, .ref (adr 0))]) rfl ?_
        refine x_iconst O (nI 0) dX1_count_80 (by decide) ?_
        refine x_istore_n O [(3, .int (nI 0)), (2, .int (nI 0)), (0, .ref (adr 0))] dX1_count_81 rfl rfl rfl ?_
        have LOOP82 : ∀ (cc_ : Nat) (i3_82 : Nat) (v2_82 : Nat), cc_ = tn (μ 1 1) - i3_82 → i3_82 < 2147483648 → (∀ (y0 : Nat), y0 = fr (fun i s => x_count_b82 (μ 1) i s) cc_ i3_82 v2_82 → X G F R Q 4 122 [(2, .int (nI y0)), (0, .ref (adr 0))] [] (XR G κe κ adr μ ρ) 0 0) → X G F R Q 4 82 [(3, .int (nI i3_82)), (2, .int (nI v2_82)), (0, .ref (adr 0))] [] (XR G κe κ adr μ ρ) 0 0 := by
          intro cc_
          induction cc_ using Nat.strongRecOn with
          | ind cc_ IH_ =>
            intro i3_82 v2_82 hc_ hb_  K_
            refine x_iload_n O 0 dX1_count_82 rfl rfl ?_
            refine x_aload_n O 2 dX1_count_83 rfl rfl ?_
            refine x_get O k_X1_29_1 XR.o0 (v := .ref (adr 1000)) rfl dX1_count_84 ?_
            refine x_hget O (XR.hr (μ := μ) hI rfl : HR G κe adr _ _ 1000 (μ 1) (XR G κe κ adr μ ρ)) k_X1_156_4 rfl dX1_count_87 ?_
            refine x_top (v' := nI (tn (μ 1 1))) (hI 1 (by decide)).1 ?_
            refine x_icmpgeN O 122 (by omega) (by omega) dX1_count_90 (by decide) (fun c90 => ?_) (fun c90 => ?_)
            · refine x_sub [1, 2] (L' := [(2, .int (nI v2_82)), (0, .ref (adr 0))]) rfl ?_
              obtain rfl : cc_ = 0 := by omega
              exact K_ _ rfl
            · refine x_iload_n O 1 dX1_count_93 rfl rfl ?_
              refine x_aload_n O 2 dX1_count_94 rfl rfl ?_
              refine x_get O k_X1_29_1 XR.o0 (v := .ref (adr 1000)) rfl dX1_count_95 ?_
              refine x_hget O (XR.hr (μ := μ) hI rfl : HR G κe adr _ _ 1000 (μ 1) (XR G κe κ adr μ ρ)) k_X1_159_4 rfl dX1_count_98 ?_
              refine x_iload_n O 0 dX1_count_101 rfl rfl ?_
              refine x_hper O (XR.hr (μ := μ) hI rfl : HR G κe adr _ _ 1000 (μ 1) (XR G κe κ adr μ ρ)) (by omega) dX1_count_102 ?_
              refine x_get O k_X1_180_20 ((XR.hr (μ := μ) hI rfl : HR G κe adr _ _ 1000 (μ 1) (XR G κe κ adr μ ρ)).per (by omega)) (v := .int (b2i (decide (μ 1 (304 + 6 * i3_82) = 1)))) rfl dX1_count_103 ?_
              have J7 : ∀ (y1 : Nat), y1 = (if decide (μ 1 (304 + 6 * i3_82) = 1) = true then 1 else 0) → X G F R Q 4 114 [(3, .int (nI i3_82)), (0, .ref (adr 0))] [.int (nI y1), .int (nI v2_82)] (XR G κe κ adr μ ρ) 0 0 := by
                intro y1 e8
                subst e8
                refine x_iaddN O dX1_count_114 ?_
                refine x_istore_n O [(2, .int (nI (v2_82 + ((if decide (μ 1 (304 + 6 * i3_82) = 1) = true then 1 else 0))))), (3, .int (nI i3_82)), (0, .ref (adr 0))] dX1_count_115 rfl rfl rfl ?_
                refine x_iincN O 1 [(3, .int (nI (i3_82 + 1))), (2, .int (nI (v2_82 + ((if decide (μ 1 (304 + 6 * i3_82) = 1) = true then 1 else 0))))), (0, .ref (adr 0))] dX1_count_116 rfl rfl rfl ?_
                refine x_goto O 82 dX1_count_119 (by decide) ?_
                obtain ⟨c2_, rfl⟩ : ∃ z, cc_ = z + 1 := ⟨cc_ - 1, by omega⟩
                have hs_ : (fun i s => x_count_b82 (μ 1) i s) i3_82 v2_82 = v2_82 + ((if decide (μ 1 (304 + 6 * i3_82) = 1) = true then 1 else 0)) := by show x_count_b82 (μ 1) i3_82 v2_82 = _; unfold x_count_b82; rfl
                exact IH_ c2_ (by omega) _ _ (by omega) (by omega) (fun y0 hy_ => K_ y0 (hy_.trans (fr_step hs_).symm))
              refine x_ifeqB O 113 dX1_count_106 (by decide) (fun c106 => ?_) (fun c106 => ?_)
              · refine x_sub [0, 2] (L' := [(3, .int (nI i3_82)), (0, .ref (adr 0))]) rfl ?_
                refine x_iconst O (nI 0) dX1_count_113 (by decide) ?_
                exact J7 0 (by rw [if_neg c106])
              · refine x_sub [0, 2] (L' := [(3, .int (nI i3_82)), (0, .ref (adr 0))]) rfl ?_
                refine x_iconst O (nI 1) dX1_count_109 (by decide) ?_
                refine x_goto O 114 dX1_count_110 (by decide) ?_
                exact J7 1 (by rw [if_pos c106])
        refine LOOP82 (tn (μ 1 1)) 0 0 rfl (by omega) (fun y0 hy_82 => ?_)
        subst hy_82
        refine x_iload_n O 0 dX1_count_122 rfl rfl ?_
        exact x_iretQ O hQ rfl dX1_count_123 (fun h m => ⟨by rw [hr6], m⟩)
      · have hr9 := hr5.trans (if_neg c3_2)
        refine x_dc (what = nI 3) (fun c3_3 => ?_) (fun c3_3 => ?_)
        · have hr10 := hr9.trans (if_pos c3_3)
          refine x_tabIn O 124 dX1_count_3 (by rw [c3_3]; decide) (by rw [c3_3]; decide) (by rw [c3_3]; rfl) (by decide) ?_
          refine x_sub [1] (L' := [(0, .ref (adr 0))]) rfl ?_
          refine x_aload_n O 0 dX1_count_124 rfl rfl ?_
          refine x_get O k_X1_29_1 XR.o0 (v := .ref (adr 1000)) rfl dX1_count_125 ?_
          refine x_hget O (XR.hr (μ := μ) hI rfl : HR G κe adr _ _ 1000 (μ 1) (XR G κe κ adr μ ρ)) k_X1_146_4 rfl dX1_count_128 ?_
          refine x_top (v' := nI (tn (μ 1 2))) (hI 2 (by decide)).1 ?_
          exact x_iretQ O hQ rfl dX1_count_131 (fun h m => ⟨by rw [hr10], m⟩)
        · have hr11 := hr9.trans (if_neg c3_3)
          refine x_dc (what = nI 4) (fun c3_4 => ?_) (fun c3_4 => ?_)
          · have hr12 := hr11.trans (if_pos c3_4)
            refine x_tabIn O 132 dX1_count_3 (by rw [c3_4]; decide) (by rw [c3_4]; decide) (by rw [c3_4]; rfl) (by decide) ?_
            refine x_sub [1] (L' := [(0, .ref (adr 0))]) rfl ?_
            refine x_aload_n O 0 dX1_count_132 rfl rfl ?_
            refine x_get O k_X1_29_1 XR.o0 (v := .ref (adr 1000)) rfl dX1_count_133 ?_
            refine x_hget O (XR.hr (μ := μ) hI rfl : HR G κe adr _ _ 1000 (μ 1) (XR G κe κ adr μ ρ)) k_X1_79_4 rfl dX1_count_136 ?_
            refine x_top (v' := nI (tn (μ 1 3))) (hI 3 (by decide)).1 ?_
            exact x_iretQ O hQ rfl dX1_count_139 (fun h m => ⟨by rw [hr12], m⟩)
          · have hr13 := hr11.trans (if_neg c3_4)
            refine x_dc (what = nI 5) (fun c3_5 => ?_) (fun c3_5 => ?_)
            · have hr14 := hr13.trans (if_pos c3_5)
              refine x_tabIn O 140 dX1_count_3 (by rw [c3_5]; decide) (by rw [c3_5]; decide) (by rw [c3_5]; rfl) (by decide) ?_
              refine x_sub [1] (L' := [(0, .ref (adr 0))]) rfl ?_
              refine x_aload_n O 0 dX1_count_140 rfl rfl ?_
              refine x_get O k_X1_29_1 XR.o0 (v := .ref (adr 1000)) rfl dX1_count_141 ?_
              refine x_cV O 0 (c_h_seen (XR.hr (μ := μ) hI rfl : HR G κe adr _ _ 1000 (μ 1) (XR G κe κ adr μ ρ)) hI) (XR.hr (μ := μ) hI rfl : HR G κe adr _ _ 1000 (μ 1) (XR G κe κ adr μ ρ)).obj rfl (lw_V q491 q492 q493 q109 q494) rfl hd_X4_seen rfl (by rw [RF]; rfl) (by rw [RL]; rfl) ⟨Nat.zero_le _, Nat.zero_le _⟩ rfl rfl dX1_count_144 ?_
              refine x_top (v' := nI (h_seen (μ 1))) rfl ?_
              exact x_iretQ O hQ rfl dX1_count_147 (fun h m => ⟨by rw [hr14], m⟩)
            · have hr15 := hr13.trans (if_neg c3_5)
              refine x_dc (what = nI 6) (fun c3_6 => ?_) (fun c3_6 => ?_)
              · have hr16 := hr15.trans (if_pos c3_6)
                refine x_tabIn O 148 dX1_count_3 (by rw [c3_6]; decide) (by rw [c3_6]; decide) (by rw [c3_6]; rfl) (by decide) ?_
                refine x_sub [1] (L' := [(0, .ref (adr 0))]) rfl ?_
                refine x_aload_n O 0 dX1_count_148 rfl rfl ?_
                refine x_get O k_X1_29_1 XR.o0 (v := .ref (adr 1000)) rfl dX1_count_149 ?_
                refine x_hget O (XR.hr (μ := μ) hI rfl : HR G κe adr _ _ 1000 (μ 1) (XR G κe κ adr μ ρ)) k_X1_194_4 rfl dX1_count_152 ?_
                refine x_top (v' := nI (tn (μ 1 7))) (hI 7 (by decide)).1 ?_
                exact x_iretQ O hQ rfl dX1_count_155 (fun h m => ⟨by rw [hr16], m⟩)
              · have hr17 := hr15.trans (if_neg c3_6)
                refine x_dc (what = nI 7) (fun c3_7 => ?_) (fun c3_7 => ?_)
                · have hr18 := hr17.trans (if_pos c3_7)
                  refine x_tabIn O 156 dX1_count_3 (by rw [c3_7]; decide) (by rw [c3_7]; decide) (by rw [c3_7]; rfl) (by decide) ?_
                  refine x_sub [1] (L' := [(0, .ref (adr 0))]) rfl ?_
                  refine x_aload_n O 0 dX1_count_156 rfl rfl ?_
                  refine x_get O k_X1_29_1 XR.o0 (v := .ref (adr 1000)) rfl dX1_count_157 ?_
                  refine x_hget O (XR.hr (μ := μ) hI rfl : HR G κe adr _ _ 1000 (μ 1) (XR G κe κ adr μ ρ)) k_X1_86_4 rfl dX1_count_160 ?_
                  refine x_top (v' := nI (tn (μ 1 4))) (hI 4 (by decide)).1 ?_
                  exact x_iretQ O hQ rfl dX1_count_163 (fun h m => ⟨by rw [hr18], m⟩)
                · have hr19 := hr17.trans (if_neg c3_7)
                  refine x_dc (what = nI 8) (fun c3_8 => ?_) (fun c3_8 => ?_)
                  · have hr20 := hr19.trans (if_pos c3_8)
                    refine x_tabIn O 164 dX1_count_3 (by rw [c3_8]; decide) (by rw [c3_8]; decide) (by rw [c3_8]; rfl) (by decide) ?_
                    refine x_sub [1] (L' := [(0, .ref (adr 0))]) rfl ?_
                    refine x_aload_n O 0 dX1_count_164 rfl rfl ?_
                    refine x_get O k_X1_29_1 XR.o0 (v := .ref (adr 1000)) rfl dX1_count_165 ?_
                    refine x_hget O (XR.hr (μ := μ) hI rfl : HR G κe adr _ _ 1000 (μ 1) (XR G κe κ adr μ ρ)) k_X1_332_4 rfl dX1_count_168 ?_
                    refine x_top (v' := nI (tn (μ 1 5))) (hI 5 (by decide)).1 ?_
                    exact x_iretQ O hQ rfl dX1_count_171 (fun h m => ⟨by rw [hr20], m⟩)
                  · have hr21 := hr19.trans (if_neg c3_8)
                    refine x_dc (what = nI 9) (fun c3_9 => ?_) (fun c3_9 => ?_)
                    · have hr22 := hr21.trans (if_pos c3_9)
                      refine x_tabIn O 172 dX1_count_3 (by rw [c3_9]; decide) (by rw [c3_9]; decide) (by rw [c3_9]; rfl) (by decide) ?_
                      refine x_sub [1] (L' := [(0, .ref (adr 0))]) rfl ?_
                      refine x_aload_n O 0 dX1_count_172 rfl rfl ?_
                      refine x_get O k_X1_29_1 XR.o0 (v := .ref (adr 1000)) rfl dX1_count_173 ?_
                      refine x_hget O (XR.hr (μ := μ) hI rfl : HR G κe adr _ _ 1000 (μ 1) (XR G κe κ adr μ ρ)) k_X1_373_4 rfl dX1_count_176 ?_
                      refine x_top (v' := nI (tn (μ 1 6))) (hI 6 (by decide)).1 ?_
                      exact x_iretQ O hQ rfl dX1_count_179 (fun h m => ⟨by rw [hr22], m⟩)
                    · have hr23 := hr21.trans (if_neg c3_9)
                      refine x_dc (what = nI 10) (fun c3_10 => ?_) (fun c3_10 => ?_)
                      · have hr24 := hr23.trans (if_pos c3_10)
                        refine x_tabIn O 180 dX1_count_3 (by rw [c3_10]; decide) (by rw [c3_10]; decide) (by rw [c3_10]; rfl) (by decide) ?_
                        refine x_sub [1] (L' := [(0, .ref (adr 0))]) rfl ?_
                        refine x_aload_n O 0 dX1_count_180 rfl rfl ?_
                        refine x_get O k_X1_29_1 XR.o0 (v := .ref (adr 1000)) rfl dX1_count_181 ?_
                        refine x_hget O (XR.hr (μ := μ) hI rfl : HR G κe adr _ _ 1000 (μ 1) (XR G κe κ adr μ ρ)) k_X1_259_4 rfl dX1_count_184 ?_
                        refine x_cS O 1 (c_j_bits (μ 1 12)) (lw_S q571 q572 q142 q573) hd_J13_bitCount rfl (by rw [RF]; rfl) (by rw [RL]; rfl) ⟨Nat.zero_le _, Nat.zero_le _⟩ rfl rfl dX1_count_187 ?_
                        refine x_top (v' := j_bits (μ 1 12)) rfl ?_
                        exact x_iretQ O hQ rfl dX1_count_190 (fun h m => ⟨by rw [hr24], m⟩)
                      · have hr25 := hr23.trans (if_neg c3_10)
                        refine x_dc (what = nI 11) (fun c3_11 => ?_) (fun c3_11 => ?_)
                        · have hr26 := hr25.trans (if_pos c3_11)
                          refine x_tabIn O 191 dX1_count_3 (by rw [c3_11]; decide) (by rw [c3_11]; decide) (by rw [c3_11]; rfl) (by decide) ?_
                          refine x_sub [0, 1] (L' := [(2, .int (nI 0)), (0, .ref (adr 0))]) rfl ?_
                          refine x_iconst O (nI 0) dX1_count_191 (by decide) ?_
                          refine x_istore_n O [(3, .int (nI 0)), (2, .int (nI 0)), (0, .ref (adr 0))] dX1_count_192 rfl rfl rfl ?_
                          have LOOP193 : ∀ (cc_ : Nat) (i3_193 : Nat) (v2_193 : Int32), cc_ = tn (μ 1 0) - i3_193 → i3_193 < 2147483648 → (∀ (y0 : Int32), y0 = fr (fun i s => x_count_b193 (μ 1) i s) cc_ i3_193 v2_193 → X G F R Q 4 225 [(2, .int y0), (0, .ref (adr 0))] [] (XR G κe κ adr μ ρ) 0 0) → X G F R Q 4 193 [(3, .int (nI i3_193)), (2, .int v2_193), (0, .ref (adr 0))] [] (XR G κe κ adr μ ρ) 0 0 := by
                            intro cc_
                            induction cc_ using Nat.strongRecOn with
                            | ind cc_ IH_ =>
                              intro i3_193 v2_193 hc_ hb_  K_
                              refine x_iload_n O 0 dX1_count_193 rfl rfl ?_
                              refine x_aload_n O 2 dX1_count_194 rfl rfl ?_
                              refine x_get O k_X1_29_1 XR.o0 (v := .ref (adr 1000)) rfl dX1_count_195 ?_
                              refine x_hget O (XR.hr (μ := μ) hI rfl : HR G κe adr _ _ 1000 (μ 1) (XR G κe κ adr μ ρ)) k_X1_76_4 rfl dX1_count_198 ?_
                              refine x_top (v' := nI (tn (μ 1 0))) (hI 0 (by decide)).1 ?_
                              refine x_icmpgeN O 225 (by omega) (by omega) dX1_count_201 (by decide) (fun c201 => ?_) (fun c201 => ?_)
                              · refine x_sub [1, 2] (L' := [(2, .int v2_193), (0, .ref (adr 0))]) rfl ?_
                                obtain rfl : cc_ = 0 := by omega
                                exact K_ _ rfl
                              · refine x_iload_n O 1 dX1_count_204 rfl rfl ?_
                                refine x_aload_n O 2 dX1_count_205 rfl rfl ?_
                                refine x_get O k_X1_29_1 XR.o0 (v := .ref (adr 1000)) rfl dX1_count_206 ?_
                                refine x_hget O (XR.hr (μ := μ) hI rfl : HR G κe adr _ _ 1000 (μ 1) (XR G κe κ adr μ ρ)) k_X1_121_4 rfl dX1_count_209 ?_
                                refine x_iload_n O 0 dX1_count_212 rfl rfl ?_
                                refine x_hgun O (XR.hr (μ := μ) hI rfl : HR G κe adr _ _ 1000 (μ 1) (XR G κe κ adr μ ρ)) (by omega) dX1_count_213 ?_
                                refine x_get O k_X1_413_7 ((XR.hr (μ := μ) hI rfl : HR G κe adr _ _ 1000 (μ 1) (XR G κe κ adr μ ρ)).gun (by omega)) (v := .int (μ 1 (272 + 4 * i3_193))) rfl dX1_count_214 ?_
                                refine x_iadd O dX1_count_217 ?_
                                refine x_istore_n O [(2, .int (v2_193 + (μ 1 (272 + 4 * i3_193)))), (3, .int (nI i3_193)), (0, .ref (adr 0))] dX1_count_218 rfl rfl rfl ?_
                                refine x_iincN O 1 [(3, .int (nI (i3_193 + 1))), (2, .int (v2_193 + (μ 1 (272 + 4 * i3_193)))), (0, .ref (adr 0))] dX1_count_219 rfl rfl rfl ?_
                                refine x_goto O 193 dX1_count_222 (by decide) ?_
                                obtain ⟨c2_, rfl⟩ : ∃ z, cc_ = z + 1 := ⟨cc_ - 1, by omega⟩
                                have hs_ : (fun i s => x_count_b193 (μ 1) i s) i3_193 v2_193 = v2_193 + (μ 1 (272 + 4 * i3_193)) := by show x_count_b193 (μ 1) i3_193 v2_193 = _; unfold x_count_b193; rfl
                                exact IH_ c2_ (by omega) _ _ (by omega) (by omega) (fun y0 hy_ => K_ y0 (hy_.trans (fr_step hs_).symm))
                          refine LOOP193 (tn (μ 1 0)) 0 (nI 0) rfl (by omega) (fun y0 hy_193 => ?_)
                          subst hy_193
                          refine x_iload_n O 0 dX1_count_225 rfl rfl ?_
                          exact x_iretQ O hQ rfl dX1_count_226 (fun h m => ⟨by rw [hr26], m⟩)
                        · have hr27 := hr25.trans (if_neg c3_11)
                          refine x_tabOut O 227 dX1_count_3 (tab_out (n := 12) (lt_s (lt_s (lt_s (lt_s (lt_s (lt_s (lt_s (lt_s (lt_s (lt_s (lt_s (lt_s lt_0 c3_0) c3_1) c3_2) c3_3) c3_4) c3_5) c3_6) c3_7) c3_8) c3_9) c3_10) c3_11) (by decide)) (by decide) ?_
                          refine x_sub [1] (L' := [(0, .ref (adr 0))]) rfl ?_
                          refine x_iconst O ((-1)) dX1_count_227 (by decide) ?_
                          exact x_iretQ O hQ rfl dX1_count_228 (fun h m => ⟨by rw [hr27], m⟩)

def x_fault (F0 : Int32)  : Int32 :=
  F0
set_option maxHeartbeats 1000000 in
set_option maxRecDepth 100000 in
theorem c_x_fault {G : UG} {κe κ : Hp} {adr : Nat → Nat} {μ : Mu} {ρ : List Nat}    : Con G yX1_fault cX1_fault 1 (some .int) 0 0 0 0 [.ref (adr 0)] (XR G κe κ adr μ ρ) (fun vr_ h' => vr_ = some (.int (x_fault (μ 0 0))) ∧ XR G κe κ adr μ ρ h') nX := by
  refine con_of2 (plainFor_of_name (by decide)) rfl ?_
  intro F R Q RF RL RC RS hQ O hnh hnm
  obtain ⟨res, hres⟩ : ∃ z, z = (x_fault (μ 0 0)) := ⟨_, rfl⟩
  rw [← hres] at hQ
  unfold x_fault at hres
  refine x_eq (L' := [(0, .ref (adr 0))]) ?_ rfl rfl rfl
  refine x_aload_n O 0 dX1_fault_0 rfl rfl ?_
  refine x_get O k_X1_52_1 XR.o0 (v := .int (μ 0 0)) rfl dX1_fault_1 ?_
  refine x_top (v' := μ 0 0) rfl ?_
  exact x_iretQ O hQ rfl dX1_fault_4 (fun h m => ⟨by rw [hres], m⟩)

def x_heapsOf_b4 (W : Nat → Int32) (cases : Int32) (i3_4 : Nat) (v2_4 : Nat) : Nat :=
  v2_4 + ((if (nI (h_heap W (nI i3_4))) < cases then 0 else 1))
def x_heapsOf (W : Nat → Int32) (cases : Int32) : Nat :=
  (fr (fun i s => x_heapsOf_b4 W cases i s) 256 0 0)
set_option maxHeartbeats 1000000 in
set_option maxRecDepth 100000 in
theorem c_x_heapsOf {G : UG} {κe κ : Hp} {adr : Nat → Nat} {μ : Mu} {ρ : List Nat} (hI : MI (μ 1)) (hkind : ∀ f : Nat, f < tn (μ 1 3) → μ 1 (349 + 6 * f) = 0 ∨ μ 1 (349 + 6 * f) = 1 ∨ μ 1 (349 + 6 * f) = 2 ∨ μ 1 (349 + 6 * f) = 3) (cases : Int32)  : Con G yX1_heapsOf cX1_heapsOf 4 (some .int) 5 108 0 0 [.ref (adr 0), .int cases] (XR G κe κ adr μ ρ) (fun vr_ h' => vr_ = some (.int (nI (x_heapsOf (μ 1) cases))) ∧ XR G κe κ adr μ ρ h') nX := by
  refine con_of2 (plainFor_of_name (by decide)) rfl ?_
  intro F R Q RF RL RC RS hQ O hnh hnm
  obtain ⟨res, hres⟩ : ∃ z, z = (x_heapsOf (μ 1) cases) := ⟨_, rfl⟩
  rw [← hres] at hQ
  unfold x_heapsOf at hres
  have hb3 : tn (μ 1 3) ≤ 120 := (hI 3 (by decide)).2
  refine x_eq (L' := [(0, .ref (adr 0)), (1, .int cases)]) ?_ rfl rfl rfl
  refine x_iconst O (nI 0) dX1_heapsOf_0 (by decide) ?_
  refine x_istore_n O [(2, .int (nI 0)), (0, .ref (adr 0)), (1, .int cases)] dX1_heapsOf_1 rfl rfl rfl ?_
  refine x_iconst O (nI 0) dX1_heapsOf_2 (by decide) ?_
  refine x_istore_n O [(3, .int (nI 0)), (2, .int (nI 0)), (0, .ref (adr 0)), (1, .int cases)] dX1_heapsOf_3 rfl rfl rfl ?_
  have LOOP4 : ∀ (cc_ : Nat) (i3_4 : Nat) (v2_4 : Nat), cc_ = 256 - i3_4 → i3_4 < 2147483648 → (∀ (y0 : Nat), y0 = fr (fun i s => x_heapsOf_b4 (μ 1) cases i s) cc_ i3_4 v2_4 → X G F R Q 4 37 [(2, .int (nI y0)), (0, .ref (adr 0))] [] (XR G κe κ adr μ ρ) 0 0) → X G F R Q 4 4 [(3, .int (nI i3_4)), (2, .int (nI v2_4)), (0, .ref (adr 0)), (1, .int cases)] [] (XR G κe κ adr μ ρ) 0 0 := by
    intro cc_
    induction cc_ using Nat.strongRecOn with
    | ind cc_ IH_ =>
      intro i3_4 v2_4 hc_ hb_  K_
      refine x_iload_n O 0 dX1_heapsOf_4 rfl rfl ?_
      refine x_sipush O (nI 256) dX1_heapsOf_5 (by decide) ?_
      refine x_icmpgeN O 37 (by omega) (by omega) dX1_heapsOf_8 (by decide) (fun c8 => ?_) (fun c8 => ?_)
      · refine x_sub [1, 2] (L' := [(2, .int (nI v2_4)), (0, .ref (adr 0))]) rfl ?_
        obtain rfl : cc_ = 0 := by omega
        exact K_ _ rfl
      · refine x_iload_n O 1 dX1_heapsOf_11 rfl rfl ?_
        refine x_aload_n O 2 dX1_heapsOf_12 rfl rfl ?_
        refine x_get O k_X1_29_1 XR.o0 (v := .ref (adr 1000)) rfl dX1_heapsOf_13 ?_
        refine x_iload_n O 0 dX1_heapsOf_16 rfl rfl ?_
        refine x_cV O 1 (c_h_heap (XR.hr (μ := μ) hI rfl : HR G κe adr _ _ 1000 (μ 1) (XR G κe κ adr μ ρ)) hI hkind (nI i3_4)) (XR.hr (μ := μ) hI rfl : HR G κe adr _ _ 1000 (μ 1) (XR G κe κ adr μ ρ)).obj rfl (lw_V q1493 q1494 q1495 q109 q1496) rfl hd_X4_heap rfl (by rw [RF]; rfl) (by rw [RL]; rfl) ⟨Nat.zero_le _, Nat.zero_le _⟩ rfl rfl dX1_heapsOf_17 ?_
        refine x_top (v' := nI (h_heap (μ 1) (nI i3_4))) rfl ?_
        refine x_iload_n O 3 dX1_heapsOf_20 rfl rfl ?_
        have J2 : ∀ (y1 : Nat), y1 = (if (nI (h_heap (μ 1) (nI i3_4))) < cases then 0 else 1) → X G F R Q 4 29 [(3, .int (nI i3_4)), (0, .ref (adr 0)), (1, .int cases)] [.int (nI y1), .int (nI v2_4)] (XR G κe κ adr μ ρ) 0 0 := by
          intro y1 e3
          subst e3
          refine x_iaddN O dX1_heapsOf_29 ?_
          refine x_istore_n O [(2, .int (nI (v2_4 + ((if (nI (h_heap (μ 1) (nI i3_4))) < cases then 0 else 1))))), (3, .int (nI i3_4)), (0, .ref (adr 0)), (1, .int cases)] dX1_heapsOf_30 rfl rfl rfl ?_
          refine x_iincN O 1 [(3, .int (nI (i3_4 + 1))), (2, .int (nI (v2_4 + ((if (nI (h_heap (μ 1) (nI i3_4))) < cases then 0 else 1))))), (0, .ref (adr 0)), (1, .int cases)] dX1_heapsOf_31 rfl rfl rfl ?_
          refine x_goto O 4 dX1_heapsOf_34 (by decide) ?_
          obtain ⟨c2_, rfl⟩ : ∃ z, cc_ = z + 1 := ⟨cc_ - 1, by omega⟩
          have hs_ : (fun i s => x_heapsOf_b4 (μ 1) cases i s) i3_4 v2_4 = v2_4 + ((if (nI (h_heap (μ 1) (nI i3_4))) < cases then 0 else 1)) := by show x_heapsOf_b4 (μ 1) cases i3_4 v2_4 = _; unfold x_heapsOf_b4; rfl
          exact IH_ c2_ (by omega) _ _ (by omega) (by omega) (fun y0 hy_ => K_ y0 (hy_.trans (fr_step hs_).symm))
        refine x_icmplt O 28 dX1_heapsOf_21 (by decide) (fun c21 => ?_) (fun c21 => ?_)
        · refine x_sub [0, 2, 3] (L' := [(3, .int (nI i3_4)), (0, .ref (adr 0)), (1, .int cases)]) rfl ?_
          refine x_iconst O (nI 0) dX1_heapsOf_28 (by decide) ?_
          exact J2 0 (by rw [if_pos c21])
        · refine x_sub [0, 2, 3] (L' := [(3, .int (nI i3_4)), (0, .ref (adr 0)), (1, .int cases)]) rfl ?_
          refine x_iconst O (nI 1) dX1_heapsOf_24 (by decide) ?_
          refine x_goto O 29 dX1_heapsOf_25 (by decide) ?_
          exact J2 1 (by rw [if_neg c21])
  refine LOOP4 256 0 0 rfl (by omega) (fun y0 hy_4 => ?_)
  subst hy_4
  refine x_iload_n O 0 dX1_heapsOf_37 rfl rfl ?_
  exact x_iretQ O hQ rfl dX1_heapsOf_38 (fun h m => ⟨by rw [hres], m⟩)

def x_heaps_b22 (W : Nat → Int32) (cases : Int32) (i3_22 : Nat)  : (Unit) ⊕ (Int32) :=
  (if (nI (h_heap W (nI i3_22))) < cases then .inl () else .inr (nI i3_22))
def x_heaps (W : Nat → Int32) (cases : Int32) (first : Bool) : Int32 :=
  (if first = true then (match (fre (fun i s => x_heaps_b22 W cases i) 256 0 ()) with | .inl y_22 => (-1) | .inr v => v) else nI (x_heapsOf W cases))
def x_heaps_e (W : Nat → Int32) (cases : Int32) (first : Bool) : Nat :=
  (if eIf (z_isIn cases (nI 1) (nI 99)) 2 = 0 then 0 else eIf (z_isIn cases (nI 1) (nI 99)) 2)
set_option maxHeartbeats 1000000 in
set_option maxRecDepth 100000 in
theorem c_x_heaps {G : UG} {κe κ : Hp} {adr : Nat → Nat} {μ : Mu} {ρ : List Nat} (hI : MI (μ 1)) (hkind : ∀ f : Nat, f < tn (μ 1 3) → μ 1 (349 + 6 * f) = 0 ∨ μ 1 (349 + 6 * f) = 1 ∨ μ 1 (349 + 6 * f) = 2 ∨ μ 1 (349 + 6 * f) = 3) (cases : Int32) (first : Bool)  : Con G yX1_heaps cX1_heaps 4 (some .int) 7 131 1 6 [.ref (adr 0), .int cases, .int (b2i first)] (XR G κe κ adr μ ρ) (fun vr_ h' => vr_ = some (.int (x_heaps (μ 1) cases first)) ∧ (x_heaps_e (μ 1) cases first) = 0 ∧ XR G κe κ adr μ ρ h') (fun E_ _ h' => ¬ (x_heaps_e (μ 1) cases first) = 0 ∧ E_ = exN (x_heaps_e (μ 1) cases first) ∧ XR G κe κ adr μ ρ h') := by
  refine con_of2 (plainFor_of_name (by decide)) rfl ?_
  intro F R Q RF RL RC RS hQ O hnh hnm
  obtain ⟨res, hres⟩ : ∃ z, z = (x_heaps (μ 1) cases first) := ⟨_, rfl⟩
  rw [← hres] at hQ
  unfold x_heaps at hres
  obtain ⟨rcd, hrcd⟩ : ∃ z, z = (x_heaps_e (μ 1) cases first) := ⟨_, rfl⟩
  rw [← hrcd] at hQ
  unfold x_heaps_e at hrcd
  have hb3 : tn (μ 1 3) ≤ 120 := (hI 3 (by decide)).2
  refine x_eq (L' := [(0, .ref (adr 0)), (1, .int cases), (2, .int (b2i first))]) ?_ rfl rfl rfl
  refine x_iload_n O 1 dX1_heaps_0 rfl rfl ?_
  refine x_iconst O (nI 1) dX1_heaps_1 (by decide) ?_
  refine x_bipush O (nI 99) dX1_heaps_2 (by decide) ?_
  refine x_cS O 3 (c_z_isIn cases (nI 1) (nI 99)) (lw_S q476 q477 q103 q478) hd_X1_isIn rfl (by rw [RF]; rfl) (by rw [RL]; rfl) ⟨Nat.zero_le _, Nat.zero_le _⟩ rfl rfl dX1_heaps_4 ?_
  refine x_top (v' := b2i (z_isIn cases (nI 1) (nI 99))) rfl ?_
  refine x_runE O hQ hnh (r_S O 1 (c_e_must (z_isIn cases (nI 1) (nI 99))) (lw_S q738 q739 q103 q740) hd_X1_must rfl (by rw [RF]; rfl) (by rw [RL]; rfl) (by rw [RC, RS]; decide) rfl rfl dX1_heaps_7) (by decide) (by decide) (fun c7 => ?_) (fun c7 => ?_)
  · have hr1 := hrcd.trans (if_neg c7)
    exact fun q h m => ⟨by rw [hr1]; exact c7, by rw [hr1], m⟩
  · have hr2 := hrcd.trans (if_pos c7)
    refine x_iload_n O 2 dX1_heaps_10 rfl rfl ?_
    refine x_ifneB O 20 dX1_heaps_11 (by decide) (fun c11 => ?_) (fun c11 => ?_)
    · have hr3 := hres.trans (if_pos c11)
      refine x_sub [0, 1] (L' := [(0, .ref (adr 0)), (1, .int cases)]) rfl ?_
      refine x_iconst O (nI 0) dX1_heaps_20 (by decide) ?_
      refine x_istore_n O [(3, .int (nI 0)), (0, .ref (adr 0)), (1, .int cases)] dX1_heaps_21 rfl rfl rfl ?_
      have LOOP22 : ∀ (cc_ : Nat) (i3_22 : Nat) , cc_ = 256 - i3_22 → i3_22 < 2147483648 → (fre (fun i s => x_heaps_b22 (μ 1) cases i) cc_ i3_22 () = .inl () → X G F R Q 4 49 [(0, .ref (adr 0))] [] (XR G κe κ adr μ ρ) 1 6) → (∀ v_ : Int32, fre (fun i s => x_heaps_b22 (μ 1) cases i) cc_ i3_22 () = .inr v_ → res = v_) → X G F R Q 4 22 [(3, .int (nI i3_22)), (0, .ref (adr 0)), (1, .int cases)] [] (XR G κe κ adr μ ρ) 1 6 := by
        intro cc_
        induction cc_ using Nat.strongRecOn with
        | ind cc_ IH_ =>
          intro i3_22  hc_ hb_  K_ K2_
          refine x_iload_n O 0 dX1_heaps_22 rfl rfl ?_
          refine x_sipush O (nI 256) dX1_heaps_23 (by decide) ?_
          refine x_icmpgeN O 49 (by omega) (by omega) dX1_heaps_26 (by decide) (fun c26 => ?_) (fun c26 => ?_)
          · refine x_sub [1] (L' := [(0, .ref (adr 0))]) rfl ?_
            obtain rfl : cc_ = 0 := by omega
            exact K_ rfl
          · refine x_aload_n O 1 dX1_heaps_29 rfl rfl ?_
            refine x_get O k_X1_29_1 XR.o0 (v := .ref (adr 1000)) rfl dX1_heaps_30 ?_
            refine x_iload_n O 0 dX1_heaps_33 rfl rfl ?_
            refine x_cV O 1 (c_h_heap (XR.hr (μ := μ) hI rfl : HR G κe adr _ _ 1000 (μ 1) (XR G κe κ adr μ ρ)) hI hkind (nI i3_22)) (XR.hr (μ := μ) hI rfl : HR G κe adr _ _ 1000 (μ 1) (XR G κe κ adr μ ρ)).obj rfl (lw_V q1493 q1494 q1495 q109 q1496) rfl hd_X4_heap rfl (by rw [RF]; rfl) (by rw [RL]; rfl) (by rw [RC, RS]; decide) rfl rfl dX1_heaps_34 ?_
            refine x_top (v' := nI (h_heap (μ 1) (nI i3_22))) rfl ?_
            refine x_iload_n O 2 dX1_heaps_37 rfl rfl ?_
            refine x_icmplt O 43 dX1_heaps_38 (by decide) (fun c38 => ?_) (fun c38 => ?_)
            · refine x_iincN O 0 [(3, .int (nI (i3_22 + 1))), (0, .ref (adr 0)), (1, .int cases)] dX1_heaps_43 rfl rfl rfl ?_
              refine x_goto O 22 dX1_heaps_46 (by decide) ?_
              obtain ⟨c2_, rfl⟩ : ∃ z, cc_ = z + 1 := ⟨cc_ - 1, by omega⟩
              have hs_ : (fun i s => x_heaps_b22 (μ 1) cases i) i3_22 () = .inl () := by show x_heaps_b22 (μ 1) cases i3_22 = _; unfold x_heaps_b22; rw [if_pos c38]
              exact IH_ c2_ (by omega) _ (by omega) (by omega) (fun hy_ => K_ ((frx_step hs_).trans hy_)) (fun v_ hv_ => K2_ v_ ((frx_step hs_).trans hv_))
            · refine x_sub [0, 1] (L' := [(3, .int (nI i3_22)), (0, .ref (adr 0))]) rfl ?_
              refine x_iload_n O 0 dX1_heaps_41 rfl rfl ?_
              obtain ⟨c2_, rfl⟩ : ∃ z, cc_ = z + 1 := ⟨cc_ - 1, by omega⟩
              have hs_ : (fun i s => x_heaps_b22 (μ 1) cases i) i3_22 () = .inr (nI i3_22) := by show x_heaps_b22 (μ 1) cases i3_22 = _; unfold x_heaps_b22; rw [if_neg c38]
              have hk4 := K2_ _ (frx_stop hs_)
              refine x_widen (k' := 1) (n' := 6) (by decide) (by decide) ?_
              exact x_iretQ O hQ rfl dX1_heaps_42 (fun h m => ⟨by rw [hk4], by rw [hr2], m⟩)
      refine LOOP22 256 0 rfl (by omega) (fun  hy_22 => ?_) (fun v_ hv_ => by rw [hr3, hv_])
      rw [hy_22] at hr3
      refine x_iconst O ((-1)) dX1_heaps_49 (by decide) ?_
      refine x_widen (k' := 1) (n' := 6) (by decide) (by decide) ?_
      exact x_iretQ O hQ rfl dX1_heaps_50 (fun h m => ⟨by rw [hr3], by rw [hr2], m⟩)
    · have hr5 := hres.trans (if_neg c11)
      refine x_sub [0, 1] (L' := [(0, .ref (adr 0)), (1, .int cases)]) rfl ?_
      refine x_aload_n O 0 dX1_heaps_14 rfl rfl ?_
      refine x_iload_n O 1 dX1_heaps_15 rfl rfl ?_
      refine x_cV O 1 (c_x_heapsOf (μ := μ) hI hkind cases) XR.o0 rfl (lw_V q1489 q1491 qs28 q103 q1492) rfl hd_X1_heapsOf rfl (by rw [RF]; rfl) (by rw [RL]; rfl) (by rw [RC, RS]; decide) rfl rfl dX1_heaps_16 ?_
      refine x_top (v' := nI (x_heapsOf (μ 1) cases)) rfl ?_
      refine x_widen (k' := 1) (n' := 6) (by decide) (by decide) ?_
      exact x_iretQ O hQ rfl dX1_heaps_19 (fun h m => ⟨by rw [hr5], by rw [hr2], m⟩)

def x_still_b30 (W : Nat → Int32) (i5_16 : Nat) (i7_30 : Nat) (v6_30 : Nat) : Nat :=
  v6_30 + ((if h_isSeen W i7_30 = true then (if (W (350 + 6 * i7_30)) = (nI i5_16) then 1 else 0) else 0))
def x_still_b16 (W : Nat → Int32) (a : Int32) (b : Int32) (i5_16 : Nat) (v4_16 : Nat) (v3_16 : Int32) : Nat × Int32 :=
  (v4_16 + ((if z_isInArea (nI i5_16) a b = true then (if h_isNear W ((nI i5_16) / (nI 16)) = true then 0 else 1) else 0)), j_max v3_16 (nI ((fr (fun i s => x_still_b30 W i5_16 i s) (tn (W 3)) 0 0))))
def x_still (W : Nat → Int32) (a : Int32) (b : Int32) : Int32 :=
  (nI ((fr (fun i s => x_still_b16 W a b i s.1 s.2) 256 0 (0, nI 0)).1)) * ((fr (fun i s => x_still_b16 W a b i s.1 s.2) 256 0 (0, nI 0)).2)
def x_still_e (W : Nat → Int32) (a : Int32) (b : Int32) : Nat :=
  (if eIf (z_isIn a (nI 0) (nI 255)) 1 = 0 then (if eIf (z_isIn b (nI 0) (nI 255)) 1 = 0 then 0 else eIf (z_isIn b (nI 0) (nI 255)) 1) else eIf (z_isIn a (nI 0) (nI 255)) 1)
set_option maxHeartbeats 1000000 in
set_option maxRecDepth 100000 in
theorem c_x_still {G : UG} {κe κ : Hp} {adr : Nat → Nat} {μ : Mu} {ρ : List Nat} (hI : MI (μ 1)) (a : Int32) (b : Int32)  : Con G yX1_still cX1_still 8 (some .int) 8 121 2 12 [.ref (adr 0), .int a, .int b] (XR G κe κ adr μ ρ) (fun vr_ h' => vr_ = some (.int (x_still (μ 1) a b)) ∧ (x_still_e (μ 1) a b) = 0 ∧ XR G κe κ adr μ ρ h') (fun E_ _ h' => ¬ (x_still_e (μ 1) a b) = 0 ∧ E_ = exN (x_still_e (μ 1) a b) ∧ XR G κe κ adr μ ρ h') := by
  refine con_of2 (plainFor_of_name (by decide)) rfl ?_
  intro F R Q RF RL RC RS hQ O hnh hnm
  obtain ⟨res, hres⟩ : ∃ z, z = (x_still (μ 1) a b) := ⟨_, rfl⟩
  rw [← hres] at hQ
  unfold x_still at hres
  obtain ⟨rcd, hrcd⟩ : ∃ z, z = (x_still_e (μ 1) a b) := ⟨_, rfl⟩
  rw [← hrcd] at hQ
  unfold x_still_e at hrcd
  have hb3 : tn (μ 1 3) ≤ 120 := (hI 3 (by decide)).2
  refine x_eq (L' := [(0, .ref (adr 0)), (1, .int a), (2, .int b)]) ?_ rfl rfl rfl
  refine x_iload_n O 1 dX1_still_0 rfl rfl ?_
  refine x_runE O hQ hnh (r_S O 1 (c_e_isCell a) (lw_S q711 q712 q103 q713) hd_X1_isCell rfl (by rw [RF]; rfl) (by rw [RL]; rfl) (by rw [RC, RS]; decide) rfl rfl dX1_still_1) (by decide) (by decide) (fun c1 => ?_) (fun c1 => ?_)
  · have hr5 := hrcd.trans (if_neg c1)
    exact fun q h m => ⟨by rw [hr5]; exact c1, by rw [hr5], m⟩
  · have hr6 := hrcd.trans (if_pos c1)
    have hxc1 := (isC_nn c1 (by decide)).2
    refine x_iload_n O 2 dX1_still_4 rfl rfl ?_
    refine x_runE O hQ hnh (r_S O 1 (c_e_isCell b) (lw_S q711 q712 q103 q713) hd_X1_isCell rfl (by rw [RF]; rfl) (by rw [RL]; rfl) (by rw [RC, RS]; decide) rfl rfl dX1_still_5) (by decide) (by decide) (fun c5 => ?_) (fun c5 => ?_)
    · have hr7 := hr6.trans (if_neg c5)
      exact fun q h m => ⟨by rw [hr7]; exact c5, by rw [hr7], m⟩
    · have hr8 := hr6.trans (if_pos c5)
      have hxc5 := (isC_nn c5 (by decide)).2
      refine x_iconst O (nI 0) dX1_still_8 (by decide) ?_
      refine x_istore_n O [(3, .int (nI 0)), (0, .ref (adr 0)), (1, .int a), (2, .int b)] dX1_still_9 rfl rfl rfl ?_
      refine x_iconst O (nI 0) dX1_still_10 (by decide) ?_
      refine x_istore O [(4, .int (nI 0)), (3, .int (nI 0)), (0, .ref (adr 0)), (1, .int a), (2, .int b)] dX1_still_11 rfl rfl ?_
      refine x_iconst O (nI 0) dX1_still_13 (by decide) ?_
      refine x_istore O [(5, .int (nI 0)), (4, .int (nI 0)), (3, .int (nI 0)), (0, .ref (adr 0)), (1, .int a), (2, .int b)] dX1_still_14 rfl rfl ?_
      have LOOP16 : ∀ (cc_ : Nat) (i5_16 : Nat) (v4_16 : Nat) (v3_16 : Int32), cc_ = 256 - i5_16 → i5_16 < 2147483648 → (∀ (y0 : Nat) (y1 : Int32), (y0, y1) = fr (fun i s => x_still_b16 (μ 1) a b i s.1 s.2) cc_ i5_16 (v4_16, v3_16) → X G F R Q 8 136 [(4, .int (nI y0)), (3, .int y1), (0, .ref (adr 0))] [] (XR G κe κ adr μ ρ) 2 12) → X G F R Q 8 16 [(5, .int (nI i5_16)), (4, .int (nI v4_16)), (3, .int v3_16), (0, .ref (adr 0)), (1, .int a), (2, .int b)] [] (XR G κe κ adr μ ρ) 2 12 := by
        intro cc_
        induction cc_ using Nat.strongRecOn with
        | ind cc_ IH_ =>
          intro i5_16 v4_16 v3_16 hc_ hb_  K_
          refine x_iload O 0 dX1_still_16 rfl ?_
          refine x_sipush O (nI 256) dX1_still_18 (by decide) ?_
          refine x_icmpgeN O 136 (by omega) (by omega) dX1_still_21 (by decide) (fun c21 => ?_) (fun c21 => ?_)
          · refine x_sub [1, 2, 3] (L' := [(4, .int (nI v4_16)), (3, .int v3_16), (0, .ref (adr 0))]) rfl ?_
            obtain rfl : cc_ = 0 := by omega
            exact K_ _ _ rfl
          · refine x_iconst O (nI 0) dX1_still_24 (by decide) ?_
            refine x_istore O [(6, .int (nI 0)), (5, .int (nI i5_16)), (4, .int (nI v4_16)), (3, .int v3_16), (0, .ref (adr 0)), (1, .int a), (2, .int b)] dX1_still_25 rfl rfl ?_
            refine x_iconst O (nI 0) dX1_still_27 (by decide) ?_
            refine x_istore O [(7, .int (nI 0)), (6, .int (nI 0)), (5, .int (nI i5_16)), (4, .int (nI v4_16)), (3, .int v3_16), (0, .ref (adr 0)), (1, .int a), (2, .int b)] dX1_still_28 rfl rfl ?_
            have LOOP30 : ∀ (cc_ : Nat) (i7_30 : Nat) (v6_30 : Nat), cc_ = tn (μ 1 3) - i7_30 → i7_30 < 2147483648 → (∀ (y0 : Nat), y0 = fr (fun i s => x_still_b30 (μ 1) i5_16 i s) cc_ i7_30 v6_30 → X G F R Q 8 88 [(6, .int (nI y0)), (5, .int (nI i5_16)), (4, .int (nI v4_16)), (3, .int v3_16), (0, .ref (adr 0)), (1, .int a), (2, .int b)] [] (XR G κe κ adr μ ρ) 2 12) → X G F R Q 8 30 [(7, .int (nI i7_30)), (6, .int (nI v6_30)), (5, .int (nI i5_16)), (4, .int (nI v4_16)), (3, .int v3_16), (0, .ref (adr 0)), (1, .int a), (2, .int b)] [] (XR G κe κ adr μ ρ) 2 12 := by
              intro cc_
              induction cc_ using Nat.strongRecOn with
              | ind cc_ IH_ =>
                intro i7_30 v6_30 hc_ hb_  K_
                refine x_iload O 0 dX1_still_30 rfl ?_
                refine x_aload_n O 5 dX1_still_32 rfl rfl ?_
                refine x_get O k_X1_29_1 XR.o0 (v := .ref (adr 1000)) rfl dX1_still_33 ?_
                refine x_hget O (XR.hr (μ := μ) hI rfl : HR G κe adr _ _ 1000 (μ 1) (XR G κe κ adr μ ρ)) k_X1_79_4 rfl dX1_still_36 ?_
                refine x_top (v' := nI (tn (μ 1 3))) (hI 3 (by decide)).1 ?_
                refine x_icmpgeN O 88 (by omega) (by omega) dX1_still_39 (by decide) (fun c39 => ?_) (fun c39 => ?_)
                · refine x_sub [1, 2, 3, 4, 5, 6, 7] (L' := [(6, .int (nI v6_30)), (5, .int (nI i5_16)), (4, .int (nI v4_16)), (3, .int v3_16), (0, .ref (adr 0)), (1, .int a), (2, .int b)]) rfl ?_
                  obtain rfl : cc_ = 0 := by omega
                  exact K_ _ rfl
                · refine x_iload O 1 dX1_still_42 rfl ?_
                  refine x_aload_n O 5 dX1_still_44 rfl rfl ?_
                  refine x_get O k_X1_29_1 XR.o0 (v := .ref (adr 1000)) rfl dX1_still_45 ?_
                  refine x_iload O 0 dX1_still_48 rfl ?_
                  refine x_cV O 1 (c_h_isSeen (XR.hr (μ := μ) hI rfl : HR G κe adr _ _ 1000 (μ 1) (XR G κe κ adr μ ρ)) i7_30 (by omega)) (XR.hr (μ := μ) hI rfl : HR G κe adr _ _ 1000 (μ 1) (XR G κe κ adr μ ρ)).obj rfl (lw_V q1335 q496 q497 q109 q498) rfl hd_X4_isSeen rfl (by rw [RF]; rfl) (by rw [RL]; rfl) (by rw [RC, RS]; decide) rfl rfl dX1_still_50 ?_
                  refine x_top (v' := b2i (h_isSeen (μ 1) i7_30)) rfl ?_
                  have J9 : ∀ (y3 : Nat), y3 = (if h_isSeen (μ 1) i7_30 = true then (if (μ 1 (350 + 6 * i7_30)) = (nI i5_16) then 1 else 0) else 0) → X G F R Q 8 79 [(7, .int (nI i7_30)), (5, .int (nI i5_16)), (4, .int (nI v4_16)), (3, .int v3_16), (0, .ref (adr 0)), (1, .int a), (2, .int b)] [.int (nI y3), .int (nI v6_30)] (XR G κe κ adr μ ρ) 2 12 := by
                    intro y3 e10
                    subst e10
                    refine x_iaddN O dX1_still_79 ?_
                    refine x_istore O [(6, .int (nI (v6_30 + ((if h_isSeen (μ 1) i7_30 = true then (if (μ 1 (350 + 6 * i7_30)) = (nI i5_16) then 1 else 0) else 0))))), (7, .int (nI i7_30)), (5, .int (nI i5_16)), (4, .int (nI v4_16)), (3, .int v3_16), (0, .ref (adr 0)), (1, .int a), (2, .int b)] dX1_still_80 rfl rfl ?_
                    refine x_iincN O 1 [(7, .int (nI (i7_30 + 1))), (6, .int (nI (v6_30 + ((if h_isSeen (μ 1) i7_30 = true then (if (μ 1 (350 + 6 * i7_30)) = (nI i5_16) then 1 else 0) else 0))))), (5, .int (nI i5_16)), (4, .int (nI v4_16)), (3, .int v3_16), (0, .ref (adr 0)), (1, .int a), (2, .int b)] dX1_still_82 rfl rfl rfl ?_
                    refine x_goto O 30 dX1_still_85 (by decide) ?_
                    obtain ⟨c2_, rfl⟩ : ∃ z, cc_ = z + 1 := ⟨cc_ - 1, by omega⟩
                    have hs_ : (fun i s => x_still_b30 (μ 1) i5_16 i s) i7_30 v6_30 = v6_30 + ((if h_isSeen (μ 1) i7_30 = true then (if (μ 1 (350 + 6 * i7_30)) = (nI i5_16) then 1 else 0) else 0)) := by show x_still_b30 (μ 1) i5_16 i7_30 v6_30 = _; unfold x_still_b30; rfl
                    exact IH_ c2_ (by omega) _ _ (by omega) (by omega) (fun y0 hy_ => K_ y0 (hy_.trans (fr_step hs_).symm))
                  refine x_ifeqB O 78 dX1_still_53 (by decide) (fun c53 => ?_) (fun c53 => ?_)
                  · refine x_sub [0, 2, 3, 4, 5, 6, 7] (L' := [(7, .int (nI i7_30)), (5, .int (nI i5_16)), (4, .int (nI v4_16)), (3, .int v3_16), (0, .ref (adr 0)), (1, .int a), (2, .int b)]) rfl ?_
                    refine x_iconst O (nI 0) dX1_still_78 (by decide) ?_
                    exact J9 0 (by rw [if_neg c53])
                  · refine x_sub [0, 2, 3, 4, 5, 6, 7] (L' := [(7, .int (nI i7_30)), (5, .int (nI i5_16)), (4, .int (nI v4_16)), (3, .int v3_16), (0, .ref (adr 0)), (1, .int a), (2, .int b)]) rfl ?_
                    refine x_aload_n O 4 dX1_still_56 rfl rfl ?_
                    refine x_get O k_X1_29_1 XR.o0 (v := .ref (adr 1000)) rfl dX1_still_57 ?_
                    refine x_hget O (XR.hr (μ := μ) hI rfl : HR G κe adr _ _ 1000 (μ 1) (XR G κe κ adr μ ρ)) k_X1_82_4 rfl dX1_still_60 ?_
                    refine x_iload O 0 dX1_still_63 rfl ?_
                    refine x_hfind O (XR.hr (μ := μ) hI rfl : HR G κe adr _ _ 1000 (μ 1) (XR G κe κ adr μ ρ)) (by omega) dX1_still_65 (fun q1 hq2 => ?_)
                    refine x_fcell O (f := i7_30) (w := μ 1) q1318 ((XR.hr (μ := μ) hI rfl : HR G κe adr _ _ 1000 (μ 1) (XR G κe κ adr μ ρ)).fr hq2) (by rw [RF]; rfl) (by rw [RL]; rfl) (by rw [RC, RS]; decide) rfl dX1_still_66 ?_
                    refine x_iload O 1 dX1_still_69 rfl ?_
                    refine x_icmpne O 78 dX1_still_71 (by decide) (fun c71 => ?_) (fun c71 => ?_)
                    · refine x_iconst O (nI 0) dX1_still_78 (by decide) ?_
                      exact J9 0 (by first | (rw [if_pos c53, if_neg c71]; done) | simp only [if_pos c53, if_neg c71])
                    · refine x_iconst O (nI 1) dX1_still_74 (by decide) ?_
                      refine x_goto O 79 dX1_still_75 (by decide) ?_
                      exact J9 1 (by first | (rw [if_pos c53, if_pos c71]; done) | simp only [if_pos c53, if_pos c71])
            refine LOOP30 (tn (μ 1 3)) 0 0 rfl (by omega) (fun y0 hy_30 => ?_)
            subst hy_30
            refine x_iload_n O 3 dX1_still_88 rfl rfl ?_
            refine x_iload O 0 dX1_still_89 rfl ?_
            refine x_cS O 2 (c_j_max v3_16 (nI ((fr (fun i s => x_still_b30 (μ 1) i5_16 i s) (tn (μ 1 3)) 0 0)))) (lw_S q557 q558 q116 q559) hd_J7_max rfl (by rw [RF]; rfl) (by rw [RL]; rfl) (by rw [RC, RS]; decide) rfl rfl dX1_still_91 ?_
            refine x_top (v' := j_max v3_16 (nI ((fr (fun i s => x_still_b30 (μ 1) i5_16 i s) (tn (μ 1 3)) 0 0)))) rfl ?_
            refine x_istore_n O [(3, .int (j_max v3_16 (nI ((fr (fun i s => x_still_b30 (μ 1) i5_16 i s) (tn (μ 1 3)) 0 0))))), (6, .int (nI ((fr (fun i s => x_still_b30 (μ 1) i5_16 i s) (tn (μ 1 3)) 0 0)))), (5, .int (nI i5_16)), (4, .int (nI v4_16)), (0, .ref (adr 0)), (1, .int a), (2, .int b)] dX1_still_94 rfl rfl rfl ?_
            refine x_sub [0, 2, 3, 4, 5, 6] (L' := [(3, .int (j_max v3_16 (nI ((fr (fun i s => x_still_b30 (μ 1) i5_16 i s) (tn (μ 1 3)) 0 0))))), (5, .int (nI i5_16)), (4, .int (nI v4_16)), (0, .ref (adr 0)), (1, .int a), (2, .int b)]) rfl ?_
            refine x_iload O 2 dX1_still_95 rfl ?_
            refine x_iload O 1 dX1_still_97 rfl ?_
            refine x_iload_n O 4 dX1_still_99 rfl rfl ?_
            refine x_iload_n O 5 dX1_still_100 rfl rfl ?_
            refine x_cS O 3 (c_z_isInArea (nI i5_16) a b) (lw_S q756 q757 q109 q758) hd_X4_isIn rfl (by rw [RF]; rfl) (by rw [RL]; rfl) (by rw [RC, RS]; decide) rfl rfl dX1_still_101 ?_
            refine x_top (v' := b2i (z_isInArea (nI i5_16) a b)) rfl ?_
            have J11 : ∀ (y4 : Nat), y4 = (if z_isInArea (nI i5_16) a b = true then (if h_isNear (μ 1) ((nI i5_16) / (nI 16)) = true then 0 else 1) else 0) → X G F R Q 8 127 [(3, .int (j_max v3_16 (nI ((fr (fun i s => x_still_b30 (μ 1) i5_16 i s) (tn (μ 1 3)) 0 0))))), (5, .int (nI i5_16)), (0, .ref (adr 0)), (1, .int a), (2, .int b)] [.int (nI y4), .int (nI v4_16)] (XR G κe κ adr μ ρ) 2 12 := by
              intro y4 e12
              subst e12
              refine x_iaddN O dX1_still_127 ?_
              refine x_istore O [(4, .int (nI (v4_16 + ((if z_isInArea (nI i5_16) a b = true then (if h_isNear (μ 1) ((nI i5_16) / (nI 16)) = true then 0 else 1) else 0))))), (3, .int (j_max v3_16 (nI ((fr (fun i s => x_still_b30 (μ 1) i5_16 i s) (tn (μ 1 3)) 0 0))))), (5, .int (nI i5_16)), (0, .ref (adr 0)), (1, .int a), (2, .int b)] dX1_still_128 rfl rfl ?_
              refine x_iincN O 2 [(5, .int (nI (i5_16 + 1))), (4, .int (nI (v4_16 + ((if z_isInArea (nI i5_16) a b = true then (if h_isNear (μ 1) ((nI i5_16) / (nI 16)) = true then 0 else 1) else 0))))), (3, .int (j_max v3_16 (nI ((fr (fun i s => x_still_b30 (μ 1) i5_16 i s) (tn (μ 1 3)) 0 0))))), (0, .ref (adr 0)), (1, .int a), (2, .int b)] dX1_still_130 rfl rfl rfl ?_
              refine x_goto O 16 dX1_still_133 (by decide) ?_
              obtain ⟨c2_, rfl⟩ : ∃ z, cc_ = z + 1 := ⟨cc_ - 1, by omega⟩
              have hs_ : (fun i s => x_still_b16 (μ 1) a b i s.1 s.2) i5_16 (v4_16, v3_16) = (v4_16 + ((if z_isInArea (nI i5_16) a b = true then (if h_isNear (μ 1) ((nI i5_16) / (nI 16)) = true then 0 else 1) else 0)), j_max v3_16 (nI ((fr (fun i s => x_still_b30 (μ 1) i5_16 i s) (tn (μ 1 3)) 0 0)))) := by show x_still_b16 (μ 1) a b i5_16 v4_16 v3_16 = _; unfold x_still_b16; rfl
              exact IH_ c2_ (by omega) _ _ _ (by omega) (by omega) (fun y0 y1 hy_ => K_ y0 y1 (hy_.trans (fr_step hs_).symm))
            refine x_ifeqB O 126 dX1_still_104 (by decide) (fun c104 => ?_) (fun c104 => ?_)
            · refine x_sub [0, 1, 3, 4, 5] (L' := [(3, .int (j_max v3_16 (nI ((fr (fun i s => x_still_b30 (μ 1) i5_16 i s) (tn (μ 1 3)) 0 0))))), (5, .int (nI i5_16)), (0, .ref (adr 0)), (1, .int a), (2, .int b)]) rfl ?_
              refine x_iconst O (nI 0) dX1_still_126 (by decide) ?_
              exact J11 0 (by rw [if_neg c104])
            · refine x_sub [0, 1, 3, 4, 5] (L' := [(3, .int (j_max v3_16 (nI ((fr (fun i s => x_still_b30 (μ 1) i5_16 i s) (tn (μ 1 3)) 0 0))))), (5, .int (nI i5_16)), (0, .ref (adr 0)), (1, .int a), (2, .int b)]) rfl ?_
              refine x_aload_n O 2 dX1_still_107 rfl rfl ?_
              refine x_get O k_X1_29_1 XR.o0 (v := .ref (adr 1000)) rfl dX1_still_108 ?_
              refine x_iload O 1 dX1_still_111 rfl ?_
              refine x_bipush O (nI 16) dX1_still_113 (by decide) ?_
              refine x_idiv O dX1_still_115 (by decide) ?_
              refine x_cV O 1 (c_h_isNear (XR.hr (μ := μ) hI rfl : HR G κe adr _ _ 1000 (μ 1) (XR G κe κ adr μ ρ)) ((nI i5_16) / (nI 16))) (XR.hr (μ := μ) hI rfl : HR G κe adr _ _ 1000 (μ 1) (XR G κe κ adr μ ρ)).obj rfl (lw_V q1511 q516 q517 q109 q518) rfl hd_X4_isNear rfl (by rw [RF]; rfl) (by rw [RL]; rfl) (by rw [RC, RS]; decide) rfl rfl dX1_still_116 ?_
              refine x_top (v' := b2i (h_isNear (μ 1) ((nI i5_16) / (nI 16)))) rfl ?_
              refine x_ifneB O 126 dX1_still_119 (by decide) (fun c119 => ?_) (fun c119 => ?_)
              · refine x_iconst O (nI 0) dX1_still_126 (by decide) ?_
                exact J11 0 (by first | (rw [if_pos c104, if_pos c119]; done) | simp only [if_pos c104, if_pos c119])
              · refine x_iconst O (nI 1) dX1_still_122 (by decide) ?_
                refine x_goto O 127 dX1_still_123 (by decide) ?_
                exact J11 1 (by first | (rw [if_pos c104, if_neg c119]; done) | simp only [if_pos c104, if_neg c119])
      refine LOOP16 256 0 0 (nI 0) rfl (by omega) (fun y0 y1 hy_16 => ?_)
      obtain rfl : y0 = (fr (fun i s => x_still_b16 (μ 1) a b i s.1 s.2) 256 0 (0, nI 0)).1 := congrArg (fun z => z.1) hy_16
      obtain rfl : y1 = (fr (fun i s => x_still_b16 (μ 1) a b i s.1 s.2) 256 0 (0, nI 0)).2 := congrArg (fun z => z.2) hy_16
      refine x_iload O 0 dX1_still_136 rfl ?_
      refine x_iload_n O 1 dX1_still_138 rfl rfl ?_
      refine x_imul O dX1_still_139 ?_
      refine x_widen (k' := 2) (n' := 12) (by decide) (by decide) ?_
      exact x_iretQ O hQ rfl dX1_still_140 (fun h m => ⟨by rw [hres], by rw [hr8], m⟩)

def x_length_b68 (W : Nat → Int32) (side : Int32) (i7_50 : Nat) (i9_68 : Nat) (v8_68 : Nat) : Nat :=
  v8_68 + ((if (W (269 + 4 * i7_50)) = side then (if (h_sure W i9_68) = (nI i7_50) then 1 else 0) else 0))
def x_length_b50 (W : Nat → Int32) (side : Int32) (least : Int32) (greatest : Int32) (most : Bool) (i7_50 : Nat) (v6_50 : Int32) : Int32 :=
  j_max v6_50 ((((nI ((fr (fun i s => x_length_b68 W side i7_50 i s) (tn (W 3)) 0 0))) + ((if most = true then least else greatest))) - (nI 1)) / ((if most = true then least else greatest)))
def x_length (W : Nat → Int32) (side : Int32) (least : Int32) (greatest : Int32) (most : Bool) : Int32 :=
  (fr (fun i s => x_length_b50 W side least greatest most i s) (tn (W 0)) 0 (nI 0))
def x_length_e (W : Nat → Int32) (side : Int32) (least : Int32) (greatest : Int32) (most : Bool) : Nat :=
  (if eIf (z_isIn side (nI 0) (nI 1)) 1 = 0 then (if eIf ((if z_isIn least (nI 1) (nI 9) = true then (if z_isIn greatest least (nI 9) = true then true else false) else false)) 2 = 0 then 0 else eIf ((if z_isIn least (nI 1) (nI 9) = true then (if z_isIn greatest least (nI 9) = true then true else false) else false)) 2) else eIf (z_isIn side (nI 0) (nI 1)) 1)
set_option maxHeartbeats 1000000 in
set_option maxRecDepth 100000 in
theorem c_x_length {G : UG} {κe κ : Hp} {adr : Nat → Nat} {μ : Mu} {ρ : List Nat} (hI : MI (μ 1)) (hkind : ∀ f : Nat, f < tn (μ 1 3) → μ 1 (349 + 6 * f) = 0 ∨ μ 1 (349 + 6 * f) = 1 ∨ μ 1 (349 + 6 * f) = 2 ∨ μ 1 (349 + 6 * f) = 3) (side : Int32) (least : Int32) (greatest : Int32) (most : Bool)  : Con G yX1_length cX1_length 10 (some .int) 8 121 2 12 [.ref (adr 0), .int side, .int least, .int greatest, .int (b2i most)] (XR G κe κ adr μ ρ) (fun vr_ h' => vr_ = some (.int (x_length (μ 1) side least greatest most)) ∧ (x_length_e (μ 1) side least greatest most) = 0 ∧ XR G κe κ adr μ ρ h') (fun E_ _ h' => ¬ (x_length_e (μ 1) side least greatest most) = 0 ∧ E_ = exN (x_length_e (μ 1) side least greatest most) ∧ XR G κe κ adr μ ρ h') := by
  refine con_of2 (plainFor_of_name (by decide)) rfl ?_
  intro F R Q RF RL RC RS hQ O hnh hnm
  obtain ⟨res, hres⟩ : ∃ z, z = (x_length (μ 1) side least greatest most) := ⟨_, rfl⟩
  rw [← hres] at hQ
  unfold x_length at hres
  obtain ⟨rcd, hrcd⟩ : ∃ z, z = (x_length_e (μ 1) side least greatest most) := ⟨_, rfl⟩
  rw [← hrcd] at hQ
  unfold x_length_e at hrcd
  have hb0 : tn (μ 1 0) ≤ 8 := (hI 0 (by decide)).2
  have hb3 : tn (μ 1 3) ≤ 120 := (hI 3 (by decide)).2
  refine x_eq (L' := [(0, .ref (adr 0)), (1, .int side), (2, .int least), (3, .int greatest), (4, .int (b2i most))]) ?_ rfl rfl rfl
  refine x_iload_n O 1 dX1_length_0 rfl rfl ?_
  refine x_runE O hQ hnh (r_S O 1 (c_e_isSide side) (lw_S q1465 q1466 q103 q1467) hd_X1_isSide rfl (by rw [RF]; rfl) (by rw [RL]; rfl) (by rw [RC, RS]; decide) rfl rfl dX1_length_1) (by decide) (by decide) (fun c1 => ?_) (fun c1 => ?_)
  · have hr4 := hrcd.trans (if_neg c1)
    exact fun q h m => ⟨by rw [hr4]; exact c1, by rw [hr4], m⟩
  · have hr5 := hrcd.trans (if_pos c1)
    have hxc1 := (isC_nn c1 (by decide)).2
    refine x_iload_n O 2 dX1_length_4 rfl rfl ?_
    refine x_iconst O (nI 1) dX1_length_5 (by decide) ?_
    refine x_bipush O (nI 9) dX1_length_6 (by decide) ?_
    refine x_cS O 3 (c_z_isIn least (nI 1) (nI 9)) (lw_S q476 q477 q103 q478) hd_X1_isIn rfl (by rw [RF]; rfl) (by rw [RL]; rfl) (by rw [RC, RS]; decide) rfl rfl dX1_length_8 ?_
    refine x_top (v' := b2i (z_isIn least (nI 1) (nI 9))) rfl ?_
    have J6 : ∀ (y1 : Bool), y1 = (if z_isIn least (nI 1) (nI 9) = true then (if z_isIn greatest least (nI 9) = true then true else false) else false) → X G F R Q 10 29 [(0, .ref (adr 0)), (1, .int side), (2, .int least), (3, .int greatest), (4, .int (b2i most))] [.int (b2i y1)] (XR G κe κ adr μ ρ) 1 6 := by
      intro y1 e7
      subst e7
      refine x_runE O hQ hnh (r_S O 1 (c_e_must ((if z_isIn least (nI 1) (nI 9) = true then (if z_isIn greatest least (nI 9) = true then true else false) else false))) (lw_S q738 q739 q103 q740) hd_X1_must rfl (by rw [RF]; rfl) (by rw [RL]; rfl) (by rw [RC, RS]; decide) rfl rfl dX1_length_29) (by decide) (by decide) (fun c29 => ?_) (fun c29 => ?_)
      · have hr8 := hr5.trans (if_neg c29)
        exact fun q h m => ⟨by rw [hr8]; exact c29, by rw [hr8], m⟩
      · have hr9 := hr5.trans (if_pos c29)
        refine x_iload O 4 dX1_length_32 rfl ?_
        have J10 : ∀ (y2 : Int32), y2 = (if most = true then least else greatest) → X G F R Q 10 42 [(0, .ref (adr 0)), (1, .int side)] [.int y2] (XR G κe κ adr μ ρ) 2 12 := by
          intro y2 e11
          subst e11
          refine x_istore O [(5, .int ((if most = true then least else greatest))), (0, .ref (adr 0)), (1, .int side)] dX1_length_42 rfl rfl ?_
          refine x_iconst O (nI 0) dX1_length_44 (by decide) ?_
          refine x_istore O [(6, .int (nI 0)), (5, .int ((if most = true then least else greatest))), (0, .ref (adr 0)), (1, .int side)] dX1_length_45 rfl rfl ?_
          refine x_iconst O (nI 0) dX1_length_47 (by decide) ?_
          refine x_istore O [(7, .int (nI 0)), (6, .int (nI 0)), (5, .int ((if most = true then least else greatest))), (0, .ref (adr 0)), (1, .int side)] dX1_length_48 rfl rfl ?_
          have LOOP50 : ∀ (cc_ : Nat) (i7_50 : Nat) (v6_50 : Int32), cc_ = tn (μ 1 0) - i7_50 → i7_50 < 2147483648 → (∀ (y0 : Int32), y0 = fr (fun i s => x_length_b50 (μ 1) side least greatest most i s) cc_ i7_50 v6_50 → X G F R Q 10 150 [(6, .int y0), (0, .ref (adr 0))] [] (XR G κe κ adr μ ρ) 2 12) → X G F R Q 10 50 [(7, .int (nI i7_50)), (6, .int v6_50), (5, .int ((if most = true then least else greatest))), (0, .ref (adr 0)), (1, .int side)] [] (XR G κe κ adr μ ρ) 2 12 := by
            intro cc_
            induction cc_ using Nat.strongRecOn with
            | ind cc_ IH_ =>
              intro i7_50 v6_50 hc_ hb_  K_
              refine x_iload O 0 dX1_length_50 rfl ?_
              refine x_aload_n O 3 dX1_length_52 rfl rfl ?_
              refine x_get O k_X1_29_1 XR.o0 (v := .ref (adr 1000)) rfl dX1_length_53 ?_
              refine x_hget O (XR.hr (μ := μ) hI rfl : HR G κe adr _ _ 1000 (μ 1) (XR G κe κ adr μ ρ)) k_X1_76_4 rfl dX1_length_56 ?_
              refine x_top (v' := nI (tn (μ 1 0))) (hI 0 (by decide)).1 ?_
              refine x_icmpgeN O 150 (by omega) (by omega) dX1_length_59 (by decide) (fun c59 => ?_) (fun c59 => ?_)
              · refine x_sub [1, 3] (L' := [(6, .int v6_50), (0, .ref (adr 0))]) rfl ?_
                obtain rfl : cc_ = 0 := by omega
                exact K_ _ rfl
              · refine x_iconst O (nI 0) dX1_length_62 (by decide) ?_
                refine x_istore O [(8, .int (nI 0)), (7, .int (nI i7_50)), (6, .int v6_50), (5, .int ((if most = true then least else greatest))), (0, .ref (adr 0)), (1, .int side)] dX1_length_63 rfl rfl ?_
                refine x_iconst O (nI 0) dX1_length_65 (by decide) ?_
                refine x_istore O [(9, .int (nI 0)), (8, .int (nI 0)), (7, .int (nI i7_50)), (6, .int v6_50), (5, .int ((if most = true then least else greatest))), (0, .ref (adr 0)), (1, .int side)] dX1_length_66 rfl rfl ?_
                have LOOP68 : ∀ (cc_ : Nat) (i9_68 : Nat) (v8_68 : Nat), cc_ = tn (μ 1 3) - i9_68 → i9_68 < 2147483648 → (∀ (y0 : Nat), y0 = fr (fun i s => x_length_b68 (μ 1) side i7_50 i s) cc_ i9_68 v8_68 → X G F R Q 10 127 [(8, .int (nI y0)), (7, .int (nI i7_50)), (6, .int v6_50), (5, .int ((if most = true then least else greatest))), (0, .ref (adr 0)), (1, .int side)] [] (XR G κe κ adr μ ρ) 2 12) → X G F R Q 10 68 [(9, .int (nI i9_68)), (8, .int (nI v8_68)), (7, .int (nI i7_50)), (6, .int v6_50), (5, .int ((if most = true then least else greatest))), (0, .ref (adr 0)), (1, .int side)] [] (XR G κe κ adr μ ρ) 2 12 := by
                  intro cc_
                  induction cc_ using Nat.strongRecOn with
                  | ind cc_ IH_ =>
                    intro i9_68 v8_68 hc_ hb_  K_
                    refine x_iload O 0 dX1_length_68 rfl ?_
                    refine x_aload_n O 5 dX1_length_70 rfl rfl ?_
                    refine x_get O k_X1_29_1 XR.o0 (v := .ref (adr 1000)) rfl dX1_length_71 ?_
                    refine x_hget O (XR.hr (μ := μ) hI rfl : HR G κe adr _ _ 1000 (μ 1) (XR G κe κ adr μ ρ)) k_X1_79_4 rfl dX1_length_74 ?_
                    refine x_top (v' := nI (tn (μ 1 3))) (hI 3 (by decide)).1 ?_
                    refine x_icmpgeN O 127 (by omega) (by omega) dX1_length_77 (by decide) (fun c77 => ?_) (fun c77 => ?_)
                    · refine x_sub [1, 2, 3, 4, 5, 6] (L' := [(8, .int (nI v8_68)), (7, .int (nI i7_50)), (6, .int v6_50), (5, .int ((if most = true then least else greatest))), (0, .ref (adr 0)), (1, .int side)]) rfl ?_
                      obtain rfl : cc_ = 0 := by omega
                      exact K_ _ rfl
                    · refine x_iload O 1 dX1_length_80 rfl ?_
                      refine x_aload_n O 5 dX1_length_82 rfl rfl ?_
                      refine x_get O k_X1_29_1 XR.o0 (v := .ref (adr 1000)) rfl dX1_length_83 ?_
                      refine x_hget O (XR.hr (μ := μ) hI rfl : HR G κe adr _ _ 1000 (μ 1) (XR G κe κ adr μ ρ)) k_X1_121_4 rfl dX1_length_86 ?_
                      refine x_iload O 2 dX1_length_89 rfl ?_
                      refine x_hgun O (XR.hr (μ := μ) hI rfl : HR G κe adr _ _ 1000 (μ 1) (XR G κe κ adr μ ρ)) (by omega) dX1_length_91 ?_
                      refine x_get O k_X1_168_7 ((XR.hr (μ := μ) hI rfl : HR G κe adr _ _ 1000 (μ 1) (XR G κe κ adr μ ρ)).gun (by omega)) (v := .int (μ 1 (269 + 4 * i7_50))) rfl dX1_length_92 ?_
                      refine x_iload_n O 6 dX1_length_95 rfl rfl ?_
                      have J12 : ∀ (y3 : Nat), y3 = (if (μ 1 (269 + 4 * i7_50)) = side then (if (h_sure (μ 1) i9_68) = (nI i7_50) then 1 else 0) else 0) → X G F R Q 10 118 [(9, .int (nI i9_68)), (7, .int (nI i7_50)), (6, .int v6_50), (5, .int ((if most = true then least else greatest))), (0, .ref (adr 0)), (1, .int side)] [.int (nI y3), .int (nI v8_68)] (XR G κe κ adr μ ρ) 2 12 := by
                        intro y3 e13
                        subst e13
                        refine x_iaddN O dX1_length_118 ?_
                        refine x_istore O [(8, .int (nI (v8_68 + ((if (μ 1 (269 + 4 * i7_50)) = side then (if (h_sure (μ 1) i9_68) = (nI i7_50) then 1 else 0) else 0))))), (9, .int (nI i9_68)), (7, .int (nI i7_50)), (6, .int v6_50), (5, .int ((if most = true then least else greatest))), (0, .ref (adr 0)), (1, .int side)] dX1_length_119 rfl rfl ?_
                        refine x_iincN O 1 [(9, .int (nI (i9_68 + 1))), (8, .int (nI (v8_68 + ((if (μ 1 (269 + 4 * i7_50)) = side then (if (h_sure (μ 1) i9_68) = (nI i7_50) then 1 else 0) else 0))))), (7, .int (nI i7_50)), (6, .int v6_50), (5, .int ((if most = true then least else greatest))), (0, .ref (adr 0)), (1, .int side)] dX1_length_121 rfl rfl rfl ?_
                        refine x_goto O 68 dX1_length_124 (by decide) ?_
                        obtain ⟨c2_, rfl⟩ : ∃ z, cc_ = z + 1 := ⟨cc_ - 1, by omega⟩
                        have hs_ : (fun i s => x_length_b68 (μ 1) side i7_50 i s) i9_68 v8_68 = v8_68 + ((if (μ 1 (269 + 4 * i7_50)) = side then (if (h_sure (μ 1) i9_68) = (nI i7_50) then 1 else 0) else 0)) := by show x_length_b68 (μ 1) side i7_50 i9_68 v8_68 = _; unfold x_length_b68; rfl
                        exact IH_ c2_ (by omega) _ _ (by omega) (by omega) (fun y0 hy_ => K_ y0 (hy_.trans (fr_step hs_).symm))
                      refine x_icmpne O 117 dX1_length_96 (by decide) (fun c96 => ?_) (fun c96 => ?_)
                      · refine x_sub [0, 2, 3, 4, 5, 6] (L' := [(9, .int (nI i9_68)), (7, .int (nI i7_50)), (6, .int v6_50), (5, .int ((if most = true then least else greatest))), (0, .ref (adr 0)), (1, .int side)]) rfl ?_
                        refine x_iconst O (nI 0) dX1_length_117 (by decide) ?_
                        exact J12 0 (by rw [if_neg c96])
                      · refine x_sub [0, 2, 3, 4, 5, 6] (L' := [(9, .int (nI i9_68)), (7, .int (nI i7_50)), (6, .int v6_50), (5, .int ((if most = true then least else greatest))), (0, .ref (adr 0)), (1, .int side)]) rfl ?_
                        refine x_aload_n O 4 dX1_length_99 rfl rfl ?_
                        refine x_get O k_X1_29_1 XR.o0 (v := .ref (adr 1000)) rfl dX1_length_100 ?_
                        refine x_iload O 0 dX1_length_103 rfl ?_
                        refine x_cV O 1 (c_h_sure (XR.hr (μ := μ) hI rfl : HR G κe adr _ _ 1000 (μ 1) (XR G κe κ adr μ ρ)) hI hkind i9_68 (by omega)) (XR.hr (μ := μ) hI rfl : HR G κe adr _ _ 1000 (μ 1) (XR G κe κ adr μ ρ)).obj rfl (lw_V q1472 q1413 q1414 q109 q1415) rfl hd_X4_sure rfl (by rw [RF]; rfl) (by rw [RL]; rfl) (by rw [RC, RS]; decide) rfl rfl dX1_length_105 ?_
                        refine x_top (v' := h_sure (μ 1) i9_68) rfl ?_
                        refine x_iload O 1 dX1_length_108 rfl ?_
                        refine x_icmpne O 117 dX1_length_110 (by decide) (fun c110 => ?_) (fun c110 => ?_)
                        · refine x_iconst O (nI 0) dX1_length_117 (by decide) ?_
                          exact J12 0 (by first | (rw [if_pos c96, if_neg c110]; done) | simp only [if_pos c96, if_neg c110])
                        · refine x_iconst O (nI 1) dX1_length_113 (by decide) ?_
                          refine x_goto O 118 dX1_length_114 (by decide) ?_
                          exact J12 1 (by first | (rw [if_pos c96, if_pos c110]; done) | simp only [if_pos c96, if_pos c110])
                refine LOOP68 (tn (μ 1 3)) 0 0 rfl (by omega) (fun y0 hy_68 => ?_)
                subst hy_68
                refine x_iload O 2 dX1_length_127 rfl ?_
                refine x_iload O 0 dX1_length_129 rfl ?_
                refine x_iload O 3 dX1_length_131 rfl ?_
                refine x_iadd O dX1_length_133 ?_
                refine x_iconst O (nI 1) dX1_length_134 (by decide) ?_
                refine x_isub O dX1_length_135 ?_
                refine x_iload O 3 dX1_length_136 rfl ?_
                refine x_idiv O dX1_length_138 (len_byx c29) ?_
                refine x_cS O 2 (c_j_max v6_50 ((((nI ((fr (fun i s => x_length_b68 (μ 1) side i7_50 i s) (tn (μ 1 3)) 0 0))) + ((if most = true then least else greatest))) - (nI 1)) / ((if most = true then least else greatest)))) (lw_S q557 q558 q116 q559) hd_J7_max rfl (by rw [RF]; rfl) (by rw [RL]; rfl) (by rw [RC, RS]; decide) rfl rfl dX1_length_139 ?_
                refine x_top (v' := j_max v6_50 ((((nI ((fr (fun i s => x_length_b68 (μ 1) side i7_50 i s) (tn (μ 1 3)) 0 0))) + ((if most = true then least else greatest))) - (nI 1)) / ((if most = true then least else greatest)))) rfl ?_
                refine x_istore O [(6, .int (j_max v6_50 ((((nI ((fr (fun i s => x_length_b68 (μ 1) side i7_50 i s) (tn (μ 1 3)) 0 0))) + ((if most = true then least else greatest))) - (nI 1)) / ((if most = true then least else greatest))))), (8, .int (nI ((fr (fun i s => x_length_b68 (μ 1) side i7_50 i s) (tn (μ 1 3)) 0 0)))), (7, .int (nI i7_50)), (5, .int ((if most = true then least else greatest))), (0, .ref (adr 0)), (1, .int side)] dX1_length_142 rfl rfl ?_
                refine x_sub [0, 2, 3, 4, 5] (L' := [(6, .int (j_max v6_50 ((((nI ((fr (fun i s => x_length_b68 (μ 1) side i7_50 i s) (tn (μ 1 3)) 0 0))) + ((if most = true then least else greatest))) - (nI 1)) / ((if most = true then least else greatest))))), (7, .int (nI i7_50)), (5, .int ((if most = true then least else greatest))), (0, .ref (adr 0)), (1, .int side)]) rfl ?_
                refine x_iincN O 1 [(7, .int (nI (i7_50 + 1))), (6, .int (j_max v6_50 ((((nI ((fr (fun i s => x_length_b68 (μ 1) side i7_50 i s) (tn (μ 1 3)) 0 0))) + ((if most = true then least else greatest))) - (nI 1)) / ((if most = true then least else greatest))))), (5, .int ((if most = true then least else greatest))), (0, .ref (adr 0)), (1, .int side)] dX1_length_144 rfl rfl rfl ?_
                refine x_goto O 50 dX1_length_147 (by decide) ?_
                obtain ⟨c2_, rfl⟩ : ∃ z, cc_ = z + 1 := ⟨cc_ - 1, by omega⟩
                have hs_ : (fun i s => x_length_b50 (μ 1) side least greatest most i s) i7_50 v6_50 = j_max v6_50 ((((nI ((fr (fun i s => x_length_b68 (μ 1) side i7_50 i s) (tn (μ 1 3)) 0 0))) + ((if most = true then least else greatest))) - (nI 1)) / ((if most = true then least else greatest))) := by show x_length_b50 (μ 1) side least greatest most i7_50 v6_50 = _; unfold x_length_b50; rfl
                exact IH_ c2_ (by omega) _ _ (by omega) (by omega) (fun y0 hy_ => K_ y0 (hy_.trans (fr_step hs_).symm))
          refine LOOP50 (tn (μ 1 0)) 0 (nI 0) rfl (by omega) (fun y0 hy_50 => ?_)
          subst hy_50
          refine x_iload O 0 dX1_length_150 rfl ?_
          refine x_widen (k' := 2) (n' := 12) (by decide) (by decide) ?_
          exact x_iretQ O hQ rfl dX1_length_152 (fun h m => ⟨by rw [hres], by rw [hr9], m⟩)
        refine x_ifeqB O 41 dX1_length_34 (by decide) (fun c34 => ?_) (fun c34 => ?_)
        · refine x_sub [0, 1, 3] (L' := [(0, .ref (adr 0)), (1, .int side), (3, .int greatest)]) rfl ?_
          refine x_iload_n O 2 dX1_length_41 rfl rfl ?_
          refine x_sub [0, 1] rfl ?_
          exact J10 greatest (by rw [if_neg c34])
        · refine x_sub [0, 1, 2] (L' := [(0, .ref (adr 0)), (1, .int side), (2, .int least)]) rfl ?_
          refine x_iload_n O 2 dX1_length_37 rfl rfl ?_
          refine x_goto O 42 dX1_length_38 (by decide) ?_
          refine x_sub [0, 1] (L' := [(0, .ref (adr 0)), (1, .int side)]) rfl ?_
          exact J10 least (by rw [if_pos c34])
    refine x_ifeqB O 28 dX1_length_11 (by decide) (fun c11 => ?_) (fun c11 => ?_)
    · refine x_iconst O (nI 0) dX1_length_28 (by decide) ?_
      refine x_top (v' := b2i false) (by decide) ?_
      exact J6 false (by rw [if_neg c11])
    · refine x_iload_n O 3 dX1_length_14 rfl rfl ?_
      refine x_iload_n O 2 dX1_length_15 rfl rfl ?_
      refine x_bipush O (nI 9) dX1_length_16 (by decide) ?_
      refine x_cS O 3 (c_z_isIn greatest least (nI 9)) (lw_S q476 q477 q103 q478) hd_X1_isIn rfl (by rw [RF]; rfl) (by rw [RL]; rfl) (by rw [RC, RS]; decide) rfl rfl dX1_length_18 ?_
      refine x_top (v' := b2i (z_isIn greatest least (nI 9))) rfl ?_
      refine x_ifeqB O 28 dX1_length_21 (by decide) (fun c21 => ?_) (fun c21 => ?_)
      · refine x_iconst O (nI 0) dX1_length_28 (by decide) ?_
        refine x_top (v' := b2i false) (by decide) ?_
        exact J6 false (by first | (rw [if_pos c11, if_neg c21]; done) | simp only [if_pos c11, if_neg c21])
      · refine x_iconst O (nI 1) dX1_length_24 (by decide) ?_
        refine x_goto O 29 dX1_length_25 (by decide) ?_
        refine x_top (v' := b2i true) (by decide) ?_
        exact J6 true (by first | (rw [if_pos c11, if_pos c21]; done) | simp only [if_pos c11, if_pos c21])

