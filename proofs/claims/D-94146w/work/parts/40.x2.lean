/-! calls that may throw: at this method's end nothing catches it -/
section UC
variable {G : UG} {F : UF} {R : Room} {Q : State → Prop} {nL pc k n : Nat} {L L' : List (Nat × Value)} {st rest : List Value} {Ω Ω' : Hp → Prop} {cc : ByteArray} {own : String} {ret : Option FieldType}
/-- a run of a callee that throws: nobody catches here -/
theorem x_runT (O : Ok G F own cc nL ret) {mc ms mc0 ms0 : Nat} {P P0 : Option Value → Hp → Prop} {PX PX0 : String → Nat → Hp → Prop} (hQ : Q = CQ G F P0 PX0 mc0 ms0) (hno : noH F) (hr : XRun G F R nL pc L st rest Ω k n mc ms P PX) (hc : k + mc ≤ mc0) (hs : n + ms ≤ ms0) (hx : ∀ E q h, PX E q h → PX0 E q h)
    (kk : ∀ v : Option Value, X G F R Q nL (pc + 3) L (v.toList ++ rest) (P v) (k + mc) (n + ms)) : X G F R Q nL pc L st Ω k n := by
  refine x_run hr kk (fun E q => ?_)
  rw [hQ]
  exact x_out O (noH.out hno) hc hs (fun h hh => hx E q h hh)
/-- what is asked holds from here on -/
theorem x_runMust (O : Ok G F own cc nL ret) {mc ms mc0 ms0 : Nat} {b : Bool} {E0 : String} {P0 : Option Value → Hp → Prop} {PX0 : String → Nat → Hp → Prop} (hQ : Q = CQ G F P0 PX0 mc0 ms0) (hno : noH F) (hr : XRun G F R nL pc L st rest Ω k n mc ms (fun vr_ h' => vr_ = none ∧ b = true ∧ Ω' h') (fun E _ h' => E = E0 ∧ ¬ b = true ∧ Ω' h')) (hc : k + mc ≤ mc0) (hs : n + ms ≤ ms0) (hx : ¬ b = true → ∀ q h, Ω' h → PX0 E0 q h)
    (kk : b = true → X G F R Q nL (pc + 3) L rest Ω' (k + mc) (n + ms)) : X G F R Q nL pc L st Ω k n := by
  refine x_runT O hQ hno hr hc hs (fun E q h hh => ?_) (fun v => ?_)
  · obtain ⟨rfl, h1, h2⟩ := hh
    exact hx h1 q h h2
  · intro h H locs ls hΩ hR hS hl
    obtain ⟨rfl, h1, h2⟩ := hΩ
    exact kk h1 h H locs ls h2 hR hS hl
end UC
theorem c_x_isCell {G : UG} {Ω : Hp → Prop} (v : Int32) : Con G yX1_isCell cX1_isCell 1 none 7 101 1 6 [.int v] Ω (fun vr_ h' => vr_ = none ∧ z_isIn v (nI 0) (nI 255) = true ∧ Ω h') (fun E _ h' => E = "java/lang/IndexOutOfBoundsException" ∧ ¬ z_isIn v (nI 0) (nI 255) = true ∧ Ω h') := by
  refine con_of2 (plainFor_of_name (by decide)) rfl ?_
  intro F R Q RF RL RC RS hQ O hnh hnm
  refine x_eq (L' := [(0, .int v)]) ?_ rfl rfl rfl
  refine x_iload_n O 0 dX1_isCell_0 rfl rfl ?_
  refine x_iconst O (nI 0) dX1_isCell_1 (by decide) ?_
  refine x_sipush O (nI 255) dX1_isCell_2 (by decide) ?_
  refine x_cS O 3 (c_z_isIn v (nI 0) (nI 255)) (lw_S q476 q477 q103 q478) hd_X1_isIn rfl (by rw [RF]; rfl) (by rw [RL]; rfl) ⟨Nat.zero_le _, Nat.zero_le _⟩ rfl rfl dX1_isCell_5 ?_
  refine x_runMust O hQ hnh (r_S O 1 (c_x_mustBe (z_isIn v (nI 0) (nI 255))) (lw_S q714 q715 q103 q716) hd_X1_mustBe rfl (by rw [RF]; rfl) (by rw [RL]; rfl) (by rw [RC, RS]; decide) rfl rfl dX1_isCell_8) (by decide) (by decide) (fun h1 q h h2 => ⟨rfl, h1, h2⟩) (fun h1 => ?_)
  exact x_vretQ O hQ rfl dX1_isCell_11 (fun h hh => ⟨rfl, h1, hh⟩)
theorem c_x_isRow {G : UG} {Ω : Hp → Prop} (v : Int32) : Con G yX1_isRow cX1_isRow 1 none 7 101 1 6 [.int v] Ω (fun vr_ h' => vr_ = none ∧ z_isIn v (nI 0) (nI 15) = true ∧ Ω h') (fun E _ h' => E = "java/lang/IndexOutOfBoundsException" ∧ ¬ z_isIn v (nI 0) (nI 15) = true ∧ Ω h') := by
  refine con_of2 (plainFor_of_name (by decide)) rfl ?_
  intro F R Q RF RL RC RS hQ O hnh hnm
  refine x_eq (L' := [(0, .int v)]) ?_ rfl rfl rfl
  refine x_iload_n O 0 dX1_isRow_0 rfl rfl ?_
  refine x_iconst O (nI 0) dX1_isRow_1 (by decide) ?_
  refine x_bipush O (nI 15) dX1_isRow_2 (by decide) ?_
  refine x_cS O 3 (c_z_isIn v (nI 0) (nI 15)) (lw_S q476 q477 q103 q478) hd_X1_isIn rfl (by rw [RF]; rfl) (by rw [RL]; rfl) ⟨Nat.zero_le _, Nat.zero_le _⟩ rfl rfl dX1_isRow_4 ?_
  refine x_runMust O hQ hnh (r_S O 1 (c_x_mustBe (z_isIn v (nI 0) (nI 15))) (lw_S q714 q715 q103 q716) hd_X1_mustBe rfl (by rw [RF]; rfl) (by rw [RL]; rfl) (by rw [RC, RS]; decide) rfl rfl dX1_isRow_7) (by decide) (by decide) (fun h1 q h h2 => ⟨rfl, h1, h2⟩) (fun h1 => ?_)
  exact x_vretQ O hQ rfl dX1_isRow_10 (fun h hh => ⟨rfl, h1, hh⟩)
theorem c_x_isSide {G : UG} {Ω : Hp → Prop} (v : Int32) : Con G yX1_isSide cX1_isSide 1 none 7 101 1 6 [.int v] Ω (fun vr_ h' => vr_ = none ∧ z_isIn v (nI 0) (nI 1) = true ∧ Ω h') (fun E _ h' => E = "java/lang/IndexOutOfBoundsException" ∧ ¬ z_isIn v (nI 0) (nI 1) = true ∧ Ω h') := by
  refine con_of2 (plainFor_of_name (by decide)) rfl ?_
  intro F R Q RF RL RC RS hQ O hnh hnm
  refine x_eq (L' := [(0, .int v)]) ?_ rfl rfl rfl
  refine x_iload_n O 0 dX1_isSide_0 rfl rfl ?_
  refine x_iconst O (nI 0) dX1_isSide_1 (by decide) ?_
  refine x_iconst O (nI 1) dX1_isSide_2 (by decide) ?_
  refine x_cS O 3 (c_z_isIn v (nI 0) (nI 1)) (lw_S q476 q477 q103 q478) hd_X1_isIn rfl (by rw [RF]; rfl) (by rw [RL]; rfl) ⟨Nat.zero_le _, Nat.zero_le _⟩ rfl rfl dX1_isSide_3 ?_
  refine x_runMust O hQ hnh (r_S O 1 (c_x_mustBe (z_isIn v (nI 0) (nI 1))) (lw_S q714 q715 q103 q716) hd_X1_mustBe rfl (by rw [RF]; rfl) (by rw [RL]; rfl) (by rw [RC, RS]; decide) rfl rfl dX1_isSide_6) (by decide) (by decide) (fun h1 q h h2 => ⟨rfl, h1, h2⟩) (fun h1 => ?_)
  exact x_vretQ O hQ rfl dX1_isSide_9 (fun h hh => ⟨rfl, h1, hh⟩)
