/-! what the component throws on a bad argument -/
theorem c_x_must {G : UG} {Ω : Hp → Prop} (b : Bool) : Con G yX1_must cX1_must 1 none 6 81 1 6 [.int (b2i b)] Ω (fun vr_ h' => vr_ = none ∧ b = true ∧ Ω h') (fun E _ h' => E = "java/lang/IllegalArgumentException" ∧ ¬ b = true ∧ Ω h') := by
  refine con_of2 (plainFor_of_name (by decide)) rfl ?_
  intro F R Q RF RL RC RS hQ O hnh hnm
  refine x_eq (L' := [(0, .int (b2i b))]) ?_ rfl rfl rfl
  refine x_iload_n O 0 dX1_must_0 rfl rfl ?_
  refine x_ifneB O 12 dX1_must_1 rfl (fun c1 => ?_) (fun c1 => ?_)
  · refine x_widen (k' := 1) (n' := 6) (by decide) (by decide) ?_
    exact x_vretQ O hQ rfl dX1_must_12 (fun h hh => ⟨rfl, c1, hh⟩)
  · rw [hQ]
    exact x_throw0 O hnh th_mustF th_fit q741 q115 th_must th_mustG dX1_must_4 dX1_must_7 dX1_must_8 dX1_must_11 (by rw [RF]; rfl) (by rw [RL]; rfl) (by rw [RC, RS]; decide) (by decide) (by decide) (fun h q hh => ⟨rfl, c1, hh⟩)
theorem c_x_mustBe {G : UG} {Ω : Hp → Prop} (b : Bool) : Con G yX1_mustBe cX1_mustBe 1 none 6 81 1 6 [.int (b2i b)] Ω (fun vr_ h' => vr_ = none ∧ b = true ∧ Ω h') (fun E _ h' => E = "java/lang/IndexOutOfBoundsException" ∧ ¬ b = true ∧ Ω h') := by
  refine con_of2 (plainFor_of_name (by decide)) rfl ?_
  intro F R Q RF RL RC RS hQ O hnh hnm
  refine x_eq (L' := [(0, .int (b2i b))]) ?_ rfl rfl rfl
  refine x_iload_n O 0 dX1_mustBe_0 rfl rfl ?_
  refine x_ifneB O 12 dX1_mustBe_1 rfl (fun c1 => ?_) (fun c1 => ?_)
  · refine x_widen (k' := 1) (n' := 6) (by decide) (by decide) ?_
    exact x_vretQ O hQ rfl dX1_mustBe_12 (fun h hh => ⟨rfl, c1, hh⟩)
  · rw [hQ]
    exact x_throw0 O hnh th_mustBeF th_fit q717 q112 th_mustBe th_mustBeG dX1_mustBe_4 dX1_mustBe_7 dX1_mustBe_8 dX1_mustBe_11 (by rw [RF]; rfl) (by rw [RL]; rfl) (by rw [RC, RS]; decide) (by decide) (by decide) (fun h q hh => ⟨rfl, c1, hh⟩)
theorem c_x_mayBe {G : UG} {Ω : Hp → Prop} (b : Bool) : Con G yX1_mayBe cX1_mayBe 1 none 6 81 1 6 [.int (b2i b)] Ω (fun vr_ h' => vr_ = none ∧ b = true ∧ Ω h') (fun E _ h' => E = "java/lang/UnsupportedOperationException" ∧ ¬ b = true ∧ Ω h') := by
  refine con_of2 (plainFor_of_name (by decide)) rfl ?_
  intro F R Q RF RL RC RS hQ O hnh hnm
  refine x_eq (L' := [(0, .int (b2i b))]) ?_ rfl rfl rfl
  refine x_iload_n O 0 dX1_mayBe_0 rfl rfl ?_
  refine x_ifneB O 12 dX1_mayBe_1 rfl (fun c1 => ?_) (fun c1 => ?_)
  · refine x_widen (k' := 1) (n' := 6) (by decide) (by decide) ?_
    exact x_vretQ O hQ rfl dX1_mayBe_12 (fun h hh => ⟨rfl, c1, hh⟩)
  · rw [hQ]
    exact x_throw0 O hnh th_mayBeF th_fit q792 q117 th_mayBe th_mayBeG dX1_mayBe_4 dX1_mayBe_7 dX1_mayBe_8 dX1_mayBe_11 (by rw [RF]; rfl) (by rw [RL]; rfl) (by rw [RC, RS]; decide) (by decide) (by decide) (fun h q hh => ⟨rfl, c1, hh⟩)
theorem c_x_thereIs {G : UG} {Ω : Hp → Prop} (b : Bool) : Con G yX1_thereIs cX1_thereIs 1 none 6 81 1 6 [.int (b2i b)] Ω (fun vr_ h' => vr_ = none ∧ b = true ∧ Ω h') (fun E _ h' => E = "java/util/NoSuchElementException" ∧ ¬ b = true ∧ Ω h') := by
  refine con_of2 (plainFor_of_name (by decide)) rfl ?_
  intro F R Q RF RL RC RS hQ O hnh hnm
  refine x_eq (L' := [(0, .int (b2i b))]) ?_ rfl rfl rfl
  refine x_iload_n O 0 dX1_thereIs_0 rfl rfl ?_
  refine x_ifneB O 12 dX1_thereIs_1 rfl (fun c1 => ?_) (fun c1 => ?_)
  · refine x_widen (k' := 1) (n' := 6) (by decide) (by decide) ?_
    exact x_vretQ O hQ rfl dX1_thereIs_12 (fun h hh => ⟨rfl, c1, hh⟩)
  · rw [hQ]
    exact x_throw0 O hnh th_thereIsF th_fit q1093 q136 th_thereIs th_thereIsG dX1_thereIs_4 dX1_thereIs_7 dX1_thereIs_8 dX1_thereIs_11 (by rw [RF]; rfl) (by rw [RL]; rfl) (by rw [RC, RS]; decide) (by decide) (by decide) (fun h q hh => ⟨rfl, c1, hh⟩)
