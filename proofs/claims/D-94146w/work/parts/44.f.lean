/-! finds: frozen objects, by the numbers of w -/
def fEnt (w : Nat → Int32) (k : Nat) : va_E :=
  if w (349 + 6 * k) = 0 then .inr (19, [.int (w (350 + 6 * k)), .int (w (351 + 6 * k)), .int (w (352 + 6 * k)), .int (w (353 + 6 * k)), .int (w (354 + 6 * k))])
  else if w (349 + 6 * k) = 1 then .inr (20, [.int (w (350 + 6 * k)), .int (w (351 + 6 * k)), .int (w (352 + 6 * k))])
  else if w (349 + 6 * k) = 2 then .inr (21, [.int (w (350 + 6 * k)), .int (w (351 + 6 * k)), .int (w (352 + 6 * k))])
  else .inr (22, [.int (w (350 + 6 * k)), .int (w (351 + 6 * k)), .int (w (352 + 6 * k))])
theorem c_x_cell19 {G : UG} {Ω : Hp → Prop} (o : Nat) (c d e f g : Int32) (ho : ∀ h, Ω h → h o = some (.inr (19, [.int c, .int d, .int e, .int f, .int g]))) : Con G yX21_cell cX21_cell 1 (some .int) 0 0 0 0 [.ref o] Ω (fun vr_ h' => vr_ = some (.int c) ∧ Ω h') nX := by
  refine con_of2 (plainFor_of_name (by decide)) rfl ?_
  intro F R Q RF RL RC RS hQ O hnh hnm
  refine x_eq (L' := [(0, .ref o)]) ?_ rfl rfl rfl
  refine x_aload_n O 0 dX21_cell_0 rfl rfl ?_
  refine x_get O k_X21_9_22 ho (v := .int c) rfl dX21_cell_1 ?_
  exact x_iretQ O hQ rfl dX21_cell_4 (fun h hh => ⟨rfl, hh⟩)
theorem c_x_depth19 {G : UG} {Ω : Hp → Prop} (o : Nat) (c d e f g : Int32) (ho : ∀ h, Ω h → h o = some (.inr (19, [.int c, .int d, .int e, .int f, .int g]))) : Con G yX21_depth cX21_depth 1 (some .int) 0 0 0 0 [.ref o] Ω (fun vr_ h' => vr_ = some (.int d) ∧ Ω h') nX := by
  refine con_of2 (plainFor_of_name (by decide)) rfl ?_
  intro F R Q RF RL RC RS hQ O hnh hnm
  refine x_eq (L' := [(0, .ref o)]) ?_ rfl rfl rfl
  refine x_aload_n O 0 dX21_depth_0 rfl rfl ?_
  refine x_get O k_X21_15_22 ho (v := .int d) rfl dX21_depth_1 ?_
  exact x_iretQ O hQ rfl dX21_depth_4 (fun h hh => ⟨rfl, hh⟩)
theorem c_x_row19 {G : UG} {Ω : Hp → Prop} (o : Nat) (c d e f g : Int32) (ho : ∀ h, Ω h → h o = some (.inr (19, [.int c, .int d, .int e, .int f, .int g]))) : Con G yX21_row cX21_row 1 (some .int) 0 0 0 0 [.ref o] Ω (fun vr_ h' => vr_ = some (.int (c / nI 16)) ∧ Ω h') nX := by
  refine con_of2 (plainFor_of_name (by decide)) rfl ?_
  intro F R Q RF RL RC RS hQ O hnh hnm
  refine x_eq (L' := [(0, .ref o)]) ?_ rfl rfl rfl
  refine x_aload_n O 0 dX21_row_0 rfl rfl ?_
  refine x_get O k_X21_9_22 ho (v := .int c) rfl dX21_row_1 ?_
  refine x_bipush O (nI 16) dX21_row_4 (by decide) ?_
  refine x_idiv O dX21_row_6 (by decide) ?_
  exact x_iretQ O hQ rfl dX21_row_7 (fun h hh => ⟨rfl, hh⟩)
theorem c_x_kind19 {G : UG} {Ω : Hp → Prop} (o : Nat) (c d e f g : Int32) (ho : ∀ h, Ω h → h o = some (.inr (19, [.int c, .int d, .int e, .int f, .int g]))) : Con G yX22_kind cX22_kind 1 (some .int) 0 0 0 0 [.ref o] Ω (fun vr_ h' => vr_ = some (.int (nI 0)) ∧ Ω h') nX := by
  refine con_of2 (plainFor_of_name (by decide)) rfl ?_
  intro F R Q RF RL RC RS hQ O hnh hnm
  refine x_eq (L' := [(0, .ref o)]) ?_ rfl rfl rfl
  refine x_iconst O (nI 0) dX22_kind_0 (by decide) ?_
  exact x_iretQ O hQ rfl dX22_kind_1 (fun h hh => ⟨rfl, hh⟩)
theorem c_x_tells19 {G : UG} {Ω : Hp → Prop} (o : Nat) (c d e f g : Int32) (ho : ∀ h, Ω h → h o = some (.inr (19, [.int c, .int d, .int e, .int f, .int g]))) : Con G yX22_tells cX22_tells 1 (some .int) 0 0 0 0 [.ref o] Ω (fun vr_ h' => vr_ = some (.int e) ∧ Ω h') nX := by
  refine con_of2 (plainFor_of_name (by decide)) rfl ?_
  intro F R Q RF RL RC RS hQ O hnh hnm
  refine x_eq (L' := [(0, .ref o)]) ?_ rfl rfl rfl
  refine x_aload_n O 0 dX22_tells_0 rfl rfl ?_
  refine x_get O k_X22_9_22 ho (v := .int e) rfl dX22_tells_1 ?_
  exact x_iretQ O hQ rfl dX22_tells_4 (fun h hh => ⟨rfl, hh⟩)
theorem c_x_cell20 {G : UG} {Ω : Hp → Prop} (o : Nat) (c d e : Int32) (ho : ∀ h, Ω h → h o = some (.inr (20, [.int c, .int d, .int e]))) : Con G yX21_cell cX21_cell 1 (some .int) 0 0 0 0 [.ref o] Ω (fun vr_ h' => vr_ = some (.int c) ∧ Ω h') nX := by
  refine con_of2 (plainFor_of_name (by decide)) rfl ?_
  intro F R Q RF RL RC RS hQ O hnh hnm
  refine x_eq (L' := [(0, .ref o)]) ?_ rfl rfl rfl
  refine x_aload_n O 0 dX21_cell_0 rfl rfl ?_
  refine x_get O k_X21_9_23 ho (v := .int c) rfl dX21_cell_1 ?_
  exact x_iretQ O hQ rfl dX21_cell_4 (fun h hh => ⟨rfl, hh⟩)
theorem c_x_depth20 {G : UG} {Ω : Hp → Prop} (o : Nat) (c d e : Int32) (ho : ∀ h, Ω h → h o = some (.inr (20, [.int c, .int d, .int e]))) : Con G yX21_depth cX21_depth 1 (some .int) 0 0 0 0 [.ref o] Ω (fun vr_ h' => vr_ = some (.int d) ∧ Ω h') nX := by
  refine con_of2 (plainFor_of_name (by decide)) rfl ?_
  intro F R Q RF RL RC RS hQ O hnh hnm
  refine x_eq (L' := [(0, .ref o)]) ?_ rfl rfl rfl
  refine x_aload_n O 0 dX21_depth_0 rfl rfl ?_
  refine x_get O k_X21_15_23 ho (v := .int d) rfl dX21_depth_1 ?_
  exact x_iretQ O hQ rfl dX21_depth_4 (fun h hh => ⟨rfl, hh⟩)
theorem c_x_row20 {G : UG} {Ω : Hp → Prop} (o : Nat) (c d e : Int32) (ho : ∀ h, Ω h → h o = some (.inr (20, [.int c, .int d, .int e]))) : Con G yX21_row cX21_row 1 (some .int) 0 0 0 0 [.ref o] Ω (fun vr_ h' => vr_ = some (.int (c / nI 16)) ∧ Ω h') nX := by
  refine con_of2 (plainFor_of_name (by decide)) rfl ?_
  intro F R Q RF RL RC RS hQ O hnh hnm
  refine x_eq (L' := [(0, .ref o)]) ?_ rfl rfl rfl
  refine x_aload_n O 0 dX21_row_0 rfl rfl ?_
  refine x_get O k_X21_9_23 ho (v := .int c) rfl dX21_row_1 ?_
  refine x_bipush O (nI 16) dX21_row_4 (by decide) ?_
  refine x_idiv O dX21_row_6 (by decide) ?_
  exact x_iretQ O hQ rfl dX21_row_7 (fun h hh => ⟨rfl, hh⟩)
theorem c_x_kind20 {G : UG} {Ω : Hp → Prop} (o : Nat) (c d e : Int32) (ho : ∀ h, Ω h → h o = some (.inr (20, [.int c, .int d, .int e]))) : Con G yX23_kind cX23_kind 1 (some .int) 0 0 0 0 [.ref o] Ω (fun vr_ h' => vr_ = some (.int (nI 1)) ∧ Ω h') nX := by
  refine con_of2 (plainFor_of_name (by decide)) rfl ?_
  intro F R Q RF RL RC RS hQ O hnh hnm
  refine x_eq (L' := [(0, .ref o)]) ?_ rfl rfl rfl
  refine x_iconst O (nI 1) dX23_kind_0 (by decide) ?_
  exact x_iretQ O hQ rfl dX23_kind_1 (fun h hh => ⟨rfl, hh⟩)
theorem c_x_tells20 {G : UG} {Ω : Hp → Prop} (o : Nat) (c d e : Int32) (ho : ∀ h, Ω h → h o = some (.inr (20, [.int c, .int d, .int e]))) : Con G yX23_tells cX23_tells 1 (some .int) 0 0 0 0 [.ref o] Ω (fun vr_ h' => vr_ = some (.int e) ∧ Ω h') nX := by
  refine con_of2 (plainFor_of_name (by decide)) rfl ?_
  intro F R Q RF RL RC RS hQ O hnh hnm
  refine x_eq (L' := [(0, .ref o)]) ?_ rfl rfl rfl
  refine x_aload_n O 0 dX23_tells_0 rfl rfl ?_
  refine x_get O k_X23_9_23 ho (v := .int e) rfl dX23_tells_1 ?_
  exact x_iretQ O hQ rfl dX23_tells_4 (fun h hh => ⟨rfl, hh⟩)
theorem c_x_cell21 {G : UG} {Ω : Hp → Prop} (o : Nat) (c d e : Int32) (ho : ∀ h, Ω h → h o = some (.inr (21, [.int c, .int d, .int e]))) : Con G yX21_cell cX21_cell 1 (some .int) 0 0 0 0 [.ref o] Ω (fun vr_ h' => vr_ = some (.int c) ∧ Ω h') nX := by
  refine con_of2 (plainFor_of_name (by decide)) rfl ?_
  intro F R Q RF RL RC RS hQ O hnh hnm
  refine x_eq (L' := [(0, .ref o)]) ?_ rfl rfl rfl
  refine x_aload_n O 0 dX21_cell_0 rfl rfl ?_
  refine x_get O k_X21_9_24 ho (v := .int c) rfl dX21_cell_1 ?_
  exact x_iretQ O hQ rfl dX21_cell_4 (fun h hh => ⟨rfl, hh⟩)
theorem c_x_depth21 {G : UG} {Ω : Hp → Prop} (o : Nat) (c d e : Int32) (ho : ∀ h, Ω h → h o = some (.inr (21, [.int c, .int d, .int e]))) : Con G yX21_depth cX21_depth 1 (some .int) 0 0 0 0 [.ref o] Ω (fun vr_ h' => vr_ = some (.int d) ∧ Ω h') nX := by
  refine con_of2 (plainFor_of_name (by decide)) rfl ?_
  intro F R Q RF RL RC RS hQ O hnh hnm
  refine x_eq (L' := [(0, .ref o)]) ?_ rfl rfl rfl
  refine x_aload_n O 0 dX21_depth_0 rfl rfl ?_
  refine x_get O k_X21_15_24 ho (v := .int d) rfl dX21_depth_1 ?_
  exact x_iretQ O hQ rfl dX21_depth_4 (fun h hh => ⟨rfl, hh⟩)
theorem c_x_row21 {G : UG} {Ω : Hp → Prop} (o : Nat) (c d e : Int32) (ho : ∀ h, Ω h → h o = some (.inr (21, [.int c, .int d, .int e]))) : Con G yX21_row cX21_row 1 (some .int) 0 0 0 0 [.ref o] Ω (fun vr_ h' => vr_ = some (.int (c / nI 16)) ∧ Ω h') nX := by
  refine con_of2 (plainFor_of_name (by decide)) rfl ?_
  intro F R Q RF RL RC RS hQ O hnh hnm
  refine x_eq (L' := [(0, .ref o)]) ?_ rfl rfl rfl
  refine x_aload_n O 0 dX21_row_0 rfl rfl ?_
  refine x_get O k_X21_9_24 ho (v := .int c) rfl dX21_row_1 ?_
  refine x_bipush O (nI 16) dX21_row_4 (by decide) ?_
  refine x_idiv O dX21_row_6 (by decide) ?_
  exact x_iretQ O hQ rfl dX21_row_7 (fun h hh => ⟨rfl, hh⟩)
theorem c_x_kind21 {G : UG} {Ω : Hp → Prop} (o : Nat) (c d e : Int32) (ho : ∀ h, Ω h → h o = some (.inr (21, [.int c, .int d, .int e]))) : Con G yX24_kind cX24_kind 1 (some .int) 0 0 0 0 [.ref o] Ω (fun vr_ h' => vr_ = some (.int (nI 2)) ∧ Ω h') nX := by
  refine con_of2 (plainFor_of_name (by decide)) rfl ?_
  intro F R Q RF RL RC RS hQ O hnh hnm
  refine x_eq (L' := [(0, .ref o)]) ?_ rfl rfl rfl
  refine x_iconst O (nI 2) dX24_kind_0 (by decide) ?_
  exact x_iretQ O hQ rfl dX24_kind_1 (fun h hh => ⟨rfl, hh⟩)
theorem c_x_tells21 {G : UG} {Ω : Hp → Prop} (o : Nat) (c d e : Int32) (ho : ∀ h, Ω h → h o = some (.inr (21, [.int c, .int d, .int e]))) : Con G yX24_tells cX24_tells 1 (some .int) 0 0 0 0 [.ref o] Ω (fun vr_ h' => vr_ = some (.int e) ∧ Ω h') nX := by
  refine con_of2 (plainFor_of_name (by decide)) rfl ?_
  intro F R Q RF RL RC RS hQ O hnh hnm
  refine x_eq (L' := [(0, .ref o)]) ?_ rfl rfl rfl
  refine x_aload_n O 0 dX24_tells_0 rfl rfl ?_
  refine x_get O k_X24_9_24 ho (v := .int e) rfl dX24_tells_1 ?_
  exact x_iretQ O hQ rfl dX24_tells_4 (fun h hh => ⟨rfl, hh⟩)
theorem c_x_cell22 {G : UG} {Ω : Hp → Prop} (o : Nat) (c d e : Int32) (ho : ∀ h, Ω h → h o = some (.inr (22, [.int c, .int d, .int e]))) : Con G yX21_cell cX21_cell 1 (some .int) 0 0 0 0 [.ref o] Ω (fun vr_ h' => vr_ = some (.int c) ∧ Ω h') nX := by
  refine con_of2 (plainFor_of_name (by decide)) rfl ?_
  intro F R Q RF RL RC RS hQ O hnh hnm
  refine x_eq (L' := [(0, .ref o)]) ?_ rfl rfl rfl
  refine x_aload_n O 0 dX21_cell_0 rfl rfl ?_
  refine x_get O k_X21_9_25 ho (v := .int c) rfl dX21_cell_1 ?_
  exact x_iretQ O hQ rfl dX21_cell_4 (fun h hh => ⟨rfl, hh⟩)
theorem c_x_depth22 {G : UG} {Ω : Hp → Prop} (o : Nat) (c d e : Int32) (ho : ∀ h, Ω h → h o = some (.inr (22, [.int c, .int d, .int e]))) : Con G yX21_depth cX21_depth 1 (some .int) 0 0 0 0 [.ref o] Ω (fun vr_ h' => vr_ = some (.int d) ∧ Ω h') nX := by
  refine con_of2 (plainFor_of_name (by decide)) rfl ?_
  intro F R Q RF RL RC RS hQ O hnh hnm
  refine x_eq (L' := [(0, .ref o)]) ?_ rfl rfl rfl
  refine x_aload_n O 0 dX21_depth_0 rfl rfl ?_
  refine x_get O k_X21_15_25 ho (v := .int d) rfl dX21_depth_1 ?_
  exact x_iretQ O hQ rfl dX21_depth_4 (fun h hh => ⟨rfl, hh⟩)
theorem c_x_row22 {G : UG} {Ω : Hp → Prop} (o : Nat) (c d e : Int32) (ho : ∀ h, Ω h → h o = some (.inr (22, [.int c, .int d, .int e]))) : Con G yX21_row cX21_row 1 (some .int) 0 0 0 0 [.ref o] Ω (fun vr_ h' => vr_ = some (.int (c / nI 16)) ∧ Ω h') nX := by
  refine con_of2 (plainFor_of_name (by decide)) rfl ?_
  intro F R Q RF RL RC RS hQ O hnh hnm
  refine x_eq (L' := [(0, .ref o)]) ?_ rfl rfl rfl
  refine x_aload_n O 0 dX21_row_0 rfl rfl ?_
  refine x_get O k_X21_9_25 ho (v := .int c) rfl dX21_row_1 ?_
  refine x_bipush O (nI 16) dX21_row_4 (by decide) ?_
  refine x_idiv O dX21_row_6 (by decide) ?_
  exact x_iretQ O hQ rfl dX21_row_7 (fun h hh => ⟨rfl, hh⟩)
theorem c_x_kind22 {G : UG} {Ω : Hp → Prop} (o : Nat) (c d e : Int32) (ho : ∀ h, Ω h → h o = some (.inr (22, [.int c, .int d, .int e]))) : Con G yX25_kind cX25_kind 1 (some .int) 0 0 0 0 [.ref o] Ω (fun vr_ h' => vr_ = some (.int (nI 3)) ∧ Ω h') nX := by
  refine con_of2 (plainFor_of_name (by decide)) rfl ?_
  intro F R Q RF RL RC RS hQ O hnh hnm
  refine x_eq (L' := [(0, .ref o)]) ?_ rfl rfl rfl
  refine x_iconst O (nI 3) dX25_kind_0 (by decide) ?_
  exact x_iretQ O hQ rfl dX25_kind_1 (fun h hh => ⟨rfl, hh⟩)
theorem c_x_tells22 {G : UG} {Ω : Hp → Prop} (o : Nat) (c d e : Int32) (ho : ∀ h, Ω h → h o = some (.inr (22, [.int c, .int d, .int e]))) : Con G yX25_tells cX25_tells 1 (some .int) 0 0 0 0 [.ref o] Ω (fun vr_ h' => vr_ = some (.int e) ∧ Ω h') nX := by
  refine con_of2 (plainFor_of_name (by decide)) rfl ?_
  intro F R Q RF RL RC RS hQ O hnh hnm
  refine x_eq (L' := [(0, .ref o)]) ?_ rfl rfl rfl
  refine x_aload_n O 0 dX25_tells_0 rfl rfl ?_
  refine x_get O k_X25_9_25 ho (v := .int e) rfl dX25_tells_1 ?_
  exact x_iretQ O hQ rfl dX25_tells_4 (fun h hh => ⟨rfl, hh⟩)
section UF
variable {G : UG} {F : UF} {R : Room} {Q : State → Prop} {nL pc k n : Nat} {L L' : List (Nat × Value)} {st rest : List Value} {Ω Ω' : Hp → Prop} {cc : ByteArray} {own : String} {ret : Option FieldType}
theorem x_fkind (O : Ok G F own cc nL ret) {index q f : Nat} {w : Nat → Int32} (hl : Cond.methodLink own index ⟨"GrassField$Find", "kind", "()I"⟩ ∈ lw_all) (hq : ∀ h, Ω h → h q = some (fEnt w f)) (hk : w (349 + 6 * f) = 0 ∨ w (349 + 6 * f) = 1 ∨ w (349 + 6 * f) = 2 ∨ w (349 + 6 * f) = 3) (hR0 : Nat.ble 1 R.frames = true) (hR1 : Nat.ble 20 R.locals = true) (hcs : k ≤ R.cells ∧ n ≤ R.slots) (hrm : Nat.ble (rest.map fun v => v.category).sum 8 = true) (d : decode cc pc = .ok (.invokevirtual index, 3))
    (kk : X G F R Q nL (pc + 3) L (.int (w (349 + 6 * f)) :: rest) Ω k n) : X G F R Q nL pc L (.ref q :: rest) Ω k n := by
  by_cases c0 : w (349 + 6 * f) = 0
  · have ho : ∀ h, Ω h → h q = some (.inr (19, [.int (w (350 + 6 * f)), .int (w (351 + 6 * f)), .int (w (352 + 6 * f)), .int (w (353 + 6 * f)), .int (w (354 + 6 * f))])) := fun h hh => by
      rw [hq h hh]; unfold fEnt; rw [if_pos c0]
    refine x_abs O 0 (owner := "GrassField$Find") (c_x_kind19 q (w (350 + 6 * f)) (w (351 + 6 * f)) (w (352 + 6 * f)) (w (353 + 6 * f)) (w (354 + 6 * f)) ho) (fun h hh => ⟨_, ho h hh⟩) rfl q531 hl q532 q539 q540 q138 q541 (by decide +kernel) rfl hR0 hR1 hcs rfl hrm d (x_kn ?_)
    rw [show nI 0 = w (349 + 6 * f) from c0.symm]; exact kk
  by_cases c1 : w (349 + 6 * f) = 1
  · have ho : ∀ h, Ω h → h q = some (.inr (20, [.int (w (350 + 6 * f)), .int (w (351 + 6 * f)), .int (w (352 + 6 * f))])) := fun h hh => by
      rw [hq h hh]; unfold fEnt; rw [if_neg c0]; rw [if_pos c1]
    refine x_abs O 0 (owner := "GrassField$Find") (c_x_kind20 q (w (350 + 6 * f)) (w (351 + 6 * f)) (w (352 + 6 * f)) ho) (fun h hh => ⟨_, ho h hh⟩) rfl q531 hl q532 q533 q534 q139 q535 (by decide +kernel) rfl hR0 hR1 hcs rfl hrm d (x_kn ?_)
    rw [show nI 1 = w (349 + 6 * f) from c1.symm]; exact kk
  by_cases c2 : w (349 + 6 * f) = 2
  · have ho : ∀ h, Ω h → h q = some (.inr (21, [.int (w (350 + 6 * f)), .int (w (351 + 6 * f)), .int (w (352 + 6 * f))])) := fun h hh => by
      rw [hq h hh]; unfold fEnt; rw [if_neg c0]; rw [if_neg c1]; rw [if_pos c2]
    refine x_abs O 0 (owner := "GrassField$Find") (c_x_kind21 q (w (350 + 6 * f)) (w (351 + 6 * f)) (w (352 + 6 * f)) ho) (fun h hh => ⟨_, ho h hh⟩) rfl q531 hl q532 q536 q537 q140 q538 (by decide +kernel) rfl hR0 hR1 hcs rfl hrm d (x_kn ?_)
    rw [show nI 2 = w (349 + 6 * f) from c2.symm]; exact kk
  · have ho : ∀ h, Ω h → h q = some (.inr (22, [.int (w (350 + 6 * f)), .int (w (351 + 6 * f)), .int (w (352 + 6 * f))])) := fun h hh => by
      rw [hq h hh]; unfold fEnt; rw [if_neg c0]; rw [if_neg c1]; rw [if_neg c2]
    refine x_abs O 0 (owner := "GrassField$Find") (c_x_kind22 q (w (350 + 6 * f)) (w (351 + 6 * f)) (w (352 + 6 * f)) ho) (fun h hh => ⟨_, ho h hh⟩) rfl q531 hl q532 q542 q543 q141 q544 (by decide +kernel) rfl hR0 hR1 hcs rfl hrm d (x_kn ?_)
    have c3 : w (349 + 6 * f) = 3 := by rcases hk with c | c | c | c <;> first | exact c | contradiction
    rw [show nI 3 = w (349 + 6 * f) from c3.symm]; exact kk

theorem x_ftells (O : Ok G F own cc nL ret) {index q f : Nat} {w : Nat → Int32} (hl : Cond.methodLink own index ⟨"GrassField$Find", "tells", "()I"⟩ ∈ lw_all) (hq : ∀ h, Ω h → h q = some (fEnt w f)) (hR0 : Nat.ble 1 R.frames = true) (hR1 : Nat.ble 20 R.locals = true) (hcs : k ≤ R.cells ∧ n ≤ R.slots) (hrm : Nat.ble (rest.map fun v => v.category).sum 8 = true) (d : decode cc pc = .ok (.invokevirtual index, 3))
    (kk : X G F R Q nL (pc + 3) L (.int (w (352 + 6 * f)) :: rest) Ω k n) : X G F R Q nL pc L (.ref q :: rest) Ω k n := by
  by_cases c0 : w (349 + 6 * f) = 0
  · have ho : ∀ h, Ω h → h q = some (.inr (19, [.int (w (350 + 6 * f)), .int (w (351 + 6 * f)), .int (w (352 + 6 * f)), .int (w (353 + 6 * f)), .int (w (354 + 6 * f))])) := fun h hh => by
      rw [hq h hh]; unfold fEnt; rw [if_pos c0]
    refine x_abs O 0 (owner := "GrassField$Find") (c_x_tells19 q (w (350 + 6 * f)) (w (351 + 6 * f)) (w (352 + 6 * f)) (w (353 + 6 * f)) (w (354 + 6 * f)) ho) (fun h hh => ⟨_, ho h hh⟩) rfl q1321 hl q1322 q1329 q1330 q138 q1331 (by decide +kernel) rfl hR0 hR1 hcs rfl hrm d (x_kn ?_)
    exact kk
  by_cases c1 : w (349 + 6 * f) = 1
  · have ho : ∀ h, Ω h → h q = some (.inr (20, [.int (w (350 + 6 * f)), .int (w (351 + 6 * f)), .int (w (352 + 6 * f))])) := fun h hh => by
      rw [hq h hh]; unfold fEnt; rw [if_neg c0]; rw [if_pos c1]
    refine x_abs O 0 (owner := "GrassField$Find") (c_x_tells20 q (w (350 + 6 * f)) (w (351 + 6 * f)) (w (352 + 6 * f)) ho) (fun h hh => ⟨_, ho h hh⟩) rfl q1321 hl q1322 q1323 q1324 q139 q1325 (by decide +kernel) rfl hR0 hR1 hcs rfl hrm d (x_kn ?_)
    exact kk
  by_cases c2 : w (349 + 6 * f) = 2
  · have ho : ∀ h, Ω h → h q = some (.inr (21, [.int (w (350 + 6 * f)), .int (w (351 + 6 * f)), .int (w (352 + 6 * f))])) := fun h hh => by
      rw [hq h hh]; unfold fEnt; rw [if_neg c0]; rw [if_neg c1]; rw [if_pos c2]
    refine x_abs O 0 (owner := "GrassField$Find") (c_x_tells21 q (w (350 + 6 * f)) (w (351 + 6 * f)) (w (352 + 6 * f)) ho) (fun h hh => ⟨_, ho h hh⟩) rfl q1321 hl q1322 q1326 q1327 q140 q1328 (by decide +kernel) rfl hR0 hR1 hcs rfl hrm d (x_kn ?_)
    exact kk
  · have ho : ∀ h, Ω h → h q = some (.inr (22, [.int (w (350 + 6 * f)), .int (w (351 + 6 * f)), .int (w (352 + 6 * f))])) := fun h hh => by
      rw [hq h hh]; unfold fEnt; rw [if_neg c0]; rw [if_neg c1]; rw [if_neg c2]
    refine x_abs O 0 (owner := "GrassField$Find") (c_x_tells22 q (w (350 + 6 * f)) (w (351 + 6 * f)) (w (352 + 6 * f)) ho) (fun h hh => ⟨_, ho h hh⟩) rfl q1321 hl q1322 q1332 q1333 q141 q1334 (by decide +kernel) rfl hR0 hR1 hcs rfl hrm d (x_kn ?_)
    exact kk

theorem x_fcell (O : Ok G F own cc nL ret) {index q f : Nat} {w : Nat → Int32} (hl : Cond.methodLink own index ⟨"GrassField$Find", "cell", "()I"⟩ ∈ lw_all) (hq : ∀ h, Ω h → h q = some (fEnt w f)) (hR0 : Nat.ble 1 R.frames = true) (hR1 : Nat.ble 20 R.locals = true) (hcs : k ≤ R.cells ∧ n ≤ R.slots) (hrm : Nat.ble (rest.map fun v => v.category).sum 8 = true) (d : decode cc pc = .ok (.invokevirtual index, 3))
    (kk : X G F R Q nL (pc + 3) L (.int (w (350 + 6 * f)) :: rest) Ω k n) : X G F R Q nL pc L (.ref q :: rest) Ω k n := by
  by_cases c0 : w (349 + 6 * f) = 0
  · have ho : ∀ h, Ω h → h q = some (.inr (19, [.int (w (350 + 6 * f)), .int (w (351 + 6 * f)), .int (w (352 + 6 * f)), .int (w (353 + 6 * f)), .int (w (354 + 6 * f))])) := fun h hh => by
      rw [hq h hh]; unfold fEnt; rw [if_pos c0]
    refine x_inh O 0 (owner := "GrassField$Find") (c_x_cell19 q (w (350 + 6 * f)) (w (351 + 6 * f)) (w (352 + 6 * f)) (w (353 + 6 * f)) (w (354 + 6 * f)) ho) (fun h hh => ⟨_, ho h hh⟩) rfl rfl hl q547 q550 q546 q137 q552 (by decide +kernel) rfl hR0 hR1 hcs rfl hrm d (x_kn ?_)
    exact kk
  by_cases c1 : w (349 + 6 * f) = 1
  · have ho : ∀ h, Ω h → h q = some (.inr (20, [.int (w (350 + 6 * f)), .int (w (351 + 6 * f)), .int (w (352 + 6 * f))])) := fun h hh => by
      rw [hq h hh]; unfold fEnt; rw [if_neg c0]; rw [if_pos c1]
    refine x_inh O 0 (owner := "GrassField$Find") (c_x_cell20 q (w (350 + 6 * f)) (w (351 + 6 * f)) (w (352 + 6 * f)) ho) (fun h hh => ⟨_, ho h hh⟩) rfl rfl hl q547 q548 q546 q137 q552 (by decide +kernel) rfl hR0 hR1 hcs rfl hrm d (x_kn ?_)
    exact kk
  by_cases c2 : w (349 + 6 * f) = 2
  · have ho : ∀ h, Ω h → h q = some (.inr (21, [.int (w (350 + 6 * f)), .int (w (351 + 6 * f)), .int (w (352 + 6 * f))])) := fun h hh => by
      rw [hq h hh]; unfold fEnt; rw [if_neg c0]; rw [if_neg c1]; rw [if_pos c2]
    refine x_inh O 0 (owner := "GrassField$Find") (c_x_cell21 q (w (350 + 6 * f)) (w (351 + 6 * f)) (w (352 + 6 * f)) ho) (fun h hh => ⟨_, ho h hh⟩) rfl rfl hl q547 q549 q546 q137 q552 (by decide +kernel) rfl hR0 hR1 hcs rfl hrm d (x_kn ?_)
    exact kk
  · have ho : ∀ h, Ω h → h q = some (.inr (22, [.int (w (350 + 6 * f)), .int (w (351 + 6 * f)), .int (w (352 + 6 * f))])) := fun h hh => by
      rw [hq h hh]; unfold fEnt; rw [if_neg c0]; rw [if_neg c1]; rw [if_neg c2]
    refine x_inh O 0 (owner := "GrassField$Find") (c_x_cell22 q (w (350 + 6 * f)) (w (351 + 6 * f)) (w (352 + 6 * f)) ho) (fun h hh => ⟨_, ho h hh⟩) rfl rfl hl q547 q551 q546 q137 q552 (by decide +kernel) rfl hR0 hR1 hcs rfl hrm d (x_kn ?_)
    exact kk

theorem x_fdepth (O : Ok G F own cc nL ret) {index q f : Nat} {w : Nat → Int32} (hl : Cond.methodLink own index ⟨"GrassField$Find", "depth", "()I"⟩ ∈ lw_all) (hq : ∀ h, Ω h → h q = some (fEnt w f)) (hR0 : Nat.ble 1 R.frames = true) (hR1 : Nat.ble 20 R.locals = true) (hcs : k ≤ R.cells ∧ n ≤ R.slots) (hrm : Nat.ble (rest.map fun v => v.category).sum 8 = true) (d : decode cc pc = .ok (.invokevirtual index, 3))
    (kk : X G F R Q nL (pc + 3) L (.int (w (351 + 6 * f)) :: rest) Ω k n) : X G F R Q nL pc L (.ref q :: rest) Ω k n := by
  by_cases c0 : w (349 + 6 * f) = 0
  · have ho : ∀ h, Ω h → h q = some (.inr (19, [.int (w (350 + 6 * f)), .int (w (351 + 6 * f)), .int (w (352 + 6 * f)), .int (w (353 + 6 * f)), .int (w (354 + 6 * f))])) := fun h hh => by
      rw [hq h hh]; unfold fEnt; rw [if_pos c0]
    refine x_inh O 0 (owner := "GrassField$Find") (c_x_depth19 q (w (350 + 6 * f)) (w (351 + 6 * f)) (w (352 + 6 * f)) (w (353 + 6 * f)) (w (354 + 6 * f)) ho) (fun h hh => ⟨_, ho h hh⟩) rfl rfl hl q501 q504 q500 q137 q506 (by decide +kernel) rfl hR0 hR1 hcs rfl hrm d (x_kn ?_)
    exact kk
  by_cases c1 : w (349 + 6 * f) = 1
  · have ho : ∀ h, Ω h → h q = some (.inr (20, [.int (w (350 + 6 * f)), .int (w (351 + 6 * f)), .int (w (352 + 6 * f))])) := fun h hh => by
      rw [hq h hh]; unfold fEnt; rw [if_neg c0]; rw [if_pos c1]
    refine x_inh O 0 (owner := "GrassField$Find") (c_x_depth20 q (w (350 + 6 * f)) (w (351 + 6 * f)) (w (352 + 6 * f)) ho) (fun h hh => ⟨_, ho h hh⟩) rfl rfl hl q501 q502 q500 q137 q506 (by decide +kernel) rfl hR0 hR1 hcs rfl hrm d (x_kn ?_)
    exact kk
  by_cases c2 : w (349 + 6 * f) = 2
  · have ho : ∀ h, Ω h → h q = some (.inr (21, [.int (w (350 + 6 * f)), .int (w (351 + 6 * f)), .int (w (352 + 6 * f))])) := fun h hh => by
      rw [hq h hh]; unfold fEnt; rw [if_neg c0]; rw [if_neg c1]; rw [if_pos c2]
    refine x_inh O 0 (owner := "GrassField$Find") (c_x_depth21 q (w (350 + 6 * f)) (w (351 + 6 * f)) (w (352 + 6 * f)) ho) (fun h hh => ⟨_, ho h hh⟩) rfl rfl hl q501 q503 q500 q137 q506 (by decide +kernel) rfl hR0 hR1 hcs rfl hrm d (x_kn ?_)
    exact kk
  · have ho : ∀ h, Ω h → h q = some (.inr (22, [.int (w (350 + 6 * f)), .int (w (351 + 6 * f)), .int (w (352 + 6 * f))])) := fun h hh => by
      rw [hq h hh]; unfold fEnt; rw [if_neg c0]; rw [if_neg c1]; rw [if_neg c2]
    refine x_inh O 0 (owner := "GrassField$Find") (c_x_depth22 q (w (350 + 6 * f)) (w (351 + 6 * f)) (w (352 + 6 * f)) ho) (fun h hh => ⟨_, ho h hh⟩) rfl rfl hl q501 q505 q500 q137 q506 (by decide +kernel) rfl hR0 hR1 hcs rfl hrm d (x_kn ?_)
    exact kk

theorem x_frow (O : Ok G F own cc nL ret) {index q f : Nat} {w : Nat → Int32} (hl : Cond.methodLink own index ⟨"GrassField$Find", "row", "()I"⟩ ∈ lw_all) (hq : ∀ h, Ω h → h q = some (fEnt w f)) (hR0 : Nat.ble 1 R.frames = true) (hR1 : Nat.ble 20 R.locals = true) (hcs : k ≤ R.cells ∧ n ≤ R.slots) (hrm : Nat.ble (rest.map fun v => v.category).sum 8 = true) (d : decode cc pc = .ok (.invokevirtual index, 3))
    (kk : X G F R Q nL (pc + 3) L (.int (w (350 + 6 * f) / nI 16) :: rest) Ω k n) : X G F R Q nL pc L (.ref q :: rest) Ω k n := by
  by_cases c0 : w (349 + 6 * f) = 0
  · have ho : ∀ h, Ω h → h q = some (.inr (19, [.int (w (350 + 6 * f)), .int (w (351 + 6 * f)), .int (w (352 + 6 * f)), .int (w (353 + 6 * f)), .int (w (354 + 6 * f))])) := fun h hh => by
      rw [hq h hh]; unfold fEnt; rw [if_pos c0]
    refine x_inh O 0 (owner := "GrassField$Find") (c_x_row19 q (w (350 + 6 * f)) (w (351 + 6 * f)) (w (352 + 6 * f)) (w (353 + 6 * f)) (w (354 + 6 * f)) ho) (fun h hh => ⟨_, ho h hh⟩) rfl rfl hl q509 q512 q508 q137 q514 (by decide +kernel) rfl hR0 hR1 hcs rfl hrm d (x_kn ?_)
    exact kk
  by_cases c1 : w (349 + 6 * f) = 1
  · have ho : ∀ h, Ω h → h q = some (.inr (20, [.int (w (350 + 6 * f)), .int (w (351 + 6 * f)), .int (w (352 + 6 * f))])) := fun h hh => by
      rw [hq h hh]; unfold fEnt; rw [if_neg c0]; rw [if_pos c1]
    refine x_inh O 0 (owner := "GrassField$Find") (c_x_row20 q (w (350 + 6 * f)) (w (351 + 6 * f)) (w (352 + 6 * f)) ho) (fun h hh => ⟨_, ho h hh⟩) rfl rfl hl q509 q510 q508 q137 q514 (by decide +kernel) rfl hR0 hR1 hcs rfl hrm d (x_kn ?_)
    exact kk
  by_cases c2 : w (349 + 6 * f) = 2
  · have ho : ∀ h, Ω h → h q = some (.inr (21, [.int (w (350 + 6 * f)), .int (w (351 + 6 * f)), .int (w (352 + 6 * f))])) := fun h hh => by
      rw [hq h hh]; unfold fEnt; rw [if_neg c0]; rw [if_neg c1]; rw [if_pos c2]
    refine x_inh O 0 (owner := "GrassField$Find") (c_x_row21 q (w (350 + 6 * f)) (w (351 + 6 * f)) (w (352 + 6 * f)) ho) (fun h hh => ⟨_, ho h hh⟩) rfl rfl hl q509 q511 q508 q137 q514 (by decide +kernel) rfl hR0 hR1 hcs rfl hrm d (x_kn ?_)
    exact kk
  · have ho : ∀ h, Ω h → h q = some (.inr (22, [.int (w (350 + 6 * f)), .int (w (351 + 6 * f)), .int (w (352 + 6 * f))])) := fun h hh => by
      rw [hq h hh]; unfold fEnt; rw [if_neg c0]; rw [if_neg c1]; rw [if_neg c2]
    refine x_inh O 0 (owner := "GrassField$Find") (c_x_row22 q (w (350 + 6 * f)) (w (351 + 6 * f)) (w (352 + 6 * f)) ho) (fun h hh => ⟨_, ho h hh⟩) rfl rfl hl q509 q513 q508 q137 q514 (by decide +kernel) rfl hR0 hR1 hcs rfl hrm d (x_kn ?_)
    exact kk

end UF
