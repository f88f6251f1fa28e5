/-! the component's small classes: constructors -/
section UV
variable {G : UG} {F : UF} {R : Room} {Q : State → Prop} {nL pc k n : Nat} {L L' : List (Nat × Value)} {st rest : List Value} {Ω Ω' : Hp → Prop} {cc : ByteArray} {own : String} {ret : Option FieldType}
/-- a callee that answers nothing and doesn't throw -/
theorem x_void {mc ms : Nat} (hr : XRun G F R nL pc L st rest Ω k n mc ms (fun vr_ h' => vr_ = none ∧ Ω' h') nX) (kk : X G F R Q nL (pc + 3) L rest Ω' (k + mc) (n + ms)) : X G F R Q nL pc L st Ω k n := by
  refine x_run hr (fun v => ?_) (fun E q => ?_)
  · intro h H locs ls hΩ hR hS hl
    obtain ⟨rfl, h2⟩ := hΩ
    exact kk h H locs ls h2 hR hS hl
  · intro h H locs ls ce hΩ
    exact hΩ.elim
end UV
theorem c_x_Gun {G : UG} {h0 : Hp} (o : Nat) (s : Int32) (m : Int32) (y : Int32) (r : Int32) : Con G yX7_init cX7_init 5 none 1 12 0 0 [.ref o, .int s, .int m, .int y, .int r] (fun h => h = hset h0 o (.inr (6, [.int 0, .int 0, .int 0, .int 0]))) (fun vr_ h' => vr_ = none ∧ h' = hset h0 o (.inr (6, [.int s, .int m, .int y, .int r]))) nX := by
  refine con_of2 (plainFor_of_name (by decide)) rfl ?_
  intro F R Q RF RL RC RS hQ O hnh hnm
  refine x_eq (L' := [(0, .ref o), (1, .int s), (2, .int m), (3, .int y), (4, .int r)]) ?_ rfl rfl rfl
  refine x_aload_n O 0 dX7_init_0 rfl rfl ?_
  refine x_obj O q596 q152 q153 (by rw [RF]; rfl) (by rw [RL]; rfl) dX7_init_1 ?_
  refine x_aload_n O 0 dX7_init_4 rfl rfl ?_
  refine x_iload_n O 1 dX7_init_5 rfl rfl ?_
  refine x_putF O hnm f_X7_7_7 (fun h hh => by rw [hh]; exact hset_s) rfl rfl rfl dX7_init_6 (fun h => h = hset h0 o (.inr (6, [.int s, .int 0, .int 0, .int 0]))) (fun h hh => by rw [hh, hset_hset]; rfl) ?_
  refine x_aload_n O 0 dX7_init_9 rfl rfl ?_
  refine x_iload_n O 2 dX7_init_10 rfl rfl ?_
  refine x_putF O hnm f_X7_13_7 (fun h hh => by rw [hh]; exact hset_s) rfl rfl rfl dX7_init_11 (fun h => h = hset h0 o (.inr (6, [.int s, .int m, .int 0, .int 0]))) (fun h hh => by rw [hh, hset_hset]; rfl) ?_
  refine x_aload_n O 0 dX7_init_14 rfl rfl ?_
  refine x_iload_n O 3 dX7_init_15 rfl rfl ?_
  refine x_putF O hnm f_X7_16_7 (fun h hh => by rw [hh]; exact hset_s) rfl rfl rfl dX7_init_16 (fun h => h = hset h0 o (.inr (6, [.int s, .int m, .int y, .int 0]))) (fun h hh => by rw [hh, hset_hset]; rfl) ?_
  refine x_aload_n O 0 dX7_init_19 rfl rfl ?_
  refine x_iload O 4 dX7_init_20 rfl ?_
  refine x_put O p_X7_19_7 (fun h hh => by rw [hh]; exact hset_s) rfl rfl rfl dX7_init_22 (fun h => h = hset h0 o (.inr (6, [.int s, .int m, .int y, .int r]))) (fun h hh => by rw [hh, hset_hset]; rfl) ?_
  exact x_vretQ O hQ rfl dX7_init_25 (fun h hh => ⟨rfl, hh⟩)
theorem c_x_Person {G : UG} {h0 : Hp} (o : Nat) (s : Int32) (l : Int32) (g : Int32) (c : Int32) (f : Int32) : Con G yX20_init_2 cX20_init_2 6 none 1 12 0 0 [.ref o, .int s, .int l, .int g, .int c, .int f] (fun h => h = hset h0 o (.inr (18, [.int 0, .int 0, .int 0, .int 0, .int 0, .int 0]))) (fun vr_ h' => vr_ = none ∧ h' = hset h0 o (.inr (18, [.int s, .int l, .int g, .int c, .int f, .int (nI 1)]))) nX := by
  refine con_of2 (plainFor_of_name (by decide)) rfl ?_
  intro F R Q RF RL RC RS hQ O hnh hnm
  refine x_eq (L' := [(0, .ref o), (1, .int s), (2, .int l), (3, .int g), (4, .int c), (5, .int f)]) ?_ rfl rfl rfl
  refine x_aload_n O 0 dX20_init_2_0 rfl rfl ?_
  refine x_obj O q625 q152 q153 (by rw [RF]; rfl) (by rw [RL]; rfl) dX20_init_2_1 ?_
  refine x_aload_n O 0 dX20_init_2_4 rfl rfl ?_
  refine x_iconst O (nI 1) dX20_init_2_5 (by decide) ?_
  refine x_put O p_X20_7_20 (fun h hh => by rw [hh]; exact hset_s) rfl rfl rfl dX20_init_2_6 (fun h => h = hset h0 o (.inr (18, [.int 0, .int 0, .int 0, .int 0, .int 0, .int (nI 1)]))) (fun h hh => by rw [hh, hset_hset]; rfl) ?_
  refine x_aload_n O 0 dX20_init_2_9 rfl rfl ?_
  refine x_iload_n O 1 dX20_init_2_10 rfl rfl ?_
  refine x_putF O hnm f_X20_13_20 (fun h hh => by rw [hh]; exact hset_s) rfl rfl rfl dX20_init_2_11 (fun h => h = hset h0 o (.inr (18, [.int s, .int 0, .int 0, .int 0, .int 0, .int (nI 1)]))) (fun h hh => by rw [hh, hset_hset]; rfl) ?_
  refine x_aload_n O 0 dX20_init_2_14 rfl rfl ?_
  refine x_iload_n O 2 dX20_init_2_15 rfl rfl ?_
  refine x_putF O hnm f_X20_17_20 (fun h hh => by rw [hh]; exact hset_s) rfl rfl rfl dX20_init_2_16 (fun h => h = hset h0 o (.inr (18, [.int s, .int l, .int 0, .int 0, .int 0, .int (nI 1)]))) (fun h hh => by rw [hh, hset_hset]; rfl) ?_
  refine x_aload_n O 0 dX20_init_2_19 rfl rfl ?_
  refine x_iload_n O 3 dX20_init_2_20 rfl rfl ?_
  refine x_put O p_X20_20_20 (fun h hh => by rw [hh]; exact hset_s) rfl rfl rfl dX20_init_2_21 (fun h => h = hset h0 o (.inr (18, [.int s, .int l, .int g, .int 0, .int 0, .int (nI 1)]))) (fun h hh => by rw [hh, hset_hset]; rfl) ?_
  refine x_aload_n O 0 dX20_init_2_24 rfl rfl ?_
  refine x_iload O 4 dX20_init_2_25 rfl ?_
  refine x_put O p_X20_23_20 (fun h hh => by rw [hh]; exact hset_s) rfl rfl rfl dX20_init_2_27 (fun h => h = hset h0 o (.inr (18, [.int s, .int l, .int g, .int c, .int 0, .int (nI 1)]))) (fun h hh => by rw [hh, hset_hset]; rfl) ?_
  refine x_aload_n O 0 dX20_init_2_30 rfl rfl ?_
  refine x_iload O 5 dX20_init_2_31 rfl ?_
  refine x_put O p_X20_26_20 (fun h hh => by rw [hh]; exact hset_s) rfl rfl rfl dX20_init_2_33 (fun h => h = hset h0 o (.inr (18, [.int s, .int l, .int g, .int c, .int f, .int (nI 1)]))) (fun h hh => by rw [hh, hset_hset]; rfl) ?_
  exact x_vretQ O hQ rfl dX20_init_2_36 (fun h hh => ⟨rfl, hh⟩)
theorem c_x_Teller {G : UG} {h0 : Hp} (o : Nat) (c : Int32) (f : Int32) (t : Int32) (l : Int32) : Con G yX26_init cX26_init 5 none 1 12 0 0 [.ref o, .int c, .int f, .int t, .int l] (fun h => h = hset h0 o (.inr (23, [.int 0, .int 0, .int 0, .int 0]))) (fun vr_ h' => vr_ = none ∧ h' = hset h0 o (.inr (23, [.int c, .int f, .int t, .int l]))) nX := by
  refine con_of2 (plainFor_of_name (by decide)) rfl ?_
  intro F R Q RF RL RC RS hQ O hnh hnm
  refine x_eq (L' := [(0, .ref o), (1, .int c), (2, .int f), (3, .int t), (4, .int l)]) ?_ rfl rfl rfl
  refine x_aload_n O 0 dX26_init_0 rfl rfl ?_
  refine x_obj O q1524 q152 q153 (by rw [RF]; rfl) (by rw [RL]; rfl) dX26_init_1 ?_
  refine x_aload_n O 0 dX26_init_4 rfl rfl ?_
  refine x_iload_n O 1 dX26_init_5 rfl rfl ?_
  refine x_putF O hnm f_X26_7_26 (fun h hh => by rw [hh]; exact hset_s) rfl rfl rfl dX26_init_6 (fun h => h = hset h0 o (.inr (23, [.int c, .int 0, .int 0, .int 0]))) (fun h hh => by rw [hh, hset_hset]; rfl) ?_
  refine x_aload_n O 0 dX26_init_9 rfl rfl ?_
  refine x_iload_n O 2 dX26_init_10 rfl rfl ?_
  refine x_putF O hnm f_X26_13_26 (fun h hh => by rw [hh]; exact hset_s) rfl rfl rfl dX26_init_11 (fun h => h = hset h0 o (.inr (23, [.int c, .int f, .int 0, .int 0]))) (fun h hh => by rw [hh, hset_hset]; rfl) ?_
  refine x_aload_n O 0 dX26_init_14 rfl rfl ?_
  refine x_iload_n O 3 dX26_init_15 rfl rfl ?_
  refine x_putF O hnm f_X26_16_26 (fun h hh => by rw [hh]; exact hset_s) rfl rfl rfl dX26_init_16 (fun h => h = hset h0 o (.inr (23, [.int c, .int f, .int t, .int 0]))) (fun h hh => by rw [hh, hset_hset]; rfl) ?_
  refine x_aload_n O 0 dX26_init_19 rfl rfl ?_
  refine x_iload O 4 dX26_init_20 rfl ?_
  refine x_putF O hnm f_X26_19_26 (fun h hh => by rw [hh]; exact hset_s) rfl rfl rfl dX26_init_22 (fun h => h = hset h0 o (.inr (23, [.int c, .int f, .int t, .int l]))) (fun h hh => by rw [hh, hset_hset]; rfl) ?_
  exact x_vretQ O hQ rfl dX26_init_25 (fun h hh => ⟨rfl, hh⟩)
theorem c_x_Telling {G : UG} {h0 : Hp} (o : Nat) (t : Int32) (c : Int32) (m : Int32) : Con G yX27_init cX27_init 4 none 1 12 0 0 [.ref o, .int t, .int c, .int m] (fun h => h = hset h0 o (.inr (24, [.int 0, .int 0, .int 0]))) (fun vr_ h' => vr_ = none ∧ h' = hset h0 o (.inr (24, [.int t, .int c, .int m]))) nX := by
  refine con_of2 (plainFor_of_name (by decide)) rfl ?_
  intro F R Q RF RL RC RS hQ O hnh hnm
  refine x_eq (L' := [(0, .ref o), (1, .int t), (2, .int c), (3, .int m)]) ?_ rfl rfl rfl
  refine x_aload_n O 0 dX27_init_0 rfl rfl ?_
  refine x_obj O q1558 q152 q153 (by rw [RF]; rfl) (by rw [RL]; rfl) dX27_init_1 ?_
  refine x_aload_n O 0 dX27_init_4 rfl rfl ?_
  refine x_iload_n O 1 dX27_init_5 rfl rfl ?_
  refine x_putF O hnm f_X27_7_27 (fun h hh => by rw [hh]; exact hset_s) rfl rfl rfl dX27_init_6 (fun h => h = hset h0 o (.inr (24, [.int t, .int 0, .int 0]))) (fun h hh => by rw [hh, hset_hset]; rfl) ?_
  refine x_aload_n O 0 dX27_init_9 rfl rfl ?_
  refine x_iload_n O 2 dX27_init_10 rfl rfl ?_
  refine x_putF O hnm f_X27_13_27 (fun h hh => by rw [hh]; exact hset_s) rfl rfl rfl dX27_init_11 (fun h => h = hset h0 o (.inr (24, [.int t, .int c, .int 0]))) (fun h hh => by rw [hh, hset_hset]; rfl) ?_
  refine x_aload_n O 0 dX27_init_14 rfl rfl ?_
  refine x_iload_n O 3 dX27_init_15 rfl rfl ?_
  refine x_putF O hnm f_X27_16_27 (fun h hh => by rw [hh]; exact hset_s) rfl rfl rfl dX27_init_16 (fun h => h = hset h0 o (.inr (24, [.int t, .int c, .int m]))) (fun h hh => by rw [hh, hset_hset]; rfl) ?_
  exact x_vretQ O hQ rfl dX27_init_19 (fun h hh => ⟨rfl, hh⟩)
theorem c_x_Story {G : UG} {h0 : Hp} (o : Nat) (w : Int32) (c : Nat) : Con G yX28_init cX28_init 3 none 1 12 0 0 [.ref o, .int w, .ref c] (fun h => h = hset h0 o (.inr (25, [.int 0, .null]))) (fun vr_ h' => vr_ = none ∧ h' = hset h0 o (.inr (25, [.int w, .ref c]))) nX := by
  refine con_of2 (plainFor_of_name (by decide)) rfl ?_
  intro F R Q RF RL RC RS hQ O hnh hnm
  refine x_eq (L' := [(0, .ref o), (1, .int w), (2, .ref c)]) ?_ rfl rfl rfl
  refine x_aload_n O 0 dX28_init_0 rfl rfl ?_
  refine x_obj O q1626 q152 q153 (by rw [RF]; rfl) (by rw [RL]; rfl) dX28_init_1 ?_
  refine x_aload_n O 0 dX28_init_4 rfl rfl ?_
  refine x_iload_n O 1 dX28_init_5 rfl rfl ?_
  refine x_putF O hnm f_X28_7_28 (fun h hh => by rw [hh]; exact hset_s) rfl rfl rfl dX28_init_6 (fun h => h = hset h0 o (.inr (25, [.int w, .null]))) (fun h hh => by rw [hh, hset_hset]; rfl) ?_
  refine x_aload_n O 0 dX28_init_9 rfl rfl ?_
  refine x_aload_n O 2 dX28_init_10 rfl rfl ?_
  refine x_putF O hnm f_X28_13_28 (fun h hh => by rw [hh]; exact hset_s) rfl rfl rfl dX28_init_11 (fun h => h = hset h0 o (.inr (25, [.int w, .ref c]))) (fun h hh => by rw [hh, hset_hset]; rfl) ?_
  exact x_vretQ O hQ rfl dX28_init_14 (fun h hh => ⟨rfl, hh⟩)
theorem c_x_Find19 {G : UG} {h0 : Hp} (o : Nat) (c : Int32) (d : Int32) : Con G yX21_init cX21_init 3 none 1 12 0 0 [.ref o, .int c, .int d] (fun h => h = hset h0 o (.inr (19, [.int 0, .int 0, .int 0, .int 0, .int 0]))) (fun vr_ h' => vr_ = none ∧ h' = hset h0 o (.inr (19, [.int c, .int d, .int 0, .int 0, .int 0]))) nX := by
  refine con_of2 (plainFor_of_name (by decide)) rfl ?_
  intro F R Q RF RL RC RS hQ O hnh hnm
  refine x_eq (L' := [(0, .ref o), (1, .int c), (2, .int d)]) ?_ rfl rfl rfl
  refine x_aload_n O 0 dX21_init_0 rfl rfl ?_
  refine x_obj O q1215 q152 q153 (by rw [RF]; rfl) (by rw [RL]; rfl) dX21_init_1 ?_
  refine x_aload_n O 0 dX21_init_4 rfl rfl ?_
  refine x_iload_n O 1 dX21_init_5 rfl rfl ?_
  refine x_putF O hnm f_X21_9_22 (fun h hh => by rw [hh]; exact hset_s) rfl rfl rfl dX21_init_6 (fun h => h = hset h0 o (.inr (19, [.int c, .int 0, .int 0, .int 0, .int 0]))) (fun h hh => by rw [hh, hset_hset]; rfl) ?_
  refine x_aload_n O 0 dX21_init_9 rfl rfl ?_
  refine x_iload_n O 2 dX21_init_10 rfl rfl ?_
  refine x_putF O hnm f_X21_15_22 (fun h hh => by rw [hh]; exact hset_s) rfl rfl rfl dX21_init_11 (fun h => h = hset h0 o (.inr (19, [.int c, .int d, .int 0, .int 0, .int 0]))) (fun h hh => by rw [hh, hset_hset]; rfl) ?_
  exact x_vretQ O hQ rfl dX21_init_14 (fun h hh => ⟨rfl, hh⟩)
theorem c_x_Find20 {G : UG} {h0 : Hp} (o : Nat) (c : Int32) (d : Int32) : Con G yX21_init cX21_init 3 none 1 12 0 0 [.ref o, .int c, .int d] (fun h => h = hset h0 o (.inr (20, [.int 0, .int 0, .int 0]))) (fun vr_ h' => vr_ = none ∧ h' = hset h0 o (.inr (20, [.int c, .int d, .int 0]))) nX := by
  refine con_of2 (plainFor_of_name (by decide)) rfl ?_
  intro F R Q RF RL RC RS hQ O hnh hnm
  refine x_eq (L' := [(0, .ref o), (1, .int c), (2, .int d)]) ?_ rfl rfl rfl
  refine x_aload_n O 0 dX21_init_0 rfl rfl ?_
  refine x_obj O q1215 q152 q153 (by rw [RF]; rfl) (by rw [RL]; rfl) dX21_init_1 ?_
  refine x_aload_n O 0 dX21_init_4 rfl rfl ?_
  refine x_iload_n O 1 dX21_init_5 rfl rfl ?_
  refine x_putF O hnm f_X21_9_23 (fun h hh => by rw [hh]; exact hset_s) rfl rfl rfl dX21_init_6 (fun h => h = hset h0 o (.inr (20, [.int c, .int 0, .int 0]))) (fun h hh => by rw [hh, hset_hset]; rfl) ?_
  refine x_aload_n O 0 dX21_init_9 rfl rfl ?_
  refine x_iload_n O 2 dX21_init_10 rfl rfl ?_
  refine x_putF O hnm f_X21_15_23 (fun h hh => by rw [hh]; exact hset_s) rfl rfl rfl dX21_init_11 (fun h => h = hset h0 o (.inr (20, [.int c, .int d, .int 0]))) (fun h hh => by rw [hh, hset_hset]; rfl) ?_
  exact x_vretQ O hQ rfl dX21_init_14 (fun h hh => ⟨rfl, hh⟩)
theorem c_x_Find21 {G : UG} {h0 : Hp} (o : Nat) (c : Int32) (d : Int32) : Con G yX21_init cX21_init 3 none 1 12 0 0 [.ref o, .int c, .int d] (fun h => h = hset h0 o (.inr (21, [.int 0, .int 0, .int 0]))) (fun vr_ h' => vr_ = none ∧ h' = hset h0 o (.inr (21, [.int c, .int d, .int 0]))) nX := by
  refine con_of2 (plainFor_of_name (by decide)) rfl ?_
  intro F R Q RF RL RC RS hQ O hnh hnm
  refine x_eq (L' := [(0, .ref o), (1, .int c), (2, .int d)]) ?_ rfl rfl rfl
  refine x_aload_n O 0 dX21_init_0 rfl rfl ?_
  refine x_obj O q1215 q152 q153 (by rw [RF]; rfl) (by rw [RL]; rfl) dX21_init_1 ?_
  refine x_aload_n O 0 dX21_init_4 rfl rfl ?_
  refine x_iload_n O 1 dX21_init_5 rfl rfl ?_
  refine x_putF O hnm f_X21_9_24 (fun h hh => by rw [hh]; exact hset_s) rfl rfl rfl dX21_init_6 (fun h => h = hset h0 o (.inr (21, [.int c, .int 0, .int 0]))) (fun h hh => by rw [hh, hset_hset]; rfl) ?_
  refine x_aload_n O 0 dX21_init_9 rfl rfl ?_
  refine x_iload_n O 2 dX21_init_10 rfl rfl ?_
  refine x_putF O hnm f_X21_15_24 (fun h hh => by rw [hh]; exact hset_s) rfl rfl rfl dX21_init_11 (fun h => h = hset h0 o (.inr (21, [.int c, .int d, .int 0]))) (fun h hh => by rw [hh, hset_hset]; rfl) ?_
  exact x_vretQ O hQ rfl dX21_init_14 (fun h hh => ⟨rfl, hh⟩)
theorem c_x_Find22 {G : UG} {h0 : Hp} (o : Nat) (c : Int32) (d : Int32) : Con G yX21_init cX21_init 3 none 1 12 0 0 [.ref o, .int c, .int d] (fun h => h = hset h0 o (.inr (22, [.int 0, .int 0, .int 0]))) (fun vr_ h' => vr_ = none ∧ h' = hset h0 o (.inr (22, [.int c, .int d, .int 0]))) nX := by
  refine con_of2 (plainFor_of_name (by decide)) rfl ?_
  intro F R Q RF RL RC RS hQ O hnh hnm
  refine x_eq (L' := [(0, .ref o), (1, .int c), (2, .int d)]) ?_ rfl rfl rfl
  refine x_aload_n O 0 dX21_init_0 rfl rfl ?_
  refine x_obj O q1215 q152 q153 (by rw [RF]; rfl) (by rw [RL]; rfl) dX21_init_1 ?_
  refine x_aload_n O 0 dX21_init_4 rfl rfl ?_
  refine x_iload_n O 1 dX21_init_5 rfl rfl ?_
  refine x_putF O hnm f_X21_9_25 (fun h hh => by rw [hh]; exact hset_s) rfl rfl rfl dX21_init_6 (fun h => h = hset h0 o (.inr (22, [.int c, .int 0, .int 0]))) (fun h hh => by rw [hh, hset_hset]; rfl) ?_
  refine x_aload_n O 0 dX21_init_9 rfl rfl ?_
  refine x_iload_n O 2 dX21_init_10 rfl rfl ?_
  refine x_putF O hnm f_X21_15_25 (fun h hh => by rw [hh]; exact hset_s) rfl rfl rfl dX21_init_11 (fun h => h = hset h0 o (.inr (22, [.int c, .int d, .int 0]))) (fun h hh => by rw [hh, hset_hset]; rfl) ?_
  exact x_vretQ O hQ rfl dX21_init_14 (fun h hh => ⟨rfl, hh⟩)
theorem c_x_Case {G : UG} {h0 : Hp} (o : Nat) (c : Int32) (d : Int32) (m : Int32) (f : Int32) (t : Int32) : Con G yX22_init cX22_init 6 none 2 34 0 0 [.ref o, .int c, .int d, .int m, .int f, .int t] (fun h => h = hset h0 o (.inr (19, [.int 0, .int 0, .int 0, .int 0, .int 0]))) (fun vr_ h' => vr_ = none ∧ h' = hset h0 o (.inr (19, [.int c, .int d, .int m, .int f, .int t]))) nX := by
  refine con_of2 (plainFor_of_name (by decide)) rfl ?_
  intro F R Q RF RL RC RS hQ O hnh hnm
  refine x_eq (L' := [(0, .ref o), (1, .int c), (2, .int d), (3, .int m), (4, .int f), (5, .int t)]) ?_ rfl rfl rfl
  refine x_aload_n O 0 dX22_init_0 rfl rfl ?_
  refine x_iload_n O 1 dX22_init_1 rfl rfl ?_
  refine x_iload_n O 2 dX22_init_2 rfl rfl ?_
  refine x_void (r_I O 2 (c_x_Find19 (h0 := h0) o c d) q1212 q1213 q137 q1214 rfl hd_X21_init rfl (by rw [RF]; rfl) (by rw [RL]; rfl) (by rw [RC, RS]; decide) rfl rfl dX22_init_3) ?_
  refine x_aload_n O 0 dX22_init_6 rfl rfl ?_
  refine x_iload_n O 3 dX22_init_7 rfl rfl ?_
  refine x_putF O hnm f_X22_9_22 (fun h hh => by rw [hh]; exact hset_s) rfl rfl rfl dX22_init_8 (fun h => h = hset h0 o (.inr (19, [.int c, .int d, .int m, .int 0, .int 0]))) (fun h hh => by rw [hh, hset_hset]; rfl) ?_
  refine x_aload_n O 0 dX22_init_11 rfl rfl ?_
  refine x_iload O 4 dX22_init_12 rfl ?_
  refine x_putF O hnm f_X22_15_22 (fun h hh => by rw [hh]; exact hset_s) rfl rfl rfl dX22_init_14 (fun h => h = hset h0 o (.inr (19, [.int c, .int d, .int m, .int f, .int 0]))) (fun h hh => by rw [hh, hset_hset]; rfl) ?_
  refine x_aload_n O 0 dX22_init_17 rfl rfl ?_
  refine x_iload O 5 dX22_init_18 rfl ?_
  refine x_putF O hnm f_X22_18_22 (fun h hh => by rw [hh]; exact hset_s) rfl rfl rfl dX22_init_20 (fun h => h = hset h0 o (.inr (19, [.int c, .int d, .int m, .int f, .int t]))) (fun h hh => by rw [hh, hset_hset]; rfl) ?_
  exact x_vretQ O hQ rfl dX22_init_23 (fun h hh => ⟨rfl, hh⟩)
theorem c_x_Ball {G : UG} {h0 : Hp} (o : Nat) (c : Int32) (d : Int32) (w : Int32) : Con G yX23_init cX23_init 4 none 2 34 0 0 [.ref o, .int c, .int d, .int w] (fun h => h = hset h0 o (.inr (20, [.int 0, .int 0, .int 0]))) (fun vr_ h' => vr_ = none ∧ h' = hset h0 o (.inr (20, [.int c, .int d, .int w]))) nX := by
  refine con_of2 (plainFor_of_name (by decide)) rfl ?_
  intro F R Q RF RL RC RS hQ O hnh hnm
  refine x_eq (L' := [(0, .ref o), (1, .int c), (2, .int d), (3, .int w)]) ?_ rfl rfl rfl
  refine x_aload_n O 0 dX23_init_0 rfl rfl ?_
  refine x_iload_n O 1 dX23_init_1 rfl rfl ?_
  refine x_iload_n O 2 dX23_init_2 rfl rfl ?_
  refine x_void (r_I O 2 (c_x_Find20 (h0 := h0) o c d) q1245 q1213 q137 q1214 rfl hd_X21_init rfl (by rw [RF]; rfl) (by rw [RL]; rfl) (by rw [RC, RS]; decide) rfl rfl dX23_init_3) ?_
  refine x_aload_n O 0 dX23_init_6 rfl rfl ?_
  refine x_iload_n O 3 dX23_init_7 rfl rfl ?_
  refine x_putF O hnm f_X23_9_23 (fun h hh => by rw [hh]; exact hset_s) rfl rfl rfl dX23_init_8 (fun h => h = hset h0 o (.inr (20, [.int c, .int d, .int w]))) (fun h hh => by rw [hh, hset_hset]; rfl) ?_
  exact x_vretQ O hQ rfl dX23_init_11 (fun h hh => ⟨rfl, hh⟩)
theorem c_x_Bones {G : UG} {h0 : Hp} (o : Nat) (c : Int32) (d : Int32) (w : Int32) : Con G yX24_init cX24_init 4 none 2 34 0 0 [.ref o, .int c, .int d, .int w] (fun h => h = hset h0 o (.inr (21, [.int 0, .int 0, .int 0]))) (fun vr_ h' => vr_ = none ∧ h' = hset h0 o (.inr (21, [.int c, .int d, .int w]))) nX := by
  refine con_of2 (plainFor_of_name (by decide)) rfl ?_
  intro F R Q RF RL RC RS hQ O hnh hnm
  refine x_eq (L' := [(0, .ref o), (1, .int c), (2, .int d), (3, .int w)]) ?_ rfl rfl rfl
  refine x_aload_n O 0 dX24_init_0 rfl rfl ?_
  refine x_iload_n O 1 dX24_init_1 rfl rfl ?_
  refine x_iload_n O 2 dX24_init_2 rfl rfl ?_
  refine x_void (r_I O 2 (c_x_Find21 (h0 := h0) o c d) q1262 q1213 q137 q1214 rfl hd_X21_init rfl (by rw [RF]; rfl) (by rw [RL]; rfl) (by rw [RC, RS]; decide) rfl rfl dX24_init_3) ?_
  refine x_aload_n O 0 dX24_init_6 rfl rfl ?_
  refine x_iload_n O 3 dX24_init_7 rfl rfl ?_
  refine x_putF O hnm f_X24_9_24 (fun h hh => by rw [hh]; exact hset_s) rfl rfl rfl dX24_init_8 (fun h => h = hset h0 o (.inr (21, [.int c, .int d, .int w]))) (fun h hh => by rw [hh, hset_hset]; rfl) ?_
  exact x_vretQ O hQ rfl dX24_init_11 (fun h hh => ⟨rfl, hh⟩)
theorem c_x_Late {G : UG} {h0 : Hp} (o : Nat) (c : Int32) (d : Int32) (w : Int32) : Con G yX25_init cX25_init 4 none 2 34 0 0 [.ref o, .int c, .int d, .int w] (fun h => h = hset h0 o (.inr (22, [.int 0, .int 0, .int 0]))) (fun vr_ h' => vr_ = none ∧ h' = hset h0 o (.inr (22, [.int c, .int d, .int w]))) nX := by
  refine con_of2 (plainFor_of_name (by decide)) rfl ?_
  intro F R Q RF RL RC RS hQ O hnh hnm
  refine x_eq (L' := [(0, .ref o), (1, .int c), (2, .int d), (3, .int w)]) ?_ rfl rfl rfl
  refine x_aload_n O 0 dX25_init_0 rfl rfl ?_
  refine x_iload_n O 1 dX25_init_1 rfl rfl ?_
  refine x_iload_n O 2 dX25_init_2 rfl rfl ?_
  refine x_void (r_I O 2 (c_x_Find22 (h0 := h0) o c d) q1299 q1213 q137 q1214 rfl hd_X21_init rfl (by rw [RF]; rfl) (by rw [RL]; rfl) (by rw [RC, RS]; decide) rfl rfl dX25_init_3) ?_
  refine x_aload_n O 0 dX25_init_6 rfl rfl ?_
  refine x_iload_n O 3 dX25_init_7 rfl rfl ?_
  refine x_putF O hnm f_X25_9_25 (fun h hh => by rw [hh]; exact hset_s) rfl rfl rfl dX25_init_8 (fun h => h = hset h0 o (.inr (22, [.int c, .int d, .int w]))) (fun h hh => by rw [hh, hset_hset]; rfl) ?_
  exact x_vretQ O hQ rfl dX25_init_11 (fun h hh => ⟨rfl, hh⟩)
theorem c_x_PersonOf {G : UG} {h0 : Hp} (o : Nat) (p : Nat) (s l g c f : Int32) (v : Bool) (hne : p ≠ o) (hp0 : h0 p = some (.inr (18, [.int s, .int l, .int g, .int c, .int f, .int (b2i v)]))) : Con G yX20_init cX20_init 2 none 2 37 0 0 [.ref o, .ref p] (fun h => h = hset h0 o (.inr (18, [.int 0, .int 0, .int 0, .int 0, .int 0, .int 0]))) (fun vr_ h' => vr_ = none ∧ h' = hset h0 o (.inr (18, [.int s, .int l, .int g, .int c, .int f, .int (b2i v)]))) nX := by
  refine con_of2 (plainFor_of_name (by decide)) rfl ?_
  intro F R Q RF RL RC RS hQ O hnh hnm
  refine x_eq (L' := [(0, .ref o), (1, .ref p)]) ?_ rfl rfl rfl
  refine x_aload_n O 0 dX20_init_0 rfl rfl ?_
  refine x_aload_n O 1 dX20_init_1 rfl rfl ?_
  refine x_get O k_X20_13_20 (fun h hh => by rw [hh, hset_n hne]; exact hp0) (v := .int s) rfl dX20_init_2 ?_
  refine x_aload_n O 1 dX20_init_5 rfl rfl ?_
  refine x_get O k_X20_17_20 (fun h hh => by rw [hh, hset_n hne]; exact hp0) (v := .int l) rfl dX20_init_6 ?_
  refine x_aload_n O 1 dX20_init_9 rfl rfl ?_
  refine x_get O k_X20_20_20 (fun h hh => by rw [hh, hset_n hne]; exact hp0) (v := .int g) rfl dX20_init_10 ?_
  refine x_aload_n O 1 dX20_init_13 rfl rfl ?_
  refine x_get O k_X20_23_20 (fun h hh => by rw [hh, hset_n hne]; exact hp0) (v := .int c) rfl dX20_init_14 ?_
  refine x_aload_n O 1 dX20_init_17 rfl rfl ?_
  refine x_get O k_X20_26_20 (fun h hh => by rw [hh, hset_n hne]; exact hp0) (v := .int f) rfl dX20_init_18 ?_
  refine x_void (r_I O 5 (c_x_Person (h0 := h0) o s l g c f) q622 q623 q135 q624 rfl hd_X20_init_2 rfl (by rw [RF]; rfl) (by rw [RL]; rfl) (by rw [RC, RS]; decide) rfl rfl dX20_init_21) ?_
  refine x_aload_n O 0 dX20_init_24 rfl rfl ?_
  refine x_aload_n O 1 dX20_init_25 rfl rfl ?_
  refine x_get O k_X20_7_20 (fun h hh => by rw [hh, hset_n hne]; exact hp0) (v := .int (b2i v)) rfl dX20_init_26 ?_
  refine x_put O p_X20_7_20 (fun h hh => by rw [hh]; exact hset_s) (by cases v <;> rfl) (by cases v <;> rfl) rfl dX20_init_29 (fun h => h = hset h0 o (.inr (18, [.int s, .int l, .int g, .int c, .int f, .int (b2i v)]))) (fun h hh => by rw [hh, hset_hset]; rfl) ?_
  exact x_vretQ O hQ rfl dX20_init_32 (fun h hh => ⟨rfl, hh⟩)
