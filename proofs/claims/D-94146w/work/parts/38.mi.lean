/-! the model's constructor -/
/-- the objects at l hold el, all else is h0's -/
def PS (l : List Nat) (el : List va_E) (h0 h : Hp) : Prop :=
  l.length = el.length ∧ (∀ (i j x : Nat), l[i]? = some x → l[j]? = some x → i = j) ∧ (∀ (i x : Nat) (e : va_E), l[i]? = some x → el[i]? = some e → h x = some e) ∧ ∀ a : Nat, a ∉ l → h a = h0 a
theorem PS.push {l : List Nat} {el : List va_E} {h0 h : Hp} {q : Nat} {e : va_E} (m : PS l el h0 h) (hn : h q = none) : PS (l ++ [q]) (el ++ [e]) h0 (hset h q e) := by
  obtain ⟨m1, m2, m3, m4⟩ := m
  have old : ∀ i : Nat, ¬ l[i]? = some q := by
    intro i hi
    have hlt : i < el.length := by rw [← m1]; exact (List.getElem?_eq_some_iff.mp hi).1
    have := m3 i q el[i] hi (List.getElem?_eq_getElem hlt)
    rw [hn] at this; cases this
  refine ⟨by simp [m1], ?_, ?_, ?_⟩
  · intro i j x hi hj
    by_cases ci : i < l.length
    · rw [List.getElem?_append_left ci] at hi
      by_cases cj : j < l.length
      · rw [List.getElem?_append_left cj] at hj
        exact m2 i j x hi hj
      · rw [List.getElem?_append_right (by omega)] at hj
        have hz : j - l.length < 1 := (List.getElem?_eq_some_iff.mp hj).1
        rw [show j - l.length = 0 by omega] at hj
        cases hj
        exact (old i hi).elim
    · rw [List.getElem?_append_right (by omega)] at hi
      have hz : i - l.length < 1 := (List.getElem?_eq_some_iff.mp hi).1
      rw [show i - l.length = 0 by omega] at hi
      cases hi
      by_cases cj : j < l.length
      · rw [List.getElem?_append_left cj] at hj
        exact (old j hj).elim
      · rw [List.getElem?_append_right (by omega)] at hj
        have hz : j - l.length < 1 := (List.getElem?_eq_some_iff.mp hj).1
        omega
  · intro i x e' hi he
    by_cases ci : i < l.length
    · rw [List.getElem?_append_left ci] at hi
      rw [List.getElem?_append_left (by omega)] at he
      rw [hset_n (fun z => old i (by rw [← z]; exact hi))]
      exact m3 i x e' hi he
    · rw [List.getElem?_append_right (by omega)] at hi
      have hz : i - l.length < 1 := (List.getElem?_eq_some_iff.mp hi).1
      rw [show i - l.length = 0 by omega] at hi
      rw [List.getElem?_append_right (by omega), show i - el.length = 0 by omega] at he
      cases hi; cases he
      exact hset_s
  · intro a ha
    have hne : a ≠ q := fun z => ha (by rw [z]; simp)
    rw [hset_n hne]
    exact m4 a (fun z => ha (List.mem_append_left _ z))
theorem PS.put {l : List Nat} {el : List va_E} {h0 h : Hp} {e : va_E} (m : PS l el h0 h) (i : Nat) {x : Nat} (hi : l[i]? = some x) : PS l (el.set i e) h0 (hset h x e) := by
  obtain ⟨m1, m2, m3, m4⟩ := m
  have hlt : i < el.length := by rw [← m1]; exact (List.getElem?_eq_some_iff.mp hi).1
  refine ⟨by simp [m1], m2, ?_, ?_⟩
  · intro j y e' hj he
    by_cases c : i = j
    · subst c
      rw [List.getElem?_set_self hlt] at he
      rw [hi] at hj
      cases hj; cases he
      exact hset_s
    · rw [List.getElem?_set_ne c] at he
      rw [hset_n (fun z => c (m2 i j x hi (by rw [← z]; exact hj)))]
      exact m3 j y e' hj he
  · intro a ha
    have hne : a ≠ x := fun z => ha (by rw [z]; exact List.mem_of_getElem? hi)
    rw [hset_n hne]
    exact m4 a ha
theorem PS.get {l : List Nat} {el : List va_E} {h0 h : Hp} (m : PS l el h0 h) (i : Nat) {x : Nat} {e : va_E} (hi : l[i]? = some x) (he : el[i]? = some e) : h x = some e := m.2.2.1 i x e hi he

def mNew : List Value := [.int 0, .null, .null, .int 0, .null, .int 0, .int 0, .int 0, .int 0, .int 0, .int 0, .null, .int 0, .int 0, .null, .int 0, .int 0, .int 0, .null, .null, .int 0, .null, .null, .null, .int 0, .null, .int 0, .null]
def mI0 : Mu := fun c => match c with
  | 0 => ups (fun _ => 0) 10 (-1)
  | 1 => upd (upd (fun _ => 0) 8 1876) 10 9
  | _ => fun _ => 0
theorem c_m_init {G : UG} {h0 : Hp} (a : Nat) : Con G yX6_init cX6_init 1 none 1 12 12 21525 [.ref a] (PS [a] [.inr (5, mNew)] h0) (fun vr_ h' => vr_ = none ∧ ∃ adr : Nat → Nat, adr 0 = a ∧ MS G adr h0 mI0 h') nX := by
  refine con_of2 (plainFor_of_name (by decide)) rfl ?_
  intro F R Q RF RL RC RS hQ O hnh hnm
  refine x_eq (L' := [(0, .ref a)]) ?_ rfl rfl rfl
  refine x_aload_n O 0 dX6_init_0 rfl rfl ?_
  refine x_obj O q1669 q152 q153 (by rw [RF]; rfl) (by rw [RL]; rfl) dX6_init_1 ?_
  refine x_aload_n O 0 dX6_init_4 rfl rfl ?_
  refine x_sipush O (nI 9476) dX6_init_5 (by decide) ?_
  refine x_newa O 0 .int (N := 9476) (9476, .inl (fun _ => 0)) rfl rfl q405 (fun _ => rfl) (by decide) (by decide) (by decide) (by rw [RC, RS]; decide) dX6_init_8 (fun q => PS [a, q] [.inr (5, mNew), .inl (uI G 0, 9476, .inl (fun _ => 0))] h0) (fun h q hh hn => hh.push hn) (fun q1_ => ?_)
  refine x_putF O hnm f_X6_13_6 (fun h hh => hh.get 0 rfl rfl) rfl rfl rfl dX6_init_10 (PS [a, q1_] [.inr (5, (mNew).set 1 (.ref q1_)), .inl (uI G 0, 9476, .inl (fun _ => 0))] h0) (fun h hh => hh.put 0 rfl) ?_
  refine x_aload_n O 0 dX6_init_13 rfl rfl ?_
  refine x_sipush O (nI 8645) dX6_init_14 (by decide) ?_
  refine x_newa O 0 .int (N := 8645) (8645, .inl (fun _ => 0)) rfl rfl q405 (fun _ => rfl) (by decide) (by decide) (by decide) (by rw [RC, RS]; decide) dX6_init_17 (fun q => PS [a, q1_, q] [.inr (5, (mNew).set 1 (.ref q1_)), .inl (uI G 0, 9476, .inl (fun _ => 0)), .inl (uI G 0, 8645, .inl (fun _ => 0))] h0) (fun h q hh hn => hh.push hn) (fun q2_ => ?_)
  refine x_putF O hnm f_X6_17_6 (fun h hh => hh.get 0 rfl rfl) rfl rfl rfl dX6_init_19 (PS [a, q1_, q2_] [.inr (5, ((mNew).set 1 (.ref q1_)).set 2 (.ref q2_)), .inl (uI G 0, 9476, .inl (fun _ => 0)), .inl (uI G 0, 8645, .inl (fun _ => 0))] h0) (fun h hh => hh.put 0 rfl) ?_
  refine x_aload_n O 0 dX6_init_22 rfl rfl ?_
  refine x_sipush O (nI 400) dX6_init_23 (by decide) ?_
  refine x_newa O 1 .byte (N := 400) (400, .inl (fun _ => 0)) rfl rfl q256 (fun _ => rfl) (by decide) (by decide) (by decide) (by rw [RC, RS]; decide) dX6_init_26 (fun q => PS [a, q1_, q2_, q] [.inr (5, ((mNew).set 1 (.ref q1_)).set 2 (.ref q2_)), .inl (uI G 0, 9476, .inl (fun _ => 0)), .inl (uI G 0, 8645, .inl (fun _ => 0)), .inl (uI G 1, 400, .inl (fun _ => 0))] h0) (fun h q hh hn => hh.push hn) (fun q3_ => ?_)
  refine x_putF O hnm f_X6_20_6 (fun h hh => hh.get 0 rfl rfl) rfl rfl rfl dX6_init_28 (PS [a, q1_, q2_, q3_] [.inr (5, (((mNew).set 1 (.ref q1_)).set 2 (.ref q2_)).set 4 (.ref q3_)), .inl (uI G 0, 9476, .inl (fun _ => 0)), .inl (uI G 0, 8645, .inl (fun _ => 0)), .inl (uI G 1, 400, .inl (fun _ => 0))] h0) (fun h hh => hh.put 0 rfl) ?_
  refine x_aload_n O 0 dX6_init_31 rfl rfl ?_
  refine x_iconst O (-1) dX6_init_32 (by decide) ?_
  refine x_put O p_X6_24_6 (fun h hh => hh.get 0 rfl rfl) rfl rfl rfl dX6_init_33 (PS [a, q1_, q2_, q3_] [.inr (5, ((((mNew).set 1 (.ref q1_)).set 2 (.ref q2_)).set 4 (.ref q3_)).set 10 (.int (-1))), .inl (uI G 0, 9476, .inl (fun _ => 0)), .inl (uI G 0, 8645, .inl (fun _ => 0)), .inl (uI G 1, 400, .inl (fun _ => 0))] h0) (fun h hh => hh.put 0 rfl) ?_
  refine x_aload_n O 0 dX6_init_36 rfl rfl ?_
  refine x_iconst O (nI 5) dX6_init_37 (by decide) ?_
  refine x_newa O 0 .int (N := 5) (5, .inl (fun _ => 0)) rfl rfl q405 (fun _ => rfl) (by decide) (by decide) (by decide) (by rw [RC, RS]; decide) dX6_init_38 (fun q => PS [a, q1_, q2_, q3_, q] [.inr (5, ((((mNew).set 1 (.ref q1_)).set 2 (.ref q2_)).set 4 (.ref q3_)).set 10 (.int (-1))), .inl (uI G 0, 9476, .inl (fun _ => 0)), .inl (uI G 0, 8645, .inl (fun _ => 0)), .inl (uI G 1, 400, .inl (fun _ => 0)), .inl (uI G 0, 5, .inl (fun _ => 0))] h0) (fun h q hh hn => hh.push hn) (fun q4_ => ?_)
  refine x_putF O hnm f_X6_27_6 (fun h hh => hh.get 0 rfl rfl) rfl rfl rfl dX6_init_40 (PS [a, q1_, q2_, q3_, q4_] [.inr (5, (((((mNew).set 1 (.ref q1_)).set 2 (.ref q2_)).set 4 (.ref q3_)).set 10 (.int (-1))).set 11 (.ref q4_)), .inl (uI G 0, 9476, .inl (fun _ => 0)), .inl (uI G 0, 8645, .inl (fun _ => 0)), .inl (uI G 1, 400, .inl (fun _ => 0)), .inl (uI G 0, 5, .inl (fun _ => 0))] h0) (fun h hh => hh.put 0 rfl) ?_
  refine x_aload_n O 0 dX6_init_43 rfl rfl ?_
  refine x_bipush O (nI 7) dX6_init_44 (by decide) ?_
  refine x_newa O 0 .int (N := 7) (7, .inl (fun _ => 0)) rfl rfl q405 (fun _ => rfl) (by decide) (by decide) (by decide) (by rw [RC, RS]; decide) dX6_init_46 (fun q => PS [a, q1_, q2_, q3_, q4_, q] [.inr (5, (((((mNew).set 1 (.ref q1_)).set 2 (.ref q2_)).set 4 (.ref q3_)).set 10 (.int (-1))).set 11 (.ref q4_)), .inl (uI G 0, 9476, .inl (fun _ => 0)), .inl (uI G 0, 8645, .inl (fun _ => 0)), .inl (uI G 1, 400, .inl (fun _ => 0)), .inl (uI G 0, 5, .inl (fun _ => 0)), .inl (uI G 0, 7, .inl (fun _ => 0))] h0) (fun h q hh hn => hh.push hn) (fun q5_ => ?_)
  refine x_putF O hnm f_X6_30_6 (fun h hh => hh.get 0 rfl rfl) rfl rfl rfl dX6_init_48 (PS [a, q1_, q2_, q3_, q4_, q5_] [.inr (5, ((((((mNew).set 1 (.ref q1_)).set 2 (.ref q2_)).set 4 (.ref q3_)).set 10 (.int (-1))).set 11 (.ref q4_)).set 14 (.ref q5_)), .inl (uI G 0, 9476, .inl (fun _ => 0)), .inl (uI G 0, 8645, .inl (fun _ => 0)), .inl (uI G 1, 400, .inl (fun _ => 0)), .inl (uI G 0, 5, .inl (fun _ => 0)), .inl (uI G 0, 7, .inl (fun _ => 0))] h0) (fun h hh => hh.put 0 rfl) ?_
  refine x_aload_n O 0 dX6_init_51 rfl rfl ?_
  refine x_sipush O (nI 400) dX6_init_52 (by decide) ?_
  refine x_newa O 0 .int (N := 400) (400, .inl (fun _ => 0)) rfl rfl q405 (fun _ => rfl) (by decide) (by decide) (by decide) (by rw [RC, RS]; decide) dX6_init_55 (fun q => PS [a, q1_, q2_, q3_, q4_, q5_, q] [.inr (5, ((((((mNew).set 1 (.ref q1_)).set 2 (.ref q2_)).set 4 (.ref q3_)).set 10 (.int (-1))).set 11 (.ref q4_)).set 14 (.ref q5_)), .inl (uI G 0, 9476, .inl (fun _ => 0)), .inl (uI G 0, 8645, .inl (fun _ => 0)), .inl (uI G 1, 400, .inl (fun _ => 0)), .inl (uI G 0, 5, .inl (fun _ => 0)), .inl (uI G 0, 7, .inl (fun _ => 0)), .inl (uI G 0, 400, .inl (fun _ => 0))] h0) (fun h q hh hn => hh.push hn) (fun q6_ => ?_)
  refine x_putF O hnm f_X6_33_6 (fun h hh => hh.get 0 rfl rfl) rfl rfl rfl dX6_init_57 (PS [a, q1_, q2_, q3_, q4_, q5_, q6_] [.inr (5, (((((((mNew).set 1 (.ref q1_)).set 2 (.ref q2_)).set 4 (.ref q3_)).set 10 (.int (-1))).set 11 (.ref q4_)).set 14 (.ref q5_)).set 18 (.ref q6_)), .inl (uI G 0, 9476, .inl (fun _ => 0)), .inl (uI G 0, 8645, .inl (fun _ => 0)), .inl (uI G 1, 400, .inl (fun _ => 0)), .inl (uI G 0, 5, .inl (fun _ => 0)), .inl (uI G 0, 7, .inl (fun _ => 0)), .inl (uI G 0, 400, .inl (fun _ => 0))] h0) (fun h hh => hh.put 0 rfl) ?_
  refine x_aload_n O 0 dX6_init_60 rfl rfl ?_
  refine x_bipush O (nI 8) dX6_init_61 (by decide) ?_
  refine x_newa O 0 .int (N := 8) (8, .inl (fun _ => 0)) rfl rfl q405 (fun _ => rfl) (by decide) (by decide) (by decide) (by rw [RC, RS]; decide) dX6_init_63 (fun q => PS [a, q1_, q2_, q3_, q4_, q5_, q6_, q] [.inr (5, (((((((mNew).set 1 (.ref q1_)).set 2 (.ref q2_)).set 4 (.ref q3_)).set 10 (.int (-1))).set 11 (.ref q4_)).set 14 (.ref q5_)).set 18 (.ref q6_)), .inl (uI G 0, 9476, .inl (fun _ => 0)), .inl (uI G 0, 8645, .inl (fun _ => 0)), .inl (uI G 1, 400, .inl (fun _ => 0)), .inl (uI G 0, 5, .inl (fun _ => 0)), .inl (uI G 0, 7, .inl (fun _ => 0)), .inl (uI G 0, 400, .inl (fun _ => 0)), .inl (uI G 0, 8, .inl (fun _ => 0))] h0) (fun h q hh hn => hh.push hn) (fun q7_ => ?_)
  refine x_putF O hnm f_X6_36_6 (fun h hh => hh.get 0 rfl rfl) rfl rfl rfl dX6_init_65 (PS [a, q1_, q2_, q3_, q4_, q5_, q6_, q7_] [.inr (5, ((((((((mNew).set 1 (.ref q1_)).set 2 (.ref q2_)).set 4 (.ref q3_)).set 10 (.int (-1))).set 11 (.ref q4_)).set 14 (.ref q5_)).set 18 (.ref q6_)).set 19 (.ref q7_)), .inl (uI G 0, 9476, .inl (fun _ => 0)), .inl (uI G 0, 8645, .inl (fun _ => 0)), .inl (uI G 1, 400, .inl (fun _ => 0)), .inl (uI G 0, 5, .inl (fun _ => 0)), .inl (uI G 0, 7, .inl (fun _ => 0)), .inl (uI G 0, 400, .inl (fun _ => 0)), .inl (uI G 0, 8, .inl (fun _ => 0))] h0) (fun h hh => hh.put 0 rfl) ?_
  refine x_aload_n O 0 dX6_init_68 rfl rfl ?_
  refine x_sipush O (nI 2048) dX6_init_69 (by decide) ?_
  refine x_newa O 0 .int (N := 2048) (2048, .inl (fun _ => 0)) rfl rfl q405 (fun _ => rfl) (by decide) (by decide) (by decide) (by rw [RC, RS]; decide) dX6_init_72 (fun q => PS [a, q1_, q2_, q3_, q4_, q5_, q6_, q7_, q] [.inr (5, ((((((((mNew).set 1 (.ref q1_)).set 2 (.ref q2_)).set 4 (.ref q3_)).set 10 (.int (-1))).set 11 (.ref q4_)).set 14 (.ref q5_)).set 18 (.ref q6_)).set 19 (.ref q7_)), .inl (uI G 0, 9476, .inl (fun _ => 0)), .inl (uI G 0, 8645, .inl (fun _ => 0)), .inl (uI G 1, 400, .inl (fun _ => 0)), .inl (uI G 0, 5, .inl (fun _ => 0)), .inl (uI G 0, 7, .inl (fun _ => 0)), .inl (uI G 0, 400, .inl (fun _ => 0)), .inl (uI G 0, 8, .inl (fun _ => 0)), .inl (uI G 0, 2048, .inl (fun _ => 0))] h0) (fun h q hh hn => hh.push hn) (fun q8_ => ?_)
  refine x_putF O hnm f_X6_39_6 (fun h hh => hh.get 0 rfl rfl) rfl rfl rfl dX6_init_74 (PS [a, q1_, q2_, q3_, q4_, q5_, q6_, q7_, q8_] [.inr (5, (((((((((mNew).set 1 (.ref q1_)).set 2 (.ref q2_)).set 4 (.ref q3_)).set 10 (.int (-1))).set 11 (.ref q4_)).set 14 (.ref q5_)).set 18 (.ref q6_)).set 19 (.ref q7_)).set 21 (.ref q8_)), .inl (uI G 0, 9476, .inl (fun _ => 0)), .inl (uI G 0, 8645, .inl (fun _ => 0)), .inl (uI G 1, 400, .inl (fun _ => 0)), .inl (uI G 0, 5, .inl (fun _ => 0)), .inl (uI G 0, 7, .inl (fun _ => 0)), .inl (uI G 0, 400, .inl (fun _ => 0)), .inl (uI G 0, 8, .inl (fun _ => 0)), .inl (uI G 0, 2048, .inl (fun _ => 0))] h0) (fun h hh => hh.put 0 rfl) ?_
  refine x_aload_n O 0 dX6_init_77 rfl rfl ?_
  refine x_sipush O (nI 256) dX6_init_78 (by decide) ?_
  refine x_newa O 0 .int (N := 256) (256, .inl (fun _ => 0)) rfl rfl q405 (fun _ => rfl) (by decide) (by decide) (by decide) (by rw [RC, RS]; decide) dX6_init_81 (fun q => PS [a, q1_, q2_, q3_, q4_, q5_, q6_, q7_, q8_, q] [.inr (5, (((((((((mNew).set 1 (.ref q1_)).set 2 (.ref q2_)).set 4 (.ref q3_)).set 10 (.int (-1))).set 11 (.ref q4_)).set 14 (.ref q5_)).set 18 (.ref q6_)).set 19 (.ref q7_)).set 21 (.ref q8_)), .inl (uI G 0, 9476, .inl (fun _ => 0)), .inl (uI G 0, 8645, .inl (fun _ => 0)), .inl (uI G 1, 400, .inl (fun _ => 0)), .inl (uI G 0, 5, .inl (fun _ => 0)), .inl (uI G 0, 7, .inl (fun _ => 0)), .inl (uI G 0, 400, .inl (fun _ => 0)), .inl (uI G 0, 8, .inl (fun _ => 0)), .inl (uI G 0, 2048, .inl (fun _ => 0)), .inl (uI G 0, 256, .inl (fun _ => 0))] h0) (fun h q hh hn => hh.push hn) (fun q9_ => ?_)
  refine x_putF O hnm f_X6_42_6 (fun h hh => hh.get 0 rfl rfl) rfl rfl rfl dX6_init_83 (PS [a, q1_, q2_, q3_, q4_, q5_, q6_, q7_, q8_, q9_] [.inr (5, ((((((((((mNew).set 1 (.ref q1_)).set 2 (.ref q2_)).set 4 (.ref q3_)).set 10 (.int (-1))).set 11 (.ref q4_)).set 14 (.ref q5_)).set 18 (.ref q6_)).set 19 (.ref q7_)).set 21 (.ref q8_)).set 22 (.ref q9_)), .inl (uI G 0, 9476, .inl (fun _ => 0)), .inl (uI G 0, 8645, .inl (fun _ => 0)), .inl (uI G 1, 400, .inl (fun _ => 0)), .inl (uI G 0, 5, .inl (fun _ => 0)), .inl (uI G 0, 7, .inl (fun _ => 0)), .inl (uI G 0, 400, .inl (fun _ => 0)), .inl (uI G 0, 8, .inl (fun _ => 0)), .inl (uI G 0, 2048, .inl (fun _ => 0)), .inl (uI G 0, 256, .inl (fun _ => 0))] h0) (fun h hh => hh.put 0 rfl) ?_
  refine x_aload_n O 0 dX6_init_86 rfl rfl ?_
  refine x_bipush O (nI 16) dX6_init_87 (by decide) ?_
  refine x_newa O 0 .int (N := 16) (16, .inl (fun _ => 0)) rfl rfl q405 (fun _ => rfl) (by decide) (by decide) (by decide) (by rw [RC, RS]; decide) dX6_init_89 (fun q => PS [a, q1_, q2_, q3_, q4_, q5_, q6_, q7_, q8_, q9_, q] [.inr (5, ((((((((((mNew).set 1 (.ref q1_)).set 2 (.ref q2_)).set 4 (.ref q3_)).set 10 (.int (-1))).set 11 (.ref q4_)).set 14 (.ref q5_)).set 18 (.ref q6_)).set 19 (.ref q7_)).set 21 (.ref q8_)).set 22 (.ref q9_)), .inl (uI G 0, 9476, .inl (fun _ => 0)), .inl (uI G 0, 8645, .inl (fun _ => 0)), .inl (uI G 1, 400, .inl (fun _ => 0)), .inl (uI G 0, 5, .inl (fun _ => 0)), .inl (uI G 0, 7, .inl (fun _ => 0)), .inl (uI G 0, 400, .inl (fun _ => 0)), .inl (uI G 0, 8, .inl (fun _ => 0)), .inl (uI G 0, 2048, .inl (fun _ => 0)), .inl (uI G 0, 256, .inl (fun _ => 0)), .inl (uI G 0, 16, .inl (fun _ => 0))] h0) (fun h q hh hn => hh.push hn) (fun q10_ => ?_)
  refine x_putF O hnm f_X6_45_6 (fun h hh => hh.get 0 rfl rfl) rfl rfl rfl dX6_init_91 (PS [a, q1_, q2_, q3_, q4_, q5_, q6_, q7_, q8_, q9_, q10_] [.inr (5, (((((((((((mNew).set 1 (.ref q1_)).set 2 (.ref q2_)).set 4 (.ref q3_)).set 10 (.int (-1))).set 11 (.ref q4_)).set 14 (.ref q5_)).set 18 (.ref q6_)).set 19 (.ref q7_)).set 21 (.ref q8_)).set 22 (.ref q9_)).set 23 (.ref q10_)), .inl (uI G 0, 9476, .inl (fun _ => 0)), .inl (uI G 0, 8645, .inl (fun _ => 0)), .inl (uI G 1, 400, .inl (fun _ => 0)), .inl (uI G 0, 5, .inl (fun _ => 0)), .inl (uI G 0, 7, .inl (fun _ => 0)), .inl (uI G 0, 400, .inl (fun _ => 0)), .inl (uI G 0, 8, .inl (fun _ => 0)), .inl (uI G 0, 2048, .inl (fun _ => 0)), .inl (uI G 0, 256, .inl (fun _ => 0)), .inl (uI G 0, 16, .inl (fun _ => 0))] h0) (fun h hh => hh.put 0 rfl) ?_
  refine x_aload_n O 0 dX6_init_94 rfl rfl ?_
  refine x_bipush O (nI 8) dX6_init_95 (by decide) ?_
  refine x_newa O 0 .int (N := 8) (8, .inl (fun _ => 0)) rfl rfl q405 (fun _ => rfl) (by decide) (by decide) (by decide) (by rw [RC, RS]; decide) dX6_init_97 (fun q => PS [a, q1_, q2_, q3_, q4_, q5_, q6_, q7_, q8_, q9_, q10_, q] [.inr (5, (((((((((((mNew).set 1 (.ref q1_)).set 2 (.ref q2_)).set 4 (.ref q3_)).set 10 (.int (-1))).set 11 (.ref q4_)).set 14 (.ref q5_)).set 18 (.ref q6_)).set 19 (.ref q7_)).set 21 (.ref q8_)).set 22 (.ref q9_)).set 23 (.ref q10_)), .inl (uI G 0, 9476, .inl (fun _ => 0)), .inl (uI G 0, 8645, .inl (fun _ => 0)), .inl (uI G 1, 400, .inl (fun _ => 0)), .inl (uI G 0, 5, .inl (fun _ => 0)), .inl (uI G 0, 7, .inl (fun _ => 0)), .inl (uI G 0, 400, .inl (fun _ => 0)), .inl (uI G 0, 8, .inl (fun _ => 0)), .inl (uI G 0, 2048, .inl (fun _ => 0)), .inl (uI G 0, 256, .inl (fun _ => 0)), .inl (uI G 0, 16, .inl (fun _ => 0)), .inl (uI G 0, 8, .inl (fun _ => 0))] h0) (fun h q hh hn => hh.push hn) (fun q11_ => ?_)
  refine x_putF O hnm f_X6_48_6 (fun h hh => hh.get 0 rfl rfl) rfl rfl rfl dX6_init_99 (PS [a, q1_, q2_, q3_, q4_, q5_, q6_, q7_, q8_, q9_, q10_, q11_] [.inr (5, ((((((((((((mNew).set 1 (.ref q1_)).set 2 (.ref q2_)).set 4 (.ref q3_)).set 10 (.int (-1))).set 11 (.ref q4_)).set 14 (.ref q5_)).set 18 (.ref q6_)).set 19 (.ref q7_)).set 21 (.ref q8_)).set 22 (.ref q9_)).set 23 (.ref q10_)).set 25 (.ref q11_)), .inl (uI G 0, 9476, .inl (fun _ => 0)), .inl (uI G 0, 8645, .inl (fun _ => 0)), .inl (uI G 1, 400, .inl (fun _ => 0)), .inl (uI G 0, 5, .inl (fun _ => 0)), .inl (uI G 0, 7, .inl (fun _ => 0)), .inl (uI G 0, 400, .inl (fun _ => 0)), .inl (uI G 0, 8, .inl (fun _ => 0)), .inl (uI G 0, 2048, .inl (fun _ => 0)), .inl (uI G 0, 256, .inl (fun _ => 0)), .inl (uI G 0, 16, .inl (fun _ => 0)), .inl (uI G 0, 8, .inl (fun _ => 0))] h0) (fun h hh => hh.put 0 rfl) ?_
  refine x_aload_n O 0 dX6_init_102 rfl rfl ?_
  refine x_sipush O (nI 256) dX6_init_103 (by decide) ?_
  refine x_newa O 2 .boolean (N := 256) (256, .inl (fun _ => 0)) rfl rfl q1755 (fun _ => rfl) (by decide) (by decide) (by decide) (by rw [RC, RS]; decide) dX6_init_106 (fun q => PS [a, q1_, q2_, q3_, q4_, q5_, q6_, q7_, q8_, q9_, q10_, q11_, q] [.inr (5, ((((((((((((mNew).set 1 (.ref q1_)).set 2 (.ref q2_)).set 4 (.ref q3_)).set 10 (.int (-1))).set 11 (.ref q4_)).set 14 (.ref q5_)).set 18 (.ref q6_)).set 19 (.ref q7_)).set 21 (.ref q8_)).set 22 (.ref q9_)).set 23 (.ref q10_)).set 25 (.ref q11_)), .inl (uI G 0, 9476, .inl (fun _ => 0)), .inl (uI G 0, 8645, .inl (fun _ => 0)), .inl (uI G 1, 400, .inl (fun _ => 0)), .inl (uI G 0, 5, .inl (fun _ => 0)), .inl (uI G 0, 7, .inl (fun _ => 0)), .inl (uI G 0, 400, .inl (fun _ => 0)), .inl (uI G 0, 8, .inl (fun _ => 0)), .inl (uI G 0, 2048, .inl (fun _ => 0)), .inl (uI G 0, 256, .inl (fun _ => 0)), .inl (uI G 0, 16, .inl (fun _ => 0)), .inl (uI G 0, 8, .inl (fun _ => 0)), .inl (uI G 2, 256, .inl (fun _ => 0))] h0) (fun h q hh hn => hh.push hn) (fun q12_ => ?_)
  refine x_putF O hnm f_X6_51_6 (fun h hh => hh.get 0 rfl rfl) rfl rfl rfl dX6_init_108 (PS [a, q1_, q2_, q3_, q4_, q5_, q6_, q7_, q8_, q9_, q10_, q11_, q12_] [.inr (5, (((((((((((((mNew).set 1 (.ref q1_)).set 2 (.ref q2_)).set 4 (.ref q3_)).set 10 (.int (-1))).set 11 (.ref q4_)).set 14 (.ref q5_)).set 18 (.ref q6_)).set 19 (.ref q7_)).set 21 (.ref q8_)).set 22 (.ref q9_)).set 23 (.ref q10_)).set 25 (.ref q11_)).set 27 (.ref q12_)), .inl (uI G 0, 9476, .inl (fun _ => 0)), .inl (uI G 0, 8645, .inl (fun _ => 0)), .inl (uI G 1, 400, .inl (fun _ => 0)), .inl (uI G 0, 5, .inl (fun _ => 0)), .inl (uI G 0, 7, .inl (fun _ => 0)), .inl (uI G 0, 400, .inl (fun _ => 0)), .inl (uI G 0, 8, .inl (fun _ => 0)), .inl (uI G 0, 2048, .inl (fun _ => 0)), .inl (uI G 0, 256, .inl (fun _ => 0)), .inl (uI G 0, 16, .inl (fun _ => 0)), .inl (uI G 0, 8, .inl (fun _ => 0)), .inl (uI G 2, 256, .inl (fun _ => 0))] h0) (fun h hh => hh.put 0 rfl) ?_
  refine x_aload_n O 0 dX6_init_111 rfl rfl ?_
  refine x_get O k_X6_13_6 (fun h hh => hh.get 0 rfl rfl) (v := .ref q1_) rfl dX6_init_112 ?_
  refine x_bipush O (nI 8) dX6_init_115 (by decide) ?_
  refine x_sipush O (nI 1876) dX6_init_117 (by decide) ?_
  refine x_iast O (fun h hh => hh.get 1 rfl rfl) (vp_in_nI (by decide) (by decide)) dX6_init_120 (PS [a, q1_, q2_, q3_, q4_, q5_, q6_, q7_, q8_, q9_, q10_, q11_, q12_] [.inr (5, (((((((((((((mNew).set 1 (.ref q1_)).set 2 (.ref q2_)).set 4 (.ref q3_)).set 10 (.int (-1))).set 11 (.ref q4_)).set 14 (.ref q5_)).set 18 (.ref q6_)).set 19 (.ref q7_)).set 21 (.ref q8_)).set 22 (.ref q9_)).set 23 (.ref q10_)).set 25 (.ref q11_)).set 27 (.ref q12_)), .inl (uI G 0, 9476, .inl (upd (fun _ => 0) 8 (nI 1876))), .inl (uI G 0, 8645, .inl (fun _ => 0)), .inl (uI G 1, 400, .inl (fun _ => 0)), .inl (uI G 0, 5, .inl (fun _ => 0)), .inl (uI G 0, 7, .inl (fun _ => 0)), .inl (uI G 0, 400, .inl (fun _ => 0)), .inl (uI G 0, 8, .inl (fun _ => 0)), .inl (uI G 0, 2048, .inl (fun _ => 0)), .inl (uI G 0, 256, .inl (fun _ => 0)), .inl (uI G 0, 16, .inl (fun _ => 0)), .inl (uI G 0, 8, .inl (fun _ => 0)), .inl (uI G 2, 256, .inl (fun _ => 0))] h0) (fun h hh => hh.put 1 rfl) ?_
  refine x_aload_n O 0 dX6_init_121 rfl rfl ?_
  refine x_get O k_X6_13_6 (fun h hh => hh.get 0 rfl rfl) (v := .ref q1_) rfl dX6_init_122 ?_
  refine x_bipush O (nI 10) dX6_init_125 (by decide) ?_
  refine x_bipush O (nI 9) dX6_init_127 (by decide) ?_
  refine x_iast O (fun h hh => hh.get 1 rfl rfl) (vp_in_nI (by decide) (by decide)) dX6_init_129 (PS [a, q1_, q2_, q3_, q4_, q5_, q6_, q7_, q8_, q9_, q10_, q11_, q12_] [.inr (5, (((((((((((((mNew).set 1 (.ref q1_)).set 2 (.ref q2_)).set 4 (.ref q3_)).set 10 (.int (-1))).set 11 (.ref q4_)).set 14 (.ref q5_)).set 18 (.ref q6_)).set 19 (.ref q7_)).set 21 (.ref q8_)).set 22 (.ref q9_)).set 23 (.ref q10_)).set 25 (.ref q11_)).set 27 (.ref q12_)), .inl (uI G 0, 9476, .inl (upd (upd (fun _ => 0) 8 (nI 1876)) 10 (nI 9))), .inl (uI G 0, 8645, .inl (fun _ => 0)), .inl (uI G 1, 400, .inl (fun _ => 0)), .inl (uI G 0, 5, .inl (fun _ => 0)), .inl (uI G 0, 7, .inl (fun _ => 0)), .inl (uI G 0, 400, .inl (fun _ => 0)), .inl (uI G 0, 8, .inl (fun _ => 0)), .inl (uI G 0, 2048, .inl (fun _ => 0)), .inl (uI G 0, 256, .inl (fun _ => 0)), .inl (uI G 0, 16, .inl (fun _ => 0)), .inl (uI G 0, 8, .inl (fun _ => 0)), .inl (uI G 2, 256, .inl (fun _ => 0))] h0) (fun h hh => hh.put 1 rfl) ?_
  refine x_vretQ O hQ rfl dX6_init_130 (fun h hh => ⟨rfl, ?_⟩)
  refine ⟨fun c => ([a, q1_, q2_, q3_, q4_, q5_, q6_, q7_, q8_, q9_, q10_, q11_, q12_] : List Nat).getD c 0, rfl, ?_⟩
  obtain ⟨m1, m2, m3, m4⟩ := hh
  have hg : ∀ c, c < 13 → ([a, q1_, q2_, q3_, q4_, q5_, q6_, q7_, q8_, q9_, q10_, q11_, q12_] : List Nat)[c]? = some (([a, q1_, q2_, q3_, q4_, q5_, q6_, q7_, q8_, q9_, q10_, q11_, q12_] : List Nat).getD c 0) := by
    intro c hc
    have hc' : c < ([a, q1_, q2_, q3_, q4_, q5_, q6_, q7_, q8_, q9_, q10_, q11_, q12_] : List Nat).length := hc
    rw [List.getD_eq_getElem?_getD, List.getElem?_eq_getElem hc']; rfl
  refine ⟨fun i j hi hj e => m2 i j _ (hg i hi) ((hg j hj).trans (congrArg some e.symm)), fun c hc => m3 c _ _ (hg c hc) ?_, fun b hb => m4 b (fun z => ?_)⟩
  · match c, hc with
    | 0, _ => rfl
    | 1, _ => rfl
    | 2, _ => rfl
    | 3, _ => rfl
    | 4, _ => rfl
    | 5, _ => rfl
    | 6, _ => rfl
    | 7, _ => rfl
    | 8, _ => rfl
    | 9, _ => rfl
    | 10, _ => rfl
    | 11, _ => rfl
    | 12, _ => rfl
    | n + 13, h => exact absurd h (by omega)
  · obtain ⟨i, hi, e⟩ := List.getElem_of_mem z
    have h13 : i < 13 := hi
    refine hb i h13 ?_
    show b = ([a, q1_, q2_, q3_, q4_, q5_, q6_, q7_, q8_, q9_, q10_, q11_, q12_] : List Nat).getD i 0
    rw [List.getD_eq_getElem?_getD, List.getElem?_eq_getElem hi, e]; rfl
