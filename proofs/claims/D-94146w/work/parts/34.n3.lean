/-! calls that pick the method by the object's class (an interface's, a parent's), and a parent's method by name: for callees that don't throw -/
theorem vx_met {l : Launch} {y : MethodName} {ws : List Cond} {rm : Room} {Pc : Array Value → State → Prop} {Qc : Array Value → State → Outcome → State → Prop} {XC : String → Nat → State → State → Prop} {mc ms : Nat} {free : Addr → Prop}
    (h : vx_Met l y ws rm Pc Qc XC mc ms free) (hx : ∀ E q st t, ¬ XC E q st t) : Met l y ws rm Pc Qc mc ms free := by
  intro p e ha hc hk s m args below hf happ hP hK
  obtain ⟨n, o, h1, h2, h3, h4⟩ := h p e ha hc hk s m args below hf happ hP hK
  refine ⟨n, o, h1, h2, h3, ?_⟩
  rcases h4 with h4 | ⟨q, -, E, ce, L, hX, -⟩
  · exact h4
  · exact (hx _ _ _ _ hX).elim
theorem uXC_no {G : UG} : ∀ E q st t, ¬ uXC G nX E q st t := fun _ _ _ _ ⟨_, h, _⟩ => h
section UM
variable {G : UG} {F : UF} {R : Room} {Q : State → Prop} {nL pc k n : Nat} {L L' : List (Nat × Value)} {st rest : List Value} {Ω : Hp → Prop} {cc : ByteArray} {own : String} {ret : Option FieldType}
theorem x_ran {mc ms : Nat} {P : Option Value → Hp → Prop} (hr : ∀ (h : Hp) (H : Heap) (locs : List Loc) (ls : Array Slot), Ω h → Rep G h H → va_S (uA G) (fS F).heap H locs → lv_has ls nL L → ∃ a : Array Value, va_Run (fP F) (uL G) (fE F) R (fS F) (fM F) (fA F) (fBl F) (fMe F) (fC F) H locs k n mc ms (F0 (fM F) pc ls st) rest (uQc G P a) (uA G))
    (kk : ∀ v : Option Value, X G F R Q nL (pc + 3) L (v.toList ++ rest) (P v) (k + mc) (n + ms)) : X G F R Q nL pc L st Ω k n := by
  intro h H locs ls hΩ hR hS hl T hT XX
  obtain ⟨a, hrun⟩ := hr h H locs ls hΩ hR hS hl
  obtain ⟨v, st₀, t, T', L1, h0, X', hL, e1, e2, ⟨v', h', hv, hp, hR', hF⟩, stp⟩ := hrun T hT XX
  cases hv
  obtain ⟨-, -, k3⟩ := vx_keep h0 e1 hS (fun _ _ z => z) (fun _ z => z) hL hF
  obtain ⟨t2, a1, b1⟩ := kk v h' T'.heap (locs ++ L1) ls hp (by rw [e1]; exact hR') k3 hl T' rfl X'
  exact ⟨t2, stp t2 a1, b1⟩
theorem x_ran5 {mc ms : Nat} {P : Option Value → Hp → Prop} (hr : ∀ (h : Hp) (H : Heap) (locs : List Loc) (ls : Array Slot), Ω h → Rep G h H → va_S (uA G) (fS F).heap H locs → lv_has ls nL L → ∃ a : Array Value, va_Run5 (fP F) (uL G) (fE F) R (fS F) (fM F) (fA F) (fBl F) (fMe F) (fC F) H locs k n mc ms (F0 (fM F) pc ls st) rest (uQc G P a) (uA G))
    (kk : ∀ v : Option Value, X G F R Q nL (pc + 5) L (v.toList ++ rest) (P v) (k + mc) (n + ms)) : X G F R Q nL pc L st Ω k n := by
  intro h H locs ls hΩ hR hS hl T hT XX
  obtain ⟨a, hrun⟩ := hr h H locs ls hΩ hR hS hl
  obtain ⟨v, st₀, t, T', L1, h0, X', hL, e1, e2, ⟨v', h', hv, hp, hR', hF⟩, stp⟩ := hrun T hT XX
  cases hv
  obtain ⟨-, -, k3⟩ := vx_keep h0 e1 hS (fun _ _ z => z) (fun _ z => z) hL hF
  obtain ⟨t2, a1, b1⟩ := kk v h' T'.heap (locs ++ L1) ls hp (by rw [e1]; exact hR') k3 hl T' rfl X'
  exact ⟨t2, stp t2 a1, b1⟩
/-- a call through an interface, of an object of class r.1 -/
theorem x_face (O : Ok G F own cc nL ret) {index count ci b fr lo mc ms maxL : Nat} {x y : MethodName} {bytes : ByteArray} {ret1 : Option FieldType} {As : List Value} {r : vw_C} {P : Option Value → Hp → Prop} (na : Nat)
    (con : Con G y bytes maxL ret1 fr lo mc ms (.ref b :: As) Ω P nX) (ha : ∀ h, Ω h → ∃ fs : List Value, h b = some (.inr (ci, fs))) (hc : uCl[ci]? = some r) (hf : (r.1, x, y) ∈ uFw) (h1 : Cond.methodLink own index x ∈ lw_all) (h2 : Cond.selects r.1 x y ∈ lw_all) (h3 : Cond.instanceMethod y ∈ lw_all) (h4 : Cond.initialized y.cls ∈ lw_all) (h5 : Cond.code y bytes maxL ret1 ∈ lw_all)
    (hd : HD x na) (hn : As.length = na) (hR0 : Nat.ble (fr + 1) R.frames = true) (hR1 : Nat.ble (8 + (maxL + 11) + lo) R.locals = true) (hcs : k + mc ≤ R.cells ∧ n + ms ≤ R.slots) (hst : st = As.reverse ++ .ref b :: rest) (hrm : Nat.ble (rest.map fun v => v.category).sum 8 = true) (d : decode cc pc = .ok (.invokeinterface index count, 5))
    (kk : ∀ v : Option Value, X G F R Q nL (pc + 5) L (v.toList ++ rest) (P v) (k + mc) (n + ms)) : X G F R Q nL pc L st Ω k n := by
  refine x_ran5 (P := P) (mc := mc) (ms := ms) (rest := rest) ?_ kk
  intro h H locs ls hΩ hR hS hl
  obtain ⟨fs, hfs⟩ := ha h hΩ
  have hG : GoodIn lw_all (va_wsF own index r.1 x y (ws_ y bytes maxL ret1)) := by
    refine lw_app ?_ (lw_meth h5)
    intro w hw
    simp only [List.mem_cons, List.not_mem_nil, or_false] at hw
    rcases hw with e | e | e | e
    · rw [e]; exact h1
    · rw [e]; exact h2
    · rw [e]; exact h3
    · rw [e]; exact h4
  refine ⟨(Value.ref b :: As).toArray, va_runF (As := As) (rest := rest) (b := b) (C := r.1) (O.K.1 ci r hc).2 O.fix (vx_met con uXC_no) (va_cwF na O.ts hG rfl rfl rfl (O.pre.1.2.2.2.2.2.2.2.1 _ hf) hd ⟨Nat.le_of_ble_eq_true hR0, Nat.le_of_ble_eq_true hR1⟩) ⟨Pre.blind, Rep.recv O hR hfs hc, O.at hΩ hR hS⟩ rfl hn hl.1 hst ?_ d hcs⟩
  show 2 * 0 + _ ≤ 8
  rw [Nat.mul_zero, Nat.zero_add]
  exact Nat.le_of_ble_eq_true hrm
/-- a call of a method that a child's class overrides or inherits: the reference names x (declared by owner), the object's class picks y -/
theorem x_over (O : Ok G F own cc nL ret) {index ci b fr lo mc ms maxL : Nat} {owner : String} {x y : MethodName} {bytes : ByteArray} {ret1 : Option FieldType} {As : List Value} {r : vw_C} {P : Option Value → Hp → Prop} (na : Nat)
    (con : Con G y bytes maxL ret1 fr lo mc ms (.ref b :: As) Ω P nX) (ha : ∀ h, Ω h → ∃ fs : List Value, h b = some (.inr (ci, fs))) (hc : uCl[ci]? = some r) {b0 : ByteArray} {m0 : Nat} {r0 : Option FieldType} (h0 : Cond.code ⟨owner, x.name, x.desc⟩ b0 m0 r0 ∈ lw_all) (h1 : Cond.methodLink own index x ∈ lw_all) (h1a : Cond.sameMethod x.cls owner x.name x.desc ∈ lw_all) (h1b : Cond.instanceMethod ⟨owner, x.name, x.desc⟩ ∈ lw_all) (h2 : Cond.selects r.1 x y ∈ lw_all) (h3 : Cond.instanceMethod y ∈ lw_all) (h4 : Cond.initialized y.cls ∈ lw_all) (h5 : Cond.code y bytes maxL ret1 ∈ lw_all)
    (hd : owner ≠ "java/lang/invoke/MethodHandle" ∧ owner ≠ "java/lang/invoke/VarHandle" ∧ (parseMethodDescriptor x.desc).map (fun d => d.parameters.length) = some na) (hn : As.length = na) (hR0 : Nat.ble (fr + 1) R.frames = true) (hR1 : Nat.ble (8 + (maxL + 11) + lo) R.locals = true) (hcs : k + mc ≤ R.cells ∧ n + ms ≤ R.slots) (hst : st = As.reverse ++ .ref b :: rest) (hrm : Nat.ble (rest.map fun v => v.category).sum 8 = true) (d : decode cc pc = .ok (.invokevirtual index, 3))
    (kk : ∀ v : Option Value, X G F R Q nL (pc + 3) L (v.toList ++ rest) (P v) (k + mc) (n + ms)) : X G F R Q nL pc L st Ω k n := by
  refine x_ran (P := P) (mc := mc) (ms := ms) (rest := rest) ?_ kk
  intro h H locs ls hΩ hR hS hl
  obtain ⟨fs, hfs⟩ := ha h hΩ
  have hG : GoodIn lw_all (va_wsO own index r.1 owner x y (ws_ y bytes maxL ret1)) := by
    refine lw_app ?_ (lw_meth h5)
    intro w hw
    simp only [List.mem_cons, List.not_mem_nil, or_false] at hw
    rcases hw with e | e | e | e | e | e
    · rw [e]; exact h1
    · rw [e]; exact h1a
    · rw [e]; exact h1b
    · rw [e]; exact h2
    · rw [e]; exact h3
    · rw [e]; exact h4
  refine ⟨(Value.ref b :: As).toArray, va_runU (As := As) (rest := rest) (b := b) (C := r.1) O.fix (vx_met con uXC_no) (va_cwO (owner := owner) na O.ts hG rfl rfl rfl h0 hd ⟨Nat.le_of_ble_eq_true hR0, Nat.le_of_ble_eq_true hR1⟩) ⟨Pre.blind, Rep.recv O hR hfs hc, O.at hΩ hR hS⟩ rfl hn hl.1 hst ?_ d hcs⟩
  show 2 * 0 + _ ≤ 8
  rw [Nat.mul_zero, Nat.zero_add]
  exact Nat.le_of_ble_eq_true hrm
/-- 'super.method(..)' -/
theorem x_super (O : Ok G F own cc nL ret) {index ci b fr lo mc ms maxL : Nat} {y : MethodName} {bytes : ByteArray} {ret1 : Option FieldType} {As : List Value} {r : vw_C} {P : Option Value → Hp → Prop} (na : Nat)
    (con : Con G y bytes maxL ret1 fr lo mc ms (.ref b :: As) Ω P nX) (ha : ∀ h, Ω h → ∃ fs : List Value, h b = some (.inr (ci, fs))) (hc : uCl[ci]? = some r) (h1 : Cond.methodLink own index y ∈ lw_all) (h2 : Cond.sameMethod y.cls y.cls y.name y.desc ∈ lw_all) (h2a : Cond.superclass own y.cls ∈ lw_all) (h3 : Cond.instanceMethod y ∈ lw_all) (h4 : Cond.initialized y.cls ∈ lw_all) (h5 : Cond.code y bytes maxL ret1 ∈ lw_all)
    (hd : y.name ≠ "<init>" ∧ (parseMethodDescriptor y.desc).map (fun d => d.parameters.length) = some na) (hn : As.length = na) (hR0 : Nat.ble (fr + 1) R.frames = true) (hR1 : Nat.ble (8 + (maxL + 11) + lo) R.locals = true) (hcs : k + mc ≤ R.cells ∧ n + ms ≤ R.slots) (hst : st = As.reverse ++ .ref b :: rest) (hrm : Nat.ble (rest.map fun v => v.category).sum 8 = true) (d : decode cc pc = .ok (.invokespecial index, 3))
    (kk : ∀ v : Option Value, X G F R Q nL (pc + 3) L (v.toList ++ rest) (P v) (k + mc) (n + ms)) : X G F R Q nL pc L st Ω k n := by
  refine x_ran (P := P) (mc := mc) (ms := ms) (rest := rest) ?_ kk
  intro h H locs ls hΩ hR hS hl
  obtain ⟨fs, hfs⟩ := ha h hΩ
  have hG : GoodIn lw_all (va_wsSU own index y (ws_ y bytes maxL ret1)) := by
    refine lw_app ?_ (lw_meth h5)
    intro w hw
    simp only [List.mem_cons, List.not_mem_nil, or_false] at hw
    rcases hw with e | e | e | e | e
    · rw [e]; exact h1
    · rw [e]; exact h2
    · rw [e]; exact h2a
    · rw [e]; exact h3
    · rw [e]; exact h4
  refine ⟨(Value.ref b :: As).toArray, va_runSU (As := As) (rest := rest) (b := b) (C := r.1) (O.K.1 ci r hc).2 O.fix (vx_met con uXC_no) (va_cwSU na O.ts hG rfl rfl rfl hd ⟨Nat.le_of_ble_eq_true hR0, Nat.le_of_ble_eq_true hR1⟩) ⟨Pre.blind, Rep.recv O hR hfs hc, O.at hΩ hR hS⟩ rfl hn hl.1 hst ?_ d hcs⟩
  show 2 * 0 + _ ≤ 8
  rw [Nat.mul_zero, Nat.zero_add]
  exact Nat.le_of_ble_eq_true hrm
end UM
