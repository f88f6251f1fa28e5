/-! calls whose named method is abstract, or inherited; answers known -/
section UO
variable {G : UG} {F : UF} {R : Room} {Q : State → Prop} {nL pc k n : Nat} {L L' : List (Nat × Value)} {st rest : List Value} {Ω Ω' : Hp → Prop} {cc : ByteArray} {own : String} {ret : Option FieldType}
theorem x_kn {rv : Option Value} (kk : X G F R Q nL pc L (rv.toList ++ rest) Ω' k n) : ∀ v : Option Value, X G F R Q nL pc L (v.toList ++ rest) (fun h => v = rv ∧ Ω' h) k n := by
  intro v h H locs ls hΩ hR hS hl
  obtain ⟨rfl, h2⟩ := hΩ
  exact kk h H locs ls h2 hR hS hl
/-- the named method is abstract -/
theorem x_abs (O : Ok G F own cc nL ret) {index ci b fr lo mc ms maxL : Nat} {owner : String} {x y : MethodName} {bytes : ByteArray} {ret1 : Option FieldType} {As : List Value} {r : vw_C} {P : Option Value → Hp → Prop} (na : Nat)
    (con : Con G y bytes maxL ret1 fr lo mc ms (.ref b :: As) Ω P nX) (ha : ∀ h, Ω h → ∃ fs : List Value, h b = some (.inr (ci, fs))) (hc : uCl[ci]? = some r) (hz : Cond.declares ⟨owner, x.name, x.desc⟩ ∈ lw_tbl) (h1 : Cond.methodLink own index x ∈ lw_all) (h1a : Cond.sameMethod x.cls owner x.name x.desc ∈ lw_all) (h2 : Cond.selects r.1 x y ∈ lw_all) (h3 : Cond.instanceMethod y ∈ lw_all) (h4 : Cond.initialized y.cls ∈ lw_all) (h5 : Cond.code y bytes maxL ret1 ∈ lw_all)
    (hd : owner ≠ "java/lang/invoke/MethodHandle" ∧ owner ≠ "java/lang/invoke/VarHandle" ∧ (parseMethodDescriptor x.desc).map (fun d => d.parameters.length) = some na) (hn : As.length = na) (hR0 : Nat.ble (fr + 1) R.frames = true) (hR1 : Nat.ble (8 + (maxL + 11) + lo) R.locals = true) (hcs : k + mc ≤ R.cells ∧ n + ms ≤ R.slots) (hst : st = As.reverse ++ .ref b :: rest) (hrm : Nat.ble (rest.map fun v => v.category).sum 8 = true) (d : decode cc pc = .ok (.invokevirtual index, 3))
    (kk : ∀ v : Option Value, X G F R Q nL (pc + 3) L (v.toList ++ rest) (P v) (k + mc) (n + ms)) : X G F R Q nL pc L st Ω k n := by
  refine x_ran (P := P) (mc := mc) (ms := ms) (rest := rest) ?_ kk
  intro h H locs ls hΩ hR hS hl
  obtain ⟨fs, hfs⟩ := ha h hΩ
  have hG : GoodIn lw_all (va_wsU own index r.1 owner x y (ws_ y bytes maxL ret1)) := by
    refine lw_app ?_ (lw_meth h5)
    intro w hw
    simp only [List.mem_cons, List.not_mem_nil, or_false] at hw
    rcases hw with e | e | e | e | e
    · rw [e]; exact h1
    · rw [e]; exact h1a
    · rw [e]; exact h2
    · rw [e]; exact h3
    · rw [e]; exact h4
  refine ⟨(Value.ref b :: As).toArray, va_runU (As := As) (rest := rest) (b := b) (C := r.1) O.fix (vx_met con uXC_no) (va_cwA (owner := owner) na O.ts hG rfl rfl rfl (O.pre.1.2.2.2.2.2.1 _ hz) hd ⟨Nat.le_of_ble_eq_true hR0, Nat.le_of_ble_eq_true hR1⟩) ⟨Pre.blind, Rep.recv O hR hfs hc, O.at hΩ hR hS⟩ rfl hn hl.1 hst ?_ d hcs⟩
  show 2 * 0 + _ ≤ 8
  rw [Nat.mul_zero, Nat.zero_add]
  exact Nat.le_of_ble_eq_true hrm
/-- the named method is a parent's, and it is the one that runs -/
theorem x_inh (O : Ok G F own cc nL ret) {index ci b fr lo mc ms maxL : Nat} {owner : String} {x y : MethodName} {bytes : ByteArray} {ret1 : Option FieldType} {As : List Value} {r : vw_C} {P : Option Value → Hp → Prop} (na : Nat)
    (con : Con G y bytes maxL ret1 fr lo mc ms (.ref b :: As) Ω P nX) (ha : ∀ h, Ω h → ∃ fs : List Value, h b = some (.inr (ci, fs))) (hc : uCl[ci]? = some r) (hyx : y = ⟨owner, x.name, x.desc⟩) (h1 : Cond.methodLink own index x ∈ lw_all) (h1a : Cond.sameMethod x.cls owner x.name x.desc ∈ lw_all) (h2 : Cond.selects r.1 x y ∈ lw_all) (h3 : Cond.instanceMethod y ∈ lw_all) (h4 : Cond.initialized y.cls ∈ lw_all) (h5 : Cond.code y bytes maxL ret1 ∈ lw_all)
    (hd : owner ≠ "java/lang/invoke/MethodHandle" ∧ owner ≠ "java/lang/invoke/VarHandle" ∧ (parseMethodDescriptor x.desc).map (fun d => d.parameters.length) = some na) (hn : As.length = na) (hR0 : Nat.ble (fr + 1) R.frames = true) (hR1 : Nat.ble (8 + (maxL + 11) + lo) R.locals = true) (hcs : k + mc ≤ R.cells ∧ n + ms ≤ R.slots) (hst : st = As.reverse ++ .ref b :: rest) (hrm : Nat.ble (rest.map fun v => v.category).sum 8 = true) (d : decode cc pc = .ok (.invokevirtual index, 3))
    (kk : ∀ v : Option Value, X G F R Q nL (pc + 3) L (v.toList ++ rest) (P v) (k + mc) (n + ms)) : X G F R Q nL pc L st Ω k n := by
  refine x_ran (P := P) (mc := mc) (ms := ms) (rest := rest) ?_ kk
  intro h H locs ls hΩ hR hS hl
  obtain ⟨fs, hfs⟩ := ha h hΩ
  have hG : GoodIn lw_all (va_wsU own index r.1 owner x y (ws_ y bytes maxL ret1)) := by
    refine lw_app ?_ (lw_meth h5)
    intro w hw
    simp only [List.mem_cons, List.not_mem_nil, or_false] at hw
    rcases hw with e | e | e | e | e
    · rw [e]; exact h1
    · rw [e]; exact h1a
    · rw [e]; exact h2
    · rw [e]; exact h3
    · rw [e]; exact h4
  refine ⟨(Value.ref b :: As).toArray, va_runU (As := As) (rest := rest) (b := b) (C := r.1) O.fix (vx_met con uXC_no) (va_cwU (owner := owner) na O.ts hG rfl rfl rfl hyx hd ⟨Nat.le_of_ble_eq_true hR0, Nat.le_of_ble_eq_true hR1⟩) ⟨Pre.blind, Rep.recv O hR hfs hc, O.at hΩ hR hS⟩ rfl hn hl.1 hst ?_ d hcs⟩
  show 2 * 0 + _ ≤ 8
  rw [Nat.mul_zero, Nat.zero_add]
  exact Nat.le_of_ble_eq_true hrm
/-- a nest mate's static, its answer known -/
theorem x_cSN (O : Ok G F own cc nL ret) {host : String} {index fr lo maxL : Nat} {y : MethodName} {bytes : ByteArray} {ret1 : Option FieldType} {As : List Value} {rv : Option Value} (na : Nat)
    (con : Con G y bytes maxL ret1 fr lo 0 0 As Ω (fun v h' => v = rv ∧ Ω' h') nX) (h1 : Cond.methodLinkNest own index y host ∈ lw_tbl) (h2 : Cond.static y ∈ lw_all) (h3 : Cond.initialized y.cls ∈ lw_all) (h4 : Cond.code y bytes maxL ret1 ∈ lw_all) (hd : HD y na) (hn : As.length = na) (hR0 : Nat.ble (fr + 1) R.frames = true) (hR1 : Nat.ble (8 + (maxL + 11) + lo) R.locals = true) (hcs : k ≤ R.cells ∧ n ≤ R.slots)
    (hst : st = As.reverse ++ rest) (hrm : Nat.ble (rest.map fun v => v.category).sum 8 = true) (d : decode cc pc = .ok (.invokestatic index, 3)) (kk : X G F R Q nL (pc + 3) L (rv.toList ++ rest) Ω' k n) : X G F R Q nL pc L st Ω k n := by
  refine x_run (r_SN O na con h1 h2 h3 h4 hd hn hR0 hR1 hcs hst hrm d) (fun v => ?_) (fun E q => ?_)
  · rintro h H locs ls ⟨rfl, hΩ⟩ hR hS hl
    exact kk h H locs ls hΩ hR hS hl
  · intro h H locs ls ce hΩ
    exact hΩ.elim
end UO
