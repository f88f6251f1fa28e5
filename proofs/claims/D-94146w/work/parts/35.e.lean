/-! the heap fixed for a while; rows whose contents are known to exist; arrays of references, copied -/
section UE
variable {G : UG} {F : UF} {R : Room} {Q : State → Prop} {nL pc k n : Nat} {L L' : List (Nat × Value)} {st rest : List Value} {Ω : Hp → Prop} {cc : ByteArray} {own : String} {ret : Option FieldType}
theorem x_one (kk : ∀ h0 : Hp, Ω h0 → X G F R Q nL pc L st (fun h => h = h0) k n) : X G F R Q nL pc L st Ω k n := fun h H locs ls hΩ hR hS hl => kk h hΩ h H locs ls rfl hR hS hl
theorem x_pt {h0 : Hp} (h1 : Ω h0) (kk : X G F R Q nL pc L st Ω k n) : X G F R Q nL pc L st (fun h => h = h0) k n := x_weak (fun h e => by rw [e]; exact h1) kk
theorem x_getE (O : Ok G F own cc nL ret) {index ci kf a : Nat} {v : Value} (K : FK own index ci kf) (ha : ∀ h, Ω h → ∃ fs : List Value, h a = some (.inr (ci, fs)) ∧ fs[kf]? = some v) (d : decode cc pc = .ok (.getfield index, 3)) (kk : X G F R Q nL (pc + 3) L (v :: st) Ω k n) : X G F R Q nL pc L (.ref a :: st) Ω k n := by
  refine x_one (fun h0 h0Ω => ?_)
  obtain ⟨fs, h1, h2⟩ := ha h0 h0Ω
  exact x_get O K (fun h e => by rw [e]; exact h1) h2 d (x_pt h0Ω kk)
theorem x_putE (O : Ok G F own cc nL ret) {index ci kf a : Nat} {ty : FieldType} {v : Value} (K : FP own index ci kf ty) (Ω' : Hp → Prop) (ha : ∀ h, Ω h → ∃ fs : List Value, h a = some (.inr (ci, fs)) ∧ kf < fs.length ∧ Ω' (hset h a (.inr (ci, fs.set kf v)))) (hn : narrow ty v = v) (hf : fits ty v = true) (d : decode cc pc = .ok (.putfield index, 3)) (kk : X G F R Q nL (pc + 3) L st Ω' k n) : X G F R Q nL pc L (v :: .ref a :: st) Ω k n := by
  refine x_one (fun h0 h0Ω => ?_)
  obtain ⟨fs, h1, h2, h3⟩ := ha h0 h0Ω
  exact x_put O K (fun h e => by rw [e]; exact h1) hn hf (Nat.ble_eq_true_of_le h2) d Ω' (fun h e => by rw [e]; exact h3) kk
theorem x_ialdE (O : Ok G F own cc nL ret) {a N : Nat} {i v : Int32} (ha : ∀ h, Ω h → ∃ f : Nat → Int32, h a = some (.inl (uI G 0, N, .inl f)) ∧ f i.toNatClampNeg = v) (hin : vp_in i N) (d : decode cc pc = .ok (.iaload, 1)) (kk : X G F R Q nL (pc + 1) L (.int v :: st) Ω k n) : X G F R Q nL pc L (.int i :: .ref a :: st) Ω k n := by
  refine x_one (fun h0 h0Ω => ?_)
  obtain ⟨f, h1, h2⟩ := ha h0 h0Ω
  subst h2
  exact x_iald O (fun h e => by rw [e]; exact h1) hin d (x_pt h0Ω kk)
theorem x_iastE (O : Ok G F own cc nL ret) {a N : Nat} {i x : Int32} (Ω' : Hp → Prop) (ha : ∀ h, Ω h → ∃ f : Nat → Int32, h a = some (.inl (uI G 0, N, .inl f)) ∧ Ω' (hset h a (.inl (uI G 0, N, .inl (upd f i.toNatClampNeg x))))) (hin : vp_in i N) (d : decode cc pc = .ok (.iastore, 1)) (kk : X G F R Q nL (pc + 1) L st Ω' k n) : X G F R Q nL pc L (.int x :: .int i :: .ref a :: st) Ω k n := by
  refine x_one (fun h0 h0Ω => ?_)
  obtain ⟨f, h1, h2⟩ := ha h0 h0Ω
  exact x_iast O (fun h e => by rw [e]; exact h1) hin d Ω' (fun h e => by rw [e]; exact h2) kk
theorem x_aaldE (O : Ok G F own cc nL ret) (t : Nat) {C : String} {a N b : Nat} {i : Int32} (ha : ∀ h, Ω h → ∃ f : Nat → Option Nat, h a = some (.inl (uI G t, N, .inr (.inr (.inr (.inr f))))) ∧ f i.toNatClampNeg = some b) (ht : (uTys (uI G))[t]? = some (uI G t, .object C)) (hin : vp_in i N) (d : decode cc pc = .ok (.aaload, 1)) (kk : X G F R Q nL (pc + 1) L (.ref b :: st) Ω k n) : X G F R Q nL pc L (.int i :: .ref a :: st) Ω k n := by
  refine x_one (fun h0 h0Ω => ?_)
  obtain ⟨f, h1, h2⟩ := ha h0 h0Ω
  refine x_aald O t (fun h e => by rw [e]; exact h1) ht hin d ?_
  rw [h2]
  exact x_pt h0Ω kk
theorem Ok.asg (O : Ok G F own cc nL ret) {ci : Nat} {r : vw_C} {E : String} (hc : uCl[ci]? = some r) (hE : r.1 = E ∨ Cond.castable r.1 E ∈ lw_tbl) : ∀ comp c0 : ClassId, (fS F).vm.findClass E = some comp → (fS F).vm.findClass r.1 = some c0 → (fS F).vm.assignable c0 comp = true := by
  intro comp c0 h1 h2
  rcases hE with e | e
  · subst e
    cases h1.symm.trans h2
    have hat := (O.K.1 ci r hc).2
    have : (uD G).1 ci = comp := Option.some.inj (hat.1.symm.trans h1)
    rw [← this]
    exact va_assign hat
  · obtain ⟨c1, t1, f1, f2, f3⟩ := Cond.castable_spec (va_Nw.use (A := #[]) rfl (O.pre.1.2.2.2.2.1 _ _ e))
    cases f1.symm.trans h2
    cases f2.symm.trans h1
    exact f3
theorem Rep.any (O : Ok G F own cc nL ret) {H : Heap} {h : Hp} {a ci : Nat} {fs : List Value} {r : vw_C} {E : String} (hR : Rep G h H) (ha : h a = some (.inr (ci, fs))) (hc : uCl[ci]? = some r) (hE : r.1 = E ∨ Cond.castable r.1 E ∈ lw_tbl) : va_Any E (fS F) H a := by
  obtain ⟨ws, hP, hD, hlk⟩ := hR
  obtain ⟨q, hq⟩ := hlk _ _ ha
  exact va_rAny O.K hP hq hc (O.asg hc hE)
/-- a reference stored, its class a child's -/
theorem x_aastM (O : Ok G F own cc nL ret) (t : Nat) {r : vw_C} {E : String} {a N v ci : Nat} {i : Int32} (Ω' : Hp → Prop) (ha : ∀ h, Ω h → (∃ f : Nat → Option Nat, h a = some (.inl (uI G t, N, .inr (.inr (.inr (.inr f))))) ∧ Ω' (hset h a (.inl (uI G t, N, .inr (.inr (.inr (.inr (va_up f i.toNatClampNeg (some v))))))))) ∧ ∃ vs : List Value, h v = some (.inr (ci, vs))) (hc : uCl[ci]? = some r) (hE : r.1 = E ∨ Cond.castable r.1 E ∈ lw_tbl) (ht : (uTys (uI G))[t]? = some (uI G t, .object E)) (hin : vp_in i N) (d : decode cc pc = .ok (.aastore, 1)) (kk : X G F R Q nL (pc + 1) L st Ω' k n) : X G F R Q nL pc L (.ref v :: .int i :: .ref a :: st) Ω k n := by
  intro h H locs ls hΩ hR hS hl
  obtain ⟨⟨f, h1, h2⟩, vs, h3⟩ := ha h hΩ
  have hAny := Rep.any O hR h3 hc hE
  obtain ⟨ws, hP, hD, hlk⟩ := hR
  obtain ⟨q, hq⟩ := hlk _ _ h1
  exact va_astqM O.x O.b O.K hP hD hS q t hq ht hAny hin d (fun H1 locs1 hP1 hD1 hS1 => kk _ H1 locs1 ls h2 ⟨_, hP1, hD1, hlk.set hq⟩ hS1 hl)
/-- references copied from one array to another of the same kind -/
theorem x_copyq (O : Ok G F own cc nL ret) (t : Nat) {E : String} {a a0 index n0 n1 : Nat} {sp dp m : Int32} (Ω' : Hp → Prop) (h1 : Cond.methodLink own index arraycopyName ∈ lw_all)
    (ha : ∀ h, Ω h → ∃ f g : Nat → Option Nat, h a0 = some (.inl (uI G t, n0, .inr (.inr (.inr (.inr f))))) ∧ h a = some (.inl (uI G t, n1, .inr (.inr (.inr (.inr g))))) ∧ (∀ j, j < m.toNatClampNeg → ∀ y, f (sp.toNatClampNeg + j) = some y → ∃ (ci : Nat) (r : vw_C) (vs : List Value), h y = some (.inr (ci, vs)) ∧ uCl[ci]? = some r ∧ (r.1 = E ∨ Cond.castable r.1 E ∈ lw_tbl)) ∧ Ω' (hset h a (.inl (uI G t, n1, .inr (.inr (.inr (.inr (va_cpy f g sp.toNatClampNeg dp.toNatClampNeg m.toNatClampNeg))))))))
    (ht : (uTys (uI G))[t]? = some (uI G t, .object E)) (g1 : ¬ sp < 0) (g2 : ¬ dp < 0) (g3 : ¬ m < 0) (g4 : sp.toNatClampNeg + m.toNatClampNeg ≤ n0) (g5 : dp.toNatClampNeg + m.toNatClampNeg ≤ n1) (hR0 : Nat.ble 1 R.frames = true) (hR1 : Nat.ble ((rest.map fun v => v.category).sum + (nativeFrameWords "java/lang/System" "arraycopy" 5 + 11)) R.locals = true) (d : decode cc pc = .ok (.invokestatic index, 3))
    (kk : X G F R Q nL (pc + 3) L rest Ω' k n) : X G F R Q nL pc L (.int m :: .int dp :: .ref a :: .int sp :: .ref a0 :: rest) Ω k n := by
  intro h H locs ls hΩ hR hS hl
  obtain ⟨f, g, e0, e1, he, hw⟩ := ha h hΩ
  have hAny : ∀ i : Nat, i < m.toNatClampNeg → ∀ y : Nat, f (sp.toNatClampNeg + i) = some y → va_Any E (fS F) H y := by
    intro i hi y hy
    obtain ⟨ci, r, vs, k1, k2, k3⟩ := he i hi y hy
    exact Rep.any O hR k1 k2 k3
  obtain ⟨ws, hP, hD, hlk⟩ := hR
  obtain ⟨q0, hq0⟩ := hlk _ _ e0
  obtain ⟨q1, hq1⟩ := hlk _ _ e1
  exact va_copyM O.x O.b (O.ml.trans hl.1.symm) O.ow (O.ts _ h1) (O.ts _ q591) (O.ts _ q590) (O.ts _ q134) O.K hP hD hS q0 q1 t t hq0 hq1 ht ht g1 g2 g3 g4 g5 hAny (Nat.le_of_ble_eq_true hR0) (Nat.le_of_ble_eq_true hR1) d (fun H1 locs1 hP1 hD1 hS1 => kk _ H1 locs1 ls hw ⟨_, hP1, hD1, hlk.set hq1⟩ hS1 hl)
/-- numbers copied -/
theorem x_copyi (O : Ok G F own cc nL ret) {a a0 index n0 n1 : Nat} {sp dp m : Int32} (Ω' : Hp → Prop) (h1 : Cond.methodLink own index arraycopyName ∈ lw_all)
    (ha : ∀ h, Ω h → ∃ f g : Nat → Int32, h a0 = some (.inl (uI G 0, n0, .inl f)) ∧ h a = some (.inl (uI G 0, n1, .inl g)) ∧ Ω' (hset h a (.inl (uI G 0, n1, .inl (va_cpy f g sp.toNatClampNeg dp.toNatClampNeg m.toNatClampNeg)))))
    (g1 : ¬ sp < 0) (g2 : ¬ dp < 0) (g3 : ¬ m < 0) (g4 : sp.toNatClampNeg + m.toNatClampNeg ≤ n0) (g5 : dp.toNatClampNeg + m.toNatClampNeg ≤ n1) (hR0 : Nat.ble 1 R.frames = true) (hR1 : Nat.ble ((rest.map fun v => v.category).sum + (nativeFrameWords "java/lang/System" "arraycopy" 5 + 11)) R.locals = true) (d : decode cc pc = .ok (.invokestatic index, 3))
    (kk : X G F R Q nL (pc + 3) L rest Ω' k n) : X G F R Q nL pc L (.int m :: .int dp :: .ref a :: .int sp :: .ref a0 :: rest) Ω k n := by
  intro h H locs ls hΩ hR hS hl
  obtain ⟨f, g, e0, e1, hw⟩ := ha h hΩ
  obtain ⟨ws, hP, hD, hlk⟩ := hR
  obtain ⟨q0, hq0⟩ := hlk _ _ e0
  obtain ⟨q1, hq1⟩ := hlk _ _ e1
  exact va_copyi O.x O.b (O.ml.trans hl.1.symm) O.ow (O.ts _ h1) (O.ts _ q591) (O.ts _ q590) (O.ts _ q134) O.K hP hD hS q0 q1 0 0 hq0 hq1 rfl rfl rfl g1 g2 g3 g4 g5 (fun i _ => rfl) (Nat.le_of_ble_eq_true hR0) (Nat.le_of_ble_eq_true hR1) d (fun H1 locs1 hP1 hD1 hS1 => kk _ H1 locs1 ls hw ⟨_, hP1, hD1, hlk.set hq1⟩ hS1 hl)
/-- two references compared -/
theorem x_acmpeq (O : Ok G F own cc nL ret) {rx ry : Option Nat} {off : Int} (tgt : Nat) (d : decode cc pc = .ok (.if_acmp .eq off, 3)) (ht : (pc : Int) + off = (tgt : Int)) (kt : rx = ry → X G F R Q nL tgt L st Ω k n) (kf : ¬ rx = ry → X G F R Q nL (pc + 3) L st Ω k n) : X G F R Q nL pc L (va_rf ry :: va_rf rx :: st) Ω k n := fun h H locs ls hΩ hR hS hl => lv_acmp_eq O.x O.b d ht (fun e => kt e h H locs ls hΩ hR hS hl) (fun e => kf e h H locs ls hΩ hR hS hl)
theorem x_acmpne (O : Ok G F own cc nL ret) {rx ry : Option Nat} {off : Int} (tgt : Nat) (d : decode cc pc = .ok (.if_acmp .ne off, 3)) (ht : (pc : Int) + off = (tgt : Int)) (kt : ¬ rx = ry → X G F R Q nL tgt L st Ω k n) (kf : rx = ry → X G F R Q nL (pc + 3) L st Ω k n) : X G F R Q nL pc L (va_rf ry :: va_rf rx :: st) Ω k n := fun h H locs ls hΩ hR hS hl => lv_acmp_ne O.x O.b d ht (fun e => kt e h H locs ls hΩ hR hS hl) (fun e => kf e h H locs ls hΩ hR hS hl)
end UE
