/-! rows of allocation: new arrays, new objects -/
theorem uTys_RA {G : UG} {U : State} (hK : va_K (uD G) uCl (uTys (uI G)) U) {t : Nat} {ty : FieldType} (ht : (uTys (uI G))[t]? = some (uI G t, ty)) : U.vm.findClass ("[" ++ ty.toString) = some (uI G t) := by
  have h := (hK.2 t _ ht).2
  cases ty with
  | object C =>
    obtain ⟨kA, comp, h1, h2, h3, h4⟩ := h
    exact h4
  | _ => exact h
theorem lkOf.news {G : UG} {h : Hp} {ws : va_W} {H : Heap} {e : va_E} (hl : lkOf h ws) (hP : va_P (uD G) uCl ws H) (hD : va_D (uA G) ws) (hA : uA G H.size) : h H.size = none := lkOf.fresh (G := G) hl (hD.push hP rfl hA (e := e))
section UN
variable {G : UG} {F : UF} {R : Room} {Q : State → Prop} {nL pc : Nat} {L L' : List (Nat × Value)} {st rest : List Value} {Ω : Hp → Prop} {k n : Nat} {cc : ByteArray} {own : String} {ret : Option FieldType}
/-- a new array of numbers or truth values: at an address that the heap had not -/
theorem x_newa (O : Ok G F own cc nL ret) (t : Nat) {atype : ArrayType} (ty : FieldType) {N : Nat} {v : Int32} (a0 : vp_A) (hty : newarray.typeOf atype = ty) (ht : (uTys (uI G))[t]? = some (uI G t, ty)) (harr : Cond.arrayClass ty ∈ lw_all) (ha : ∀ cA : ClassId, vp_cell cA a0 = arrV cA N (fun _ => defaultValue ty))
    (hn : ¬ v < 0) (hN : v.toNatClampNeg = N) (hbytes : N * componentBytes ty ≤ 536870912) (hcs : k + 1 ≤ R.cells ∧ n + N ≤ R.slots) (d : decode cc pc = .ok (.newarray atype, 2)) (Ω' : Nat → Hp → Prop) (hw : ∀ (h : Hp) (q : Nat), Ω h → h q = none → Ω' q (hset h q (.inl (uI G t, a0))))
    (kk : ∀ q : Nat, X G F R Q nL (pc + 2) L (.ref q :: st) (Ω' q) (k + 1) (n + N)) : X G F R Q nL pc L (.int v :: st) Ω k n := by
  rintro h H locs ls hΩ ⟨ws, hP, hD, hlk⟩ hS hl
  subst hty
  refine va_newaK O.x O.b (O.ts _ harr) rfl d rfl hn hN hbytes hcs.1 hcs.2 rfl fun H1 cA e1 z1 o1 hAr hNm => ?_
  have hA : uA G H.size := O.A _ hS.1
  have hcA : cA = uI G t := by
    have := uTys_RA O.K ht
    rw [hNm] at this
    exact Option.some.inj this
  subst hcA
  have hk : ∀ (k : Nat) (x : Nat × va_E), ws[k]? = some x → H1[x.1]? = H[x.1]? := fun k x hx => o1 x.1 ((hP k x hx).lt)
  refine kk H.size _ H1 locs ls (hw h H.size hΩ (lkOf.news (e := .inl (uI G t, a0)) hlk hP hD hA)) ⟨ws ++ [(H.size, .inl (uI G t, a0))], (hP.kept hk).app (fun k x hx => ?_), hD.push hP rfl hA, hlk.push⟩ ⟨Nat.le_trans hS.1 (by omega), fun x h1 h2 => (o1 x (Nat.lt_of_lt_of_le h1 hS.1)).trans (hS.2.1 x h1 h2), hS.2.2⟩ hl
  have hz : k < 1 := (List.getElem?_eq_some_iff.mp hx).1
  rw [show k = 0 by omega] at hx
  cases hx
  show H1[H.size]? = some (vp_cell _ _)
  rw [ha]
  exact e1
/-- a new array of references: all null -/
theorem x_newq (O : Ok G F own cc nL ret) (t : Nat) {C : String} {index N : Nat} {v : Int32} (ht : (uTys (uI G))[t]? = some (uI G t, .object C)) (hlk0 : Cond.classLink own index C ∈ lw_all) (hover : Cond.arrayOver (.object C) ∈ lw_tbl)
    (hn : ¬ v < 0) (hN : v.toNatClampNeg = N) (hbytes : N * 4 ≤ 536870912) (hcs : k + 1 ≤ R.cells ∧ n + N ≤ R.slots) (d : decode cc pc = .ok (.anewarray index, 3)) (Ω' : Nat → Hp → Prop) (hw : ∀ (h : Hp) (q : Nat), Ω h → h q = none → Ω' q (hset h q (.inl (uI G t, N, .inr (.inr (.inr (.inr (fun _ => none))))))))
    (kk : ∀ q : Nat, X G F R Q nL (pc + 3) L (.ref q :: st) (Ω' q) (k + 1) (n + N)) : X G F R Q nL pc L (.int v :: st) Ω k n := by
  rintro h H locs ls hΩ ⟨ws, hP, hD, hlk⟩ hS hl
  have hAO : va_AO C (fS F) := O.pre.1.2.2.2.2.2.2.1 C hover
  refine va_newq O.x O.b O.ow (O.ts _ hlk0) hAO O.K hP hD hS O.A hn hN hbytes hcs.1 hcs.2 d fun q cA H1 hK1 hP1 hD1 hS1 => ?_
  have hcA : cA = uI G t := by
    have h2 := (hK1.2 (uTys (uI G)).length (cA, .object C) (by simp)).2
    obtain ⟨kA, comp, -, -, -, h4⟩ := h2
    have := uTys_RA O.K ht
    rw [h4] at this
    exact Option.some.inj this
  subst hcA
  exact kk q _ H1 locs ls (hw h q hΩ (lkOf.fresh (G := G) hlk hD1)) ⟨_, hP1, hD1, hlk.push⟩ hS1 hl
/-- a new object, its fields at their first values -/
theorem x_new (O : Ok G F own cc nL ret) {C : String} {T : u_T} {N ci index : Nat} {fs : List Value} (ty : Nat → FieldType) (hc : uCl[ci]? = some (C, T, N)) (hin : ∀ w ∈ u_ws C T N, w ∈ lw_all) (hty : ∀ j, j < N → parseFieldDescriptor (T j).2.2.1 = some (ty j)) (hcl : Cond.classLink own index C ∈ lw_all) (hinst : Cond.instantiable C N ∈ lw_all) (hini : Cond.initialized C ∈ lw_all)
    (hfs : ∀ j, j < N → defaultValue (ty j) = vp_V fs j) (hcs : k + 1 ≤ R.cells ∧ n + N ≤ R.slots) (d : decode cc pc = .ok (.new index, 3)) (Ω' : Nat → Hp → Prop) (hw : ∀ (h : Hp) (q : Nat), Ω h → h q = none → Ω' q (hset h q (.inr (ci, fs))))
    (kk : ∀ q : Nat, X G F R Q nL (pc + 3) L (.ref q :: st) (Ω' q) (k + 1) (n + N)) : X G F R Q nL pc L st Ω k n := by
  rintro h H locs ls hΩ ⟨ws, hP, hD, hlk⟩ hS hl
  exact va_new O.x O.b O.ts hin ty hty O.ow (O.ts _ hcl) (O.ts _ hinst) (O.ts _ hini) O.K hP hD hS O.A hc hfs hcs.1 hcs.2 d fun q H1 hP1 hD1 hS1 => kk q _ H1 locs ls (hw h q hΩ (lkOf.fresh (G := G) hlk hD1)) ⟨_, hP1, hD1, hlk.push⟩ hS1 hl
/-- a cast that the object's class passes -/
theorem x_cast (O : Ok G F own cc nL ret) {ci index a : Nat} {nm : String} {fs : List Value} {r : vw_C} (ha : ∀ h, Ω h → ∃ fs : List Value, h a = some (.inr (ci, fs))) (hc : uCl[ci]? = some r) (hl0 : Cond.classLink own index nm ∈ lw_all) (hcs : Cond.castable r.1 nm ∈ lw_tbl) (d : decode cc pc = .ok (.checkcast index, 3)) (kk : X G F R Q nL (pc + 3) L (.ref a :: st) Ω k n) : X G F R Q nL pc L (.ref a :: st) Ω k n := by
  rintro h H locs ls hΩ hR hS hl
  obtain ⟨fs, hf⟩ := ha h hΩ
  exact va_castY O.x O.b O.ow (O.ts _ hl0) (O.pre.1.2.2.2.2.1 _ _ hcs) (Rep.recv O hR hf hc) d (kk h H locs ls hΩ hR hS hl)
theorem x_inst (O : Ok G F own cc nL ret) {ci index a : Nat} {nm : String} {fs : List Value} {r : vw_C} (ha : ∀ h, Ω h → ∃ fs : List Value, h a = some (.inr (ci, fs))) (hc : uCl[ci]? = some r) (hl0 : Cond.classLink own index nm ∈ lw_all) (hcs : Cond.castable r.1 nm ∈ lw_tbl) (d : decode cc pc = .ok (.instanceof index, 3)) (kk : X G F R Q nL (pc + 3) L (.int 1 :: st) Ω k n) : X G F R Q nL pc L (.ref a :: st) Ω k n := by
  rintro h H locs ls hΩ hR hS hl
  obtain ⟨fs, hf⟩ := ha h hΩ
  exact va_instY O.x O.b O.ow (O.ts _ hl0) (O.pre.1.2.2.2.2.1 _ _ hcs) (Rep.recv O hR hf hc) d (kk h H locs ls hΩ hR hS hl)
theorem x_instNo (O : Ok G F own cc nL ret) {ci index a : Nat} {nm : String} {fs : List Value} {r : vw_C} (ha : ∀ h, Ω h → ∃ fs : List Value, h a = some (.inr (ci, fs))) (hc : uCl[ci]? = some r) (hl0 : Cond.classLink own index nm ∈ lw_all) (hcs : (r.1, nm) ∈ uNc) (d : decode cc pc = .ok (.instanceof index, 3)) (kk : X G F R Q nL (pc + 3) L (.int 0 :: st) Ω k n) : X G F R Q nL pc L (.ref a :: st) Ω k n := by
  rintro h H locs ls hΩ hR hS hl
  obtain ⟨fs, hf⟩ := ha h hΩ
  exact va_instNo O.x O.b O.ow (O.ts _ hl0) (O.pre.1.2.2.2.2.2.2.2.2.1 (r.1, nm) hcs) (Rep.recv O hR hf hc) d (kk h H locs ls hΩ hR hS hl)
/-- null and the tests for it -/
theorem x_null (O : Ok G F own cc nL ret) (d : decode cc pc = .ok (.aconst_null, 1)) (kk : X G F R Q nL (pc + 1) L (.null :: st) Ω k n) : X G F R Q nL pc L st Ω k n := fun h H locs ls hΩ hR hS hl => lv_null O.x O.b d (kk h H locs ls hΩ hR hS hl)
theorem x_ifnull (O : Ok G F own cc nL ret) {x : Nat} {off : Int} (d : decode cc pc = .ok (.ifnull off, 3)) (kk : X G F R Q nL (pc + 3) L st Ω k n) : X G F R Q nL pc L (.ref x :: st) Ω k n := fun h H locs ls hΩ hR hS hl => lv_ifnull O.x O.b d (kk h H locs ls hΩ hR hS hl)
theorem x_ifnonnull (O : Ok G F own cc nL ret) {x : Nat} {off : Int} (tgt : Nat) (d : decode cc pc = .ok (.ifnonnull off, 3)) (ht : (pc : Int) + off = (tgt : Int)) (kk : X G F R Q nL tgt L st Ω k n) : X G F R Q nL pc L (.ref x :: st) Ω k n := fun h H locs ls hΩ hR hS hl => lv_ifnonnull O.x O.b d ht (kk h H locs ls hΩ hR hS hl)
theorem x_ifnullY (O : Ok G F own cc nL ret) {off : Int} (tgt : Nat) (d : decode cc pc = .ok (.ifnull off, 3)) (ht : (pc : Int) + off = (tgt : Int)) (kk : X G F R Q nL tgt L st Ω k n) : X G F R Q nL pc L (.null :: st) Ω k n := fun h H locs ls hΩ hR hS hl => lv_ifnullN O.x O.b d ht (kk h H locs ls hΩ hR hS hl)
theorem x_ifnonnullN (O : Ok G F own cc nL ret) {off : Int} (d : decode cc pc = .ok (.ifnonnull off, 3)) (kk : X G F R Q nL (pc + 3) L st Ω k n) : X G F R Q nL pc L (.null :: st) Ω k n := fun h H locs ls hΩ hR hS hl => lv_ifnonnullN O.x O.b d (kk h H locs ls hΩ hR hS hl)
end UN
