/-! U: one abstract heap (a function of addresses) for every walk; X: the machine at a frame, over it; Con: a method's contract over it -/
abbrev Hp : Type := Nat → Option va_E
abbrev UG : Type := Launch × va_G × (Nat → ClassId) × (Nat × (Nat → Nat) × (Nat → Nat))
abbrev UF : Type := Program × Env × State × MethodId × Array Value × List Frame × Method × Code
def uL (G : UG) : Launch := G.1
def uD (G : UG) : va_G := G.2.1
def uI (G : UG) : Nat → ClassId := G.2.2.1
def uB (G : UG) : Nat := G.2.2.2.1
def uK (G : UG) : Nat → Nat := G.2.2.2.2.1
def uV (G : UG) : Nat → Nat := G.2.2.2.2.2
def uA (G : UG) : Nat → Prop := fun q => uB G ≤ q
def fP (F : UF) : Program := F.1
def fE (F : UF) : Env := F.2.1
def fS (F : UF) : State := F.2.2.1
def fM (F : UF) : MethodId := F.2.2.2.1
def fA (F : UF) : Array Value := F.2.2.2.2.1
def fBl (F : UF) : List Frame := F.2.2.2.2.2.1
def fMe (F : UF) : Method := F.2.2.2.2.2.2.1
def fC (F : UF) : Code := F.2.2.2.2.2.2.2
def hset (h : Hp) (a : Nat) (e : va_E) : Hp := fun b => if b = a then some e else h b
theorem hset_s {h : Hp} {a : Nat} {e : va_E} : hset h a e a = some e := if_pos rfl
theorem hset_n {h : Hp} {a b : Nat} {e : va_E} (n : b ≠ a) : hset h a e b = h b := if_neg n
theorem hset_hset {h : Hp} {a : Nat} {e e' : va_E} : hset (hset h a e) a e' = hset h a e' := by
  funext b; unfold hset; by_cases c : b = a <;> simp [c]
def lkOf (h : Hp) (ws : va_W) : Prop := ∀ (b : Nat) (eb : va_E), h b = some eb → ∃ q : Nat, ws[q]? = some (b, eb)
def Rep (G : UG) (h : Hp) (H : Heap) : Prop := ∃ ws : va_W, va_P (uD G) uCl ws H ∧ va_D (uA G) ws ∧ lkOf h ws
theorem lkOf.set {h : Hp} {ws : va_W} {a q0 : Nat} {e0 e : va_E} (hl : lkOf h ws) (hq : ws[q0]? = some (a, e0)) : lkOf (hset h a e) (ws.set q0 (a, e)) := by
  intro b eb hb
  have hlt : q0 < ws.length := (List.getElem?_eq_some_iff.mp hq).1
  by_cases c : b = a
  · subst c
    rw [hset_s] at hb; cases hb
    exact ⟨q0, by rw [List.getElem?_set_self hlt]⟩
  · rw [hset_n c] at hb
    obtain ⟨q, hq2⟩ := hl b eb hb
    have hne : q0 ≠ q := by
      intro z; subst z
      rw [hq] at hq2; cases hq2; exact c rfl
    exact ⟨q, by rw [List.getElem?_set_ne hne]; exact hq2⟩
theorem lkOf.push {h : Hp} {ws : va_W} {a : Nat} {e : va_E} (hl : lkOf h ws) : lkOf (hset h a e) (ws ++ [(a, e)]) := by
  intro b eb hb
  by_cases c : b = a
  · subst c
    rw [hset_s] at hb; cases hb
    exact ⟨ws.length, by simp⟩
  · rw [hset_n c] at hb
    obtain ⟨q, hq2⟩ := hl b eb hb
    exact ⟨q, by rw [List.getElem?_append_left (List.getElem?_eq_some_iff.mp hq2).1]; exact hq2⟩
theorem lkOf.fresh {G : UG} {h : Hp} {ws : va_W} {a : Nat} {e : va_E} (hl : lkOf h ws) (hD : va_D (uA G) (ws ++ [(a, e)])) : h a = none := by
  cases hc : h a with
  | none => rfl
  | some e1 =>
    obtain ⟨q, hq⟩ := hl a e1 hc
    have hlt := (List.getElem?_eq_some_iff.mp hq).1
    have := hD.1 q ws.length (a, e1) (a, e) (by rw [List.getElem?_append_left hlt]; exact hq) (by simp) rfl
    omega
theorem Rep.kept {G : UG} {h : Hp} {H H1 : Heap} (hR : Rep G h H) (hq : ∀ q : Nat, q < H.size → H1[q]? = H[q]?) : Rep G h H1 := by
  obtain ⟨ws, hP, hD, hl⟩ := hR
  exact ⟨ws, hP.kept (fun k q hk => hq _ (hP k q hk).lt), hD, hl⟩
theorem Rep.ge {G : UG} {h : Hp} {H : Heap} (hR : Rep G h H) {a : Nat} {e : va_E} (ha : h a = some e) : uB G ≤ a := by
  obtain ⟨ws, hP, hD, hl⟩ := hR
  obtain ⟨q, hq⟩ := hl a e ha
  exact hD.2 q _ hq
def uTy (k : Nat) : FieldType := match k with
  | 0 => .int | 1 => .byte | 2 => .boolean | 3 => .long | 4 => .object "GrassField$Gun" | 5 => .object "GrassField$Person" | 6 => .object "GrassField$Law" | 7 => .object "GrassField$Find" | 8 => .object "GrassField$Teller" | 9 => .object "GrassField$Telling" | 10 => .object "GrassField$Story" | 11 => .object "GrassField$Line" | 12 => .object "java/lang/String" | _ => .array .int
def uTys (I : Nat → ClassId) : List (ClassId × FieldType) := (List.range 14).map fun k => (I k, uTy k)
/-- what the tables say of the virtual machine, at any state of the run -/
def VF (G : UG) (U : State) : Prop :=
  (uL G).stackTraces = false ∧ va_K (uD G) uCl (uTys (uI G)) U ∧
  (∀ (a : String) (i : Nat) (b n d h : String), Cond.fieldLinkNest a i b n d h ∈ lw_tbl → va_Nw (.fieldLinkNest a i b n d h) U) ∧
  (∀ (a : String) (i : Nat) (x : MethodName) (h : String), Cond.methodLinkNest a i x h ∈ lw_tbl → va_Nw (.methodLinkNest a i x h) U) ∧
  (∀ (C T : String), Cond.castable C T ∈ lw_tbl → va_Nw (.castable C T) U) ∧
  (∀ (x : MethodName), Cond.declares x ∈ lw_tbl → va_Nw (.declares x) U) ∧
  (∀ (C : String), Cond.arrayOver (.object C) ∈ lw_tbl → va_AO C U) ∧
  (∀ q ∈ uFw, va_Fw q.1 q.2.1 q.2.2 U) ∧
  (∀ q ∈ uNc, va_Nc q.1 q.2 U) ∧
  (∀ q ∈ uStr, vk_R q.1 q.2.1 q.2.2.1 (uK G q.2.2.2) U)
/-- what the heap below the run's own cells holds -/
def HF (G : UG) (U : State) (H : Heap) : Prop :=
  vx_Zq Bundle.tN "UNASSIGNED_STACK" Bundle.steD (uA G) U H ∧ vx_Zq Bundle.tN "SUPPRESSED_SENTINEL" Bundle.listD (uA G) U H ∧
  va_Z "java/lang/String" "COMPACT_STRINGS" "Z" (.int 1) (uA G) U H ∧ vk_S uSN uSlen uSbyt (uK G) (uV G) (uA G) U H ∧ (∃ q, va_Z uCk.1 uCk.2.1 uCk.2.2 (.ref q) (uA G) U H)
theorem VF.warm {G : UG} {s U : State} (hW : s.WarmedH U.vm) (h : VF G s) : VF G U := by
  obtain ⟨h0, h1, h2, h3, h4, h5, h6, h7, h8, h9⟩ := h
  refine ⟨h0, va_K.moved hW.alike h1, fun a i b n d x m => (h2 a i b n d x m).warmF hW, fun a i x y m => (h3 a i x y m).warmM hW, fun C T m => (h4 C T m).warmC hW, fun x m => (h5 x m).warmD hW, fun C m => (h6 C m).moved hW.alike, fun q m => (h7 q m).moved (uFw_ok q m) hW.alike, fun q m => (h8 q m).moved hW.alike, fun q m => (h9 q m).warm hW⟩
theorem HF.kept {G : UG} {U : State} {H H1 : Heap} (h : HF G U H) (hq : ∀ a : Nat, a < H.size → ¬ uA G a → H1[a]? = H[a]?) : HF G U H1 := by
  obtain ⟨h0, h1, h2, h3, q, h4⟩ := h
  exact ⟨h0.kept hq, h1.kept hq, h2.kept hq, h3.kept hq, q, h4.kept hq⟩
theorem HF.moved {G : UG} {u U : State} {H : Heap} (hvm : u.vm.Alike U.vm) (h : HF G u H) : HF G U H := by
  obtain ⟨h0, h1, h2, h3, q, h4⟩ := h
  exact ⟨h0.moved hvm, h1.moved hvm, h2.moved hvm, h3.moved hvm, q, h4.moved hvm⟩
def Pre0 (G : UG) (s : State) : Prop := VF G s ∧ uB G ≤ s.heap.size ∧ HF G s s.heap
def Pre (G : UG) (Ω : Hp → Prop) (s : State) : Prop := (∃ h : Hp, Ω h ∧ Rep G h s.heap) ∧ Pre0 G s
theorem Pre0.to {G : UG} {s U : State} {locs : List Loc} (h : Pre0 G s) (hW : s.WarmedH U.vm) (hS : va_S (uA G) s.heap U.heap locs) : Pre0 G U := by
  obtain ⟨h1, h2, h3⟩ := h
  exact ⟨h1.warm hW, Nat.le_trans h2 hS.1, (h3.moved hW.alike).kept (fun a ha hn => hS.2.1 a ha hn)⟩
theorem Pre.blind {G : UG} {Ω : Hp → Prop} {av : List Value} : FrameBlind (va_Pc av (fun U => Pre G Ω U)) := by
  rintro a U g mk ⟨rfl, hR, hV, hB, hH⟩
  exact ⟨rfl, hR, hV.warm (U := U.calling g mk av.toArray) (State.WarmedH.refl U), hB, hH.moved (Vm.Alike.refl U.vm)⟩
def uQc (G : UG) (P : Option Value → Hp → Prop) : Array Value → State → Outcome → State → Prop := fun _ st o t => ∃ (v : Option Value) (h' : Hp), o = .returned v ∧ P v h' ∧ Rep G h' t.heap ∧ va_F (uA G) st t
def uXC (G : UG) (PX : String → Nat → Hp → Prop) : String → Nat → State → State → Prop := fun E q st t => ∃ h' : Hp, PX E q h' ∧ Rep G h' t.heap ∧ va_F (uA G) st t
/-- a method's contract: from any state that holds the heap h, called with av, it comes back with P, or throws with PX -/
def ConW (G : UG) (y : MethodName) (ws : List Cond) (fr lo mc ms : Nat) (av : List Value) (Ω : Hp → Prop) (P : Option Value → Hp → Prop) (PX : String → Nat → Hp → Prop) : Prop :=
  vx_Met (uL G) y ws { frames := fr, cells := mc, slots := ms, locals := lo } (va_Pc av (fun U => Pre G Ω U)) (uQc G P) (uXC G PX) mc ms (uA G)
abbrev Con (G : UG) (y : MethodName) (code : ByteArray) (maxL : Nat) (ret : Option FieldType) (fr lo mc ms : Nat) (av : List Value) (Ω : Hp → Prop) (P : Option Value → Hp → Prop) (PX : String → Nat → Hp → Prop) : Prop :=
  ConW G y (ws_ y code maxL ret) fr lo mc ms av Ω P PX
def nX : String → Nat → Hp → Prop := fun _ _ _ => False
/-- the machine at the frame (pc, locals L, stack st) over the heap h comes to Q -/
def X (G : UG) (F : UF) (R : Room) (Q : State → Prop) (nL pc : Nat) (L : List (Nat × Value)) (st : List Value) (Ω : Hp → Prop) (k n : Nat) : Prop :=
  ∀ (h : Hp) (H : Heap) (locs : List Loc) (ls : Array Slot), Ω h → Rep G h H → va_S (uA G) (fS F).heap H locs → lv_has ls nL L → W (fP F) (uL G) (fE F) R (fS F) (fM F) (fA F) (fBl F) (fMe F) (fC F) H locs k n Q (F0 (fM F) pc ls st)
/-- .. with q of class E thrown at pc -/
def XT (G : UG) (F : UF) (R : Room) (Q : State → Prop) (nL pc : Nat) (L : List (Nat × Value)) (rest : List Value) (Ω : Hp → Prop) (k n : Nat) (E : String) (q : Nat) : Prop :=
  ∀ (h : Hp) (H : Heap) (locs : List Loc) (ls : Array Slot) (ce : Cell), Ω h → Rep G h H → va_S (uA G) (fS F).heap H locs → lv_has ls nL L → H[q]? = some ce → ce.vm = .none → (fS F).vm.findClass E = some ce.cls → vx_W (fP F) (uL G) (fE F) R (fS F) (fM F) (fA F) (fBl F) (fMe F) (fC F) H locs k n Q (F0 (fM F) pc ls rest) q
def CQ (G : UG) (F : UF) (P : Option Value → Hp → Prop) (PX : String → Nat → Hp → Prop) (mc ms : Nat) : State → Prop := vx_MQ (fBl F) (uQc G P) (uXC G PX) (fA F) (fS F) mc ms (uA G)
/-- what holds all through a method's run -/
def Ok (G : UG) (F : UF) (own : String) (cc : ByteArray) (nL : Nat) (ret : Option FieldType) : Prop :=
  (fP F).tables.exec = Jvm.exec ∧ (fC F).code = cc ∧ (fC F).maxLocals = nL ∧ (fS F).vm.findClass own = some (fM F).cls ∧ (∀ w ∈ lw_all, w.before (fA F) (fS F) = true) ∧ (fMe F).sig.returnType = ret ∧ (fMe F).locks = false ∧ Pre0 G (fS F)
def noH (F : UF) : Prop := ∀ x ∈ (fC F).exceptionTable.toList, False
section UR
variable {G : UG} {F : UF} {R : Room} {Q : State → Prop} {nL pc : Nat} {L L' : List (Nat × Value)} {st rest : List Value} {Ω : Hp → Prop} {k n : Nat} {cc : ByteArray} {own : String} {ret : Option FieldType}
theorem Ok.x (O : Ok G F own cc nL ret) : (fP F).tables.exec = Jvm.exec := O.1
theorem Ok.b (O : Ok G F own cc nL ret) : (fC F).code = cc := O.2.1
theorem Ok.ml (O : Ok G F own cc nL ret) : (fC F).maxLocals = nL := O.2.2.1
theorem Ok.ow (O : Ok G F own cc nL ret) : (fS F).vm.findClass own = some (fM F).cls := O.2.2.2.1
theorem Ok.ts (O : Ok G F own cc nL ret) : ∀ w ∈ lw_all, w.before (fA F) (fS F) = true := O.2.2.2.2.1
theorem Ok.r (O : Ok G F own cc nL ret) : (fMe F).sig.returnType = ret := O.2.2.2.2.2.1
theorem Ok.lk (O : Ok G F own cc nL ret) : (fMe F).locks = false := O.2.2.2.2.2.2.1
theorem Ok.pre (O : Ok G F own cc nL ret) : Pre0 G (fS F) := O.2.2.2.2.2.2.2
theorem Ok.K (O : Ok G F own cc nL ret) : va_K (uD G) uCl (uTys (uI G)) (fS F) := O.pre.1.2.1
theorem Ok.A (O : Ok G F own cc nL ret) : ∀ q : Nat, (fS F).heap.size ≤ q → uA G q := fun q hq => Nat.le_trans O.pre.2.1 hq
/-- a contract is proved by a walk from the entry -/
theorem con_of {y : MethodName} {maxL fr lo mc ms : Nat} {av : List Value} {P : Option Value → Hp → Prop} {PX : String → Nat → Hp → Prop} (hy : plainFor y = true) (hlen : Nat.ble (lg_sl av).length maxL = true)
    (body : ∀ F : UF, Ok G F y.cls cc maxL ret → noH F → (fMe F).name = y.name → X G F { frames := fr, cells := mc, slots := ms, locals := lo } (CQ G F P PX mc ms) maxL 0 (lv_args 0 av) [] Ω 0 0) : Con G y cc maxL ret fr lo mc ms av Ω P PX := by
  refine vx_ofW (cc := cc) (maxL := maxL) (ret := ret) hy rfl ?_
  intro p e s m args below meth c s₁ B hml hnh hv
  obtain ⟨rfl, ⟨h, hΩ, hR⟩, hpre⟩ := hv
  have hts := atoms_spec (ws := ws_ y cc maxL ret) B.pre
  have hl := lv_entry av (n := maxL) (Nat.le_of_ble_eq_true hlen)
  rw [lg_entry_eq]
  exact body (p, e, s, m, av.toArray, below, meth, c) ⟨B.exec, B.bytes, hml, findClass_of_methodNamed B.named, fun w hw => hts w (List.mem_cons_of_mem _ hw), B.returns, B.notSynchronized, hpre⟩ hnh (name_of_methodNamed B.named B.method).1 h s.heap [] _ hΩ hR va_S.rf hl
theorem x_eq {pc' : Nat} {st' : List Value} (kk : X G F R Q nL pc' L' st' Ω k n) (e1 : pc' = pc) (e2 : L' = L) (e3 : st' = st) : X G F R Q nL pc L st Ω k n := by
  subst e1; subst e2; subst e3; exact kk
theorem x_sub (is : List Nat) (hs : lv_pick L is = L') (kk : X G F R Q nL pc L' st Ω k n) : X G F R Q nL pc L st Ω k n := fun h H locs ls hΩ hR hS hl => kk h H locs ls hΩ hR hS (lv_sub hl is hs)
theorem x_widen {k' n' : Nat} (h1 : k ≤ k') (h2 : n ≤ n') (kk : X G F R Q nL pc L st Ω k' n') : X G F R Q nL pc L st Ω k n := fun h H locs ls hΩ hR hS hl => W.widen h1 h2 (kk h H locs ls hΩ hR hS hl)
theorem x_weak {Ω' : Hp → Prop} (hw : ∀ h, Ω h → Ω' h) (kk : X G F R Q nL pc L st Ω' k n) : X G F R Q nL pc L st Ω k n := fun h H locs ls hΩ hR hS hl => kk h H locs ls (hw h hΩ) hR hS hl
theorem x_top {v v' : Int32} (e : v = v') (kk : X G F R Q nL pc L (.int v' :: st) Ω k n) : X G F R Q nL pc L (.int v :: st) Ω k n := by subst e; exact kk
theorem x_iconst (O : Ok G F own cc nL ret) {j : Int} (v : Int32) (d : decode cc pc = .ok (.iconst j, 1)) (e : Int32.ofInt j = v) (kk : X G F R Q nL (pc + 1) L (.int v :: st) Ω k n) : X G F R Q nL pc L (st) Ω k n := fun h H locs ls hΩ hR hS hl => lv_iconst O.x O.b d e (kk h H locs ls hΩ hR hS hl)
theorem x_bipush (O : Ok G F own cc nL ret) {j : Int} (v : Int32) (d : decode cc pc = .ok (.bipush j, 2)) (e : (Int8.ofInt j).toInt32 = v) (kk : X G F R Q nL (pc + 2) L (.int v :: st) Ω k n) : X G F R Q nL pc L (st) Ω k n := fun h H locs ls hΩ hR hS hl => lv_bipush O.x O.b d e (kk h H locs ls hΩ hR hS hl)
theorem x_sipush (O : Ok G F own cc nL ret) {j : Int} (v : Int32) (d : decode cc pc = .ok (.sipush j, 3)) (e : (Int16.ofInt j).toInt32 = v) (kk : X G F R Q nL (pc + 3) L (.int v :: st) Ω k n) : X G F R Q nL pc L (st) Ω k n := fun h H locs ls hΩ hR hS hl => lv_sipush O.x O.b d e (kk h H locs ls hΩ hR hS hl)
theorem x_lconst (O : Ok G F own cc nL ret) {j : Fin 2} (v : Int64) (d : decode cc pc = .ok (.lconst j, 1)) (e : Int64.ofNat (j : Nat) = v) (kk : X G F R Q nL (pc + 1) L (.long v :: st) Ω k n) : X G F R Q nL pc L (st) Ω k n := fun h H locs ls hΩ hR hS hl => lv_lconst O.x O.b d e (kk h H locs ls hΩ hR hS hl)
theorem x_iload_n (O : Ok G F own cc nL ret) {kk0 : Fin 4} {x : Int32} (q : Nat) {i : Nat} (d : decode cc pc = .ok (.iload_n kk0, 1)) (e : (kk0 : Nat) = i) (g : L[q]? = some (i, .int x)) (kk : X G F R Q nL (pc + 1) L (.int x :: st) Ω k n) : X G F R Q nL pc L (st) Ω k n := fun h H locs ls hΩ hR hS hl => lv_iload_n O.x O.b d e (lv_at hl q g) (kk h H locs ls hΩ hR hS hl)
theorem x_iload (O : Ok G F own cc nL ret) {x : Int32} (q : Nat) {i : Nat} (d : decode cc pc = .ok (.iload i, 2)) (g : L[q]? = some (i, .int x)) (kk : X G F R Q nL (pc + 2) L (.int x :: st) Ω k n) : X G F R Q nL pc L (st) Ω k n := fun h H locs ls hΩ hR hS hl => lv_iload O.x O.b d (lv_at hl q g) (kk h H locs ls hΩ hR hS hl)
theorem x_istore_n (O : Ok G F own cc nL ret) {kk0 : Fin 4} {i : Nat} {x : Int32} (L' : List (Nat × Value)) (d : decode cc pc = .ok (.istore_n kk0, 1)) (e : (kk0 : Nat) = i) (hn : Nat.ble (i + 1) nL = true) (g : (i, Value.int x) :: L.filter (fun q => !(q.1 == i) && !(q.1 + 1 == i && q.2.category == 2)) = L') (kk : X G F R Q nL (pc + 1) L' st Ω k n) : X G F R Q nL pc L (.int x :: st) Ω k n := fun h H locs ls hΩ hR hS hl => lv_istore_n O.x O.b d e hl (Nat.le_of_ble_eq_true hn) g (fun ls' hl' => kk h H locs ls' hΩ hR hS hl')
theorem x_istore (O : Ok G F own cc nL ret) {i : Nat} {x : Int32} (L' : List (Nat × Value)) (d : decode cc pc = .ok (.istore i, 2)) (hn : Nat.ble (i + 1) nL = true) (g : (i, Value.int x) :: L.filter (fun q => !(q.1 == i) && !(q.1 + 1 == i && q.2.category == 2)) = L') (kk : X G F R Q nL (pc + 2) L' st Ω k n) : X G F R Q nL pc L (.int x :: st) Ω k n := fun h H locs ls hΩ hR hS hl => lv_istore O.x O.b d hl (Nat.le_of_ble_eq_true hn) g (fun ls' hl' => kk h H locs ls' hΩ hR hS hl')
theorem x_lload_n (O : Ok G F own cc nL ret) {kk0 : Fin 4} {x : Int64} (q : Nat) {i : Nat} (d : decode cc pc = .ok (.lload_n kk0, 1)) (e : (kk0 : Nat) = i) (g : L[q]? = some (i, .long x)) (kk : X G F R Q nL (pc + 1) L (.long x :: st) Ω k n) : X G F R Q nL pc L (st) Ω k n := fun h H locs ls hΩ hR hS hl => lv_lload_n O.x O.b d e (lv_at hl q g) (kk h H locs ls hΩ hR hS hl)
theorem x_lload (O : Ok G F own cc nL ret) {x : Int64} (q : Nat) {i : Nat} (d : decode cc pc = .ok (.lload i, 2)) (g : L[q]? = some (i, .long x)) (kk : X G F R Q nL (pc + 2) L (.long x :: st) Ω k n) : X G F R Q nL pc L (st) Ω k n := fun h H locs ls hΩ hR hS hl => lv_lload O.x O.b d (lv_at hl q g) (kk h H locs ls hΩ hR hS hl)
theorem x_lstore_n (O : Ok G F own cc nL ret) {kk0 : Fin 4} {i : Nat} {x : Int64} (L' : List (Nat × Value)) (d : decode cc pc = .ok (.lstore_n kk0, 1)) (e : (kk0 : Nat) = i) (hn : Nat.ble (i + 2) nL = true) (g : (i, Value.long x) :: L.filter (fun q => !(q.1 == i) && (!(q.1 == i + 1) && !(q.1 + 1 == i && q.2.category == 2))) = L') (kk : X G F R Q nL (pc + 1) L' st Ω k n) : X G F R Q nL pc L (.long x :: st) Ω k n := fun h H locs ls hΩ hR hS hl => lv_lstore_n O.x O.b d e hl (Nat.le_of_ble_eq_true hn) g (fun ls' hl' => kk h H locs ls' hΩ hR hS hl')
theorem x_lstore (O : Ok G F own cc nL ret) {i : Nat} {x : Int64} (L' : List (Nat × Value)) (d : decode cc pc = .ok (.lstore i, 2)) (hn : Nat.ble (i + 2) nL = true) (g : (i, Value.long x) :: L.filter (fun q => !(q.1 == i) && (!(q.1 == i + 1) && !(q.1 + 1 == i && q.2.category == 2))) = L') (kk : X G F R Q nL (pc + 2) L' st Ω k n) : X G F R Q nL pc L (.long x :: st) Ω k n := fun h H locs ls hΩ hR hS hl => lv_lstore O.x O.b d hl (Nat.le_of_ble_eq_true hn) g (fun ls' hl' => kk h H locs ls' hΩ hR hS hl')
theorem x_aload_n (O : Ok G F own cc nL ret) {kk0 : Fin 4} {x : Nat} (q : Nat) {i : Nat} (d : decode cc pc = .ok (.aload_n kk0, 1)) (e : (kk0 : Nat) = i) (g : L[q]? = some (i, .ref x)) (kk : X G F R Q nL (pc + 1) L (.ref x :: st) Ω k n) : X G F R Q nL pc L (st) Ω k n := fun h H locs ls hΩ hR hS hl => lv_aload_n O.x O.b d e (lv_at hl q g) (kk h H locs ls hΩ hR hS hl)
theorem x_aload (O : Ok G F own cc nL ret) {x : Nat} (q : Nat) {i : Nat} (d : decode cc pc = .ok (.aload i, 2)) (g : L[q]? = some (i, .ref x)) (kk : X G F R Q nL (pc + 2) L (.ref x :: st) Ω k n) : X G F R Q nL pc L (st) Ω k n := fun h H locs ls hΩ hR hS hl => lv_aload O.x O.b d (lv_at hl q g) (kk h H locs ls hΩ hR hS hl)
theorem x_astore_n (O : Ok G F own cc nL ret) {kk0 : Fin 4} {i : Nat} {x : Nat} (L' : List (Nat × Value)) (d : decode cc pc = .ok (.astore_n kk0, 1)) (e : (kk0 : Nat) = i) (hn : Nat.ble (i + 1) nL = true) (g : (i, Value.ref x) :: L.filter (fun q => !(q.1 == i) && !(q.1 + 1 == i && q.2.category == 2)) = L') (kk : X G F R Q nL (pc + 1) L' st Ω k n) : X G F R Q nL pc L (.ref x :: st) Ω k n := fun h H locs ls hΩ hR hS hl => lv_astore_n O.x O.b d e hl (Nat.le_of_ble_eq_true hn) g (fun ls' hl' => kk h H locs ls' hΩ hR hS hl')
theorem x_astore (O : Ok G F own cc nL ret) {i : Nat} {x : Nat} (L' : List (Nat × Value)) (d : decode cc pc = .ok (.astore i, 2)) (hn : Nat.ble (i + 1) nL = true) (g : (i, Value.ref x) :: L.filter (fun q => !(q.1 == i) && !(q.1 + 1 == i && q.2.category == 2)) = L') (kk : X G F R Q nL (pc + 2) L' st Ω k n) : X G F R Q nL pc L (.ref x :: st) Ω k n := fun h H locs ls hΩ hR hS hl => lv_astore O.x O.b d hl (Nat.le_of_ble_eq_true hn) g (fun ls' hl' => kk h H locs ls' hΩ hR hS hl')
theorem x_aload_nN (O : Ok G F own cc nL ret) {kk0 : Fin 4} {x : Option Nat} (q : Nat) {i : Nat} (d : decode cc pc = .ok (.aload_n kk0, 1)) (e : (kk0 : Nat) = i) (g : L[q]? = some (i, va_rf x)) (kk : X G F R Q nL (pc + 1) L (va_rf x :: st) Ω k n) : X G F R Q nL pc L st Ω k n := by
  intro h H locs ls hΩ hR hS hl
  cases x with
  | none => exact lv_aload_nN O.x O.b d e (lv_at hl q g) (kk h H locs ls hΩ hR hS hl)
  | some x => exact lv_aload_n O.x O.b d e (lv_at hl q g) (kk h H locs ls hΩ hR hS hl)
theorem x_aloadN (O : Ok G F own cc nL ret) {x : Option Nat} (q : Nat) {i : Nat} (d : decode cc pc = .ok (.aload i, 2)) (g : L[q]? = some (i, va_rf x)) (kk : X G F R Q nL (pc + 2) L (va_rf x :: st) Ω k n) : X G F R Q nL pc L st Ω k n := by
  intro h H locs ls hΩ hR hS hl
  cases x with
  | none => exact lv_aloadN O.x O.b d (lv_at hl q g) (kk h H locs ls hΩ hR hS hl)
  | some x => exact lv_aload O.x O.b d (lv_at hl q g) (kk h H locs ls hΩ hR hS hl)
theorem x_iadd (O : Ok G F own cc nL ret) {x y : Int32} (d : decode cc pc = .ok (.iadd, 1))  (kk : X G F R Q nL (pc + 1) L (.int (x + y) :: st) Ω k n) : X G F R Q nL pc L (.int y :: .int x :: st) Ω k n := fun h H locs ls hΩ hR hS hl => lv_iadd O.x O.b d (kk h H locs ls hΩ hR hS hl)
theorem x_isub (O : Ok G F own cc nL ret) {x y : Int32} (d : decode cc pc = .ok (.isub, 1))  (kk : X G F R Q nL (pc + 1) L (.int (x - y) :: st) Ω k n) : X G F R Q nL pc L (.int y :: .int x :: st) Ω k n := fun h H locs ls hΩ hR hS hl => lv_isub O.x O.b d (kk h H locs ls hΩ hR hS hl)
theorem x_imul (O : Ok G F own cc nL ret) {x y : Int32} (d : decode cc pc = .ok (.imul, 1))  (kk : X G F R Q nL (pc + 1) L (.int (x * y) :: st) Ω k n) : X G F R Q nL pc L (.int y :: .int x :: st) Ω k n := fun h H locs ls hΩ hR hS hl => lv_imul O.x O.b d (kk h H locs ls hΩ hR hS hl)
theorem x_iand (O : Ok G F own cc nL ret) {x y : Int32} (d : decode cc pc = .ok (.iand, 1))  (kk : X G F R Q nL (pc + 1) L (.int (x &&& y) :: st) Ω k n) : X G F R Q nL pc L (.int y :: .int x :: st) Ω k n := fun h H locs ls hΩ hR hS hl => lv_iand O.x O.b d (kk h H locs ls hΩ hR hS hl)
theorem x_ior (O : Ok G F own cc nL ret) {x y : Int32} (d : decode cc pc = .ok (.ior, 1))  (kk : X G F R Q nL (pc + 1) L (.int (x ||| y) :: st) Ω k n) : X G F R Q nL pc L (.int y :: .int x :: st) Ω k n := fun h H locs ls hΩ hR hS hl => lv_ior O.x O.b d (kk h H locs ls hΩ hR hS hl)
theorem x_ixor (O : Ok G F own cc nL ret) {x y : Int32} (d : decode cc pc = .ok (.ixor, 1))  (kk : X G F R Q nL (pc + 1) L (.int (x ^^^ y) :: st) Ω k n) : X G F R Q nL pc L (.int y :: .int x :: st) Ω k n := fun h H locs ls hΩ hR hS hl => lv_ixor O.x O.b d (kk h H locs ls hΩ hR hS hl)
theorem x_idiv (O : Ok G F own cc nL ret) {x y : Int32} (d : decode cc pc = .ok (.idiv, 1)) (hne : ¬ y = 0) (kk : X G F R Q nL (pc + 1) L (.int (x / y) :: st) Ω k n) : X G F R Q nL pc L (.int y :: .int x :: st) Ω k n := fun h H locs ls hΩ hR hS hl => lv_idiv O.x O.b d hne (kk h H locs ls hΩ hR hS hl)
theorem x_irem (O : Ok G F own cc nL ret) {x y : Int32} (d : decode cc pc = .ok (.irem, 1)) (hne : ¬ y = 0) (kk : X G F R Q nL (pc + 1) L (.int (x - x / y * y) :: st) Ω k n) : X G F R Q nL pc L (.int y :: .int x :: st) Ω k n := fun h H locs ls hΩ hR hS hl => lv_irem O.x O.b d hne (kk h H locs ls hΩ hR hS hl)
theorem x_ineg (O : Ok G F own cc nL ret) {x : Int32} (d : decode cc pc = .ok (.ineg, 1))  (kk : X G F R Q nL (pc + 1) L (.int (-x) :: st) Ω k n) : X G F R Q nL pc L (.int x :: st) Ω k n := fun h H locs ls hΩ hR hS hl => lv_ineg O.x O.b d (kk h H locs ls hΩ hR hS hl)
theorem x_ladd (O : Ok G F own cc nL ret) {x y : Int64} (d : decode cc pc = .ok (.ladd, 1))  (kk : X G F R Q nL (pc + 1) L (.long (x + y) :: st) Ω k n) : X G F R Q nL pc L (.long y :: .long x :: st) Ω k n := fun h H locs ls hΩ hR hS hl => lv_ladd O.x O.b d (kk h H locs ls hΩ hR hS hl)
theorem x_lmul (O : Ok G F own cc nL ret) {x y : Int64} (d : decode cc pc = .ok (.lmul, 1))  (kk : X G F R Q nL (pc + 1) L (.long (x * y) :: st) Ω k n) : X G F R Q nL pc L (.long y :: .long x :: st) Ω k n := fun h H locs ls hΩ hR hS hl => lv_lmul O.x O.b d (kk h H locs ls hΩ hR hS hl)
theorem x_dup (O : Ok G F own cc nL ret) {v : Value} (d : decode cc pc = .ok (.dup, 1)) (hc : v.category = 1) (kk : X G F R Q nL (pc + 1) L (v :: v :: st) Ω k n) : X G F R Q nL pc L (v :: st) Ω k n := fun h H locs ls hΩ hR hS hl => lv_dup O.x O.b d hc (kk h H locs ls hΩ hR hS hl)
theorem x_pop (O : Ok G F own cc nL ret) {v : Value} (d : decode cc pc = .ok (.pop, 1)) (hc : v.category = 1) (kk : X G F R Q nL (pc + 1) L (st) Ω k n) : X G F R Q nL pc L (v :: st) Ω k n := fun h H locs ls hΩ hR hS hl => lv_pop O.x O.b d hc (kk h H locs ls hΩ hR hS hl)
theorem x_dup2 (O : Ok G F own cc nL ret) {v w : Value} (d : decode cc pc = .ok (.dup2, 1)) (hc : v.category = 1) (hc2 : w.category = 1) (kk : X G F R Q nL (pc + 1) L (v :: w :: v :: w :: st) Ω k n) : X G F R Q nL pc L (v :: w :: st) Ω k n := fun h H locs ls hΩ hR hS hl => lv_dup2_11 O.x O.b d hc hc2 (kk h H locs ls hΩ hR hS hl)
theorem x_i2l (O : Ok G F own cc nL ret) {x : Int32} (d : decode cc pc = .ok (.i2l, 1))  (kk : X G F R Q nL (pc + 1) L (.long x.toInt64 :: st) Ω k n) : X G F R Q nL pc L (.int x :: st) Ω k n := fun h H locs ls hΩ hR hS hl => lv_i2l O.x O.b d rfl (kk h H locs ls hΩ hR hS hl)
theorem x_i2b (O : Ok G F own cc nL ret) {x : Int32} (d : decode cc pc = .ok (.i2b, 1))  (kk : X G F R Q nL (pc + 1) L (.int x.toInt8.toInt32 :: st) Ω k n) : X G F R Q nL pc L (.int x :: st) Ω k n := fun h H locs ls hΩ hR hS hl => lv_i2b O.x O.b d rfl (kk h H locs ls hΩ hR hS hl)
theorem x_ifeq (O : Ok G F own cc nL ret) {x : Int32} {off : Int} (tgt : Nat) (d : decode cc pc = .ok (.ifCond .eq off, 3)) (ht : (pc : Int) + off = (tgt : Int)) (kt : x = 0 → X G F R Q nL tgt L st Ω k n) (kf : ¬ x = 0 → X G F R Q nL (pc + 3) L st Ω k n) : X G F R Q nL pc L (.int x :: st) Ω k n := fun h H locs ls hΩ hR hS hl => lv_if_eq O.x O.b d ht (fun c => kt c h H locs ls hΩ hR hS hl) (fun c => kf c h H locs ls hΩ hR hS hl)
theorem x_ifne (O : Ok G F own cc nL ret) {x : Int32} {off : Int} (tgt : Nat) (d : decode cc pc = .ok (.ifCond .ne off, 3)) (ht : (pc : Int) + off = (tgt : Int)) (kt : ¬ x = 0 → X G F R Q nL tgt L st Ω k n) (kf : x = 0 → X G F R Q nL (pc + 3) L st Ω k n) : X G F R Q nL pc L (.int x :: st) Ω k n := fun h H locs ls hΩ hR hS hl => lv_if_ne O.x O.b d ht (fun c => kt c h H locs ls hΩ hR hS hl) (fun c => kf c h H locs ls hΩ hR hS hl)
theorem x_iflt (O : Ok G F own cc nL ret) {x : Int32} {off : Int} (tgt : Nat) (d : decode cc pc = .ok (.ifCond .lt off, 3)) (ht : (pc : Int) + off = (tgt : Int)) (kt : x < 0 → X G F R Q nL tgt L st Ω k n) (kf : ¬ x < 0 → X G F R Q nL (pc + 3) L st Ω k n) : X G F R Q nL pc L (.int x :: st) Ω k n := fun h H locs ls hΩ hR hS hl => lv_if_lt O.x O.b d ht (fun c => kt c h H locs ls hΩ hR hS hl) (fun c => kf c h H locs ls hΩ hR hS hl)
theorem x_ifge (O : Ok G F own cc nL ret) {x : Int32} {off : Int} (tgt : Nat) (d : decode cc pc = .ok (.ifCond .ge off, 3)) (ht : (pc : Int) + off = (tgt : Int)) (kt : 0 ≤ x → X G F R Q nL tgt L st Ω k n) (kf : ¬ 0 ≤ x → X G F R Q nL (pc + 3) L st Ω k n) : X G F R Q nL pc L (.int x :: st) Ω k n := fun h H locs ls hΩ hR hS hl => lv_if_ge O.x O.b d ht (fun c => kt c h H locs ls hΩ hR hS hl) (fun c => kf c h H locs ls hΩ hR hS hl)
theorem x_ifgt (O : Ok G F own cc nL ret) {x : Int32} {off : Int} (tgt : Nat) (d : decode cc pc = .ok (.ifCond .gt off, 3)) (ht : (pc : Int) + off = (tgt : Int)) (kt : 0 < x → X G F R Q nL tgt L st Ω k n) (kf : ¬ 0 < x → X G F R Q nL (pc + 3) L st Ω k n) : X G F R Q nL pc L (.int x :: st) Ω k n := fun h H locs ls hΩ hR hS hl => lv_if_gt O.x O.b d ht (fun c => kt c h H locs ls hΩ hR hS hl) (fun c => kf c h H locs ls hΩ hR hS hl)
theorem x_ifle (O : Ok G F own cc nL ret) {x : Int32} {off : Int} (tgt : Nat) (d : decode cc pc = .ok (.ifCond .le off, 3)) (ht : (pc : Int) + off = (tgt : Int)) (kt : x ≤ 0 → X G F R Q nL tgt L st Ω k n) (kf : ¬ x ≤ 0 → X G F R Q nL (pc + 3) L st Ω k n) : X G F R Q nL pc L (.int x :: st) Ω k n := fun h H locs ls hΩ hR hS hl => lv_if_le O.x O.b d ht (fun c => kt c h H locs ls hΩ hR hS hl) (fun c => kf c h H locs ls hΩ hR hS hl)
theorem x_icmpeq (O : Ok G F own cc nL ret) {x y : Int32} {off : Int} (tgt : Nat) (d : decode cc pc = .ok (.if_icmp .eq off, 3)) (ht : (pc : Int) + off = (tgt : Int)) (kt : x = y → X G F R Q nL tgt L st Ω k n) (kf : ¬ x = y → X G F R Q nL (pc + 3) L st Ω k n) : X G F R Q nL pc L (.int y :: .int x :: st) Ω k n := fun h H locs ls hΩ hR hS hl => lv_icmp_eq O.x O.b d ht (fun c => kt c h H locs ls hΩ hR hS hl) (fun c => kf c h H locs ls hΩ hR hS hl)
theorem x_icmpne (O : Ok G F own cc nL ret) {x y : Int32} {off : Int} (tgt : Nat) (d : decode cc pc = .ok (.if_icmp .ne off, 3)) (ht : (pc : Int) + off = (tgt : Int)) (kt : ¬ x = y → X G F R Q nL tgt L st Ω k n) (kf : x = y → X G F R Q nL (pc + 3) L st Ω k n) : X G F R Q nL pc L (.int y :: .int x :: st) Ω k n := fun h H locs ls hΩ hR hS hl => lv_icmp_ne O.x O.b d ht (fun c => kt c h H locs ls hΩ hR hS hl) (fun c => kf c h H locs ls hΩ hR hS hl)
theorem x_icmplt (O : Ok G F own cc nL ret) {x y : Int32} {off : Int} (tgt : Nat) (d : decode cc pc = .ok (.if_icmp .lt off, 3)) (ht : (pc : Int) + off = (tgt : Int)) (kt : x < y → X G F R Q nL tgt L st Ω k n) (kf : ¬ x < y → X G F R Q nL (pc + 3) L st Ω k n) : X G F R Q nL pc L (.int y :: .int x :: st) Ω k n := fun h H locs ls hΩ hR hS hl => lv_icmp_lt O.x O.b d ht (fun c => kt c h H locs ls hΩ hR hS hl) (fun c => kf c h H locs ls hΩ hR hS hl)
theorem x_icmpge (O : Ok G F own cc nL ret) {x y : Int32} {off : Int} (tgt : Nat) (d : decode cc pc = .ok (.if_icmp .ge off, 3)) (ht : (pc : Int) + off = (tgt : Int)) (kt : y ≤ x → X G F R Q nL tgt L st Ω k n) (kf : ¬ y ≤ x → X G F R Q nL (pc + 3) L st Ω k n) : X G F R Q nL pc L (.int y :: .int x :: st) Ω k n := fun h H locs ls hΩ hR hS hl => lv_icmp_ge O.x O.b d ht (fun c => kt c h H locs ls hΩ hR hS hl) (fun c => kf c h H locs ls hΩ hR hS hl)
theorem x_icmpgt (O : Ok G F own cc nL ret) {x y : Int32} {off : Int} (tgt : Nat) (d : decode cc pc = .ok (.if_icmp .gt off, 3)) (ht : (pc : Int) + off = (tgt : Int)) (kt : y < x → X G F R Q nL tgt L st Ω k n) (kf : ¬ y < x → X G F R Q nL (pc + 3) L st Ω k n) : X G F R Q nL pc L (.int y :: .int x :: st) Ω k n := fun h H locs ls hΩ hR hS hl => lv_icmp_gt O.x O.b d ht (fun c => kt c h H locs ls hΩ hR hS hl) (fun c => kf c h H locs ls hΩ hR hS hl)
theorem x_icmple (O : Ok G F own cc nL ret) {x y : Int32} {off : Int} (tgt : Nat) (d : decode cc pc = .ok (.if_icmp .le off, 3)) (ht : (pc : Int) + off = (tgt : Int)) (kt : x ≤ y → X G F R Q nL tgt L st Ω k n) (kf : ¬ x ≤ y → X G F R Q nL (pc + 3) L st Ω k n) : X G F R Q nL pc L (.int y :: .int x :: st) Ω k n := fun h H locs ls hΩ hR hS hl => lv_icmp_le O.x O.b d ht (fun c => kt c h H locs ls hΩ hR hS hl) (fun c => kf c h H locs ls hΩ hR hS hl)
theorem x_goto (O : Ok G F own cc nL ret) {off : Int} (tgt : Nat) (d : decode cc pc = .ok (.goto off, 3)) (ht : (pc : Int) + off = (tgt : Int)) (kk : X G F R Q nL tgt L st Ω k n) : X G F R Q nL pc L st Ω k n := fun h H locs ls hΩ hR hS hl => lv_goto O.x O.b d ht (kk h H locs ls hΩ hR hS hl)
theorem x_iinc (O : Ok G F own cc nL ret) {i : Nat} {j : Int} {x : Int32} (q : Nat) (v : Int32) (L' : List (Nat × Value)) (d : decode cc pc = .ok (.iinc i j, 3)) (g : L[q]? = some (i, .int x)) (hv : x + Int32.ofInt j = v) (hn : Nat.ble (i + 1) nL = true) (g' : (i, Value.int v) :: L.filter (fun q => !(q.1 == i) && !(q.1 + 1 == i && q.2.category == 2)) = L') (kk : X G F R Q nL (pc + 3) L' st Ω k n) : X G F R Q nL pc L st Ω k n := fun h H locs ls hΩ hR hS hl => lv_iinc O.x O.b d hl g hv (Nat.le_of_ble_eq_true hn) g' (fun ls' hl' => kk h H locs ls' hΩ hR hS hl')
theorem x_ishl (O : Ok G F own cc nL ret) {x y : Int32} (d : decode cc pc = .ok (.ishl, 1))  (kk : X G F R Q nL (pc + 1) L (.int (x <<< (y &&& 31)) :: st) Ω k n) : X G F R Q nL pc L (.int y :: .int x :: st) Ω k n := fun h H locs ls hΩ hR hS hl => lv_ishl O.x O.b d (kk h H locs ls hΩ hR hS hl)
theorem x_ishr (O : Ok G F own cc nL ret) {x y : Int32} (d : decode cc pc = .ok (.ishr, 1))  (kk : X G F R Q nL (pc + 1) L (.int (x >>> (y &&& 31)) :: st) Ω k n) : X G F R Q nL pc L (.int y :: .int x :: st) Ω k n := fun h H locs ls hΩ hR hS hl => lv_ishr O.x O.b d (kk h H locs ls hΩ hR hS hl)
theorem x_iushr (O : Ok G F own cc nL ret) {x y : Int32} (d : decode cc pc = .ok (.iushr, 1))  (kk : X G F R Q nL (pc + 1) L (.int (x.toUInt32 >>> (y.toUInt32 &&& Int32.toUInt32 31)).toInt32 :: st) Ω k n) : X G F R Q nL pc L (.int y :: .int x :: st) Ω k n := fun h H locs ls hΩ hR hS hl => lv_iushr O.x O.b d rfl (kk h H locs ls hΩ hR hS hl)
theorem x_lcmp (O : Ok G F own cc nL ret) {x y : Int64} (d : decode cc pc = .ok (.lcmp, 1))  (kk : X G F R Q nL (pc + 1) L (.int (lg_cmp x y) :: st) Ω k n) : X G F R Q nL pc L (.long y :: .long x :: st) Ω k n := fun h H locs ls hΩ hR hS hl => W.lcmp O.x O.b d (kk h H locs ls hΩ hR hS hl)
theorem x_ldc (O : Ok G F own cc nL ret) {index : Nat} {v : Int32} (hc : Cond.constant own index v ∈ lw_all) (d : decode cc pc = .ok (.ldc index, 2)) (kk : X G F R Q nL (pc + 2) L (.int v :: st) Ω k n) : X G F R Q nL pc L st Ω k n := fun h H locs ls hΩ hR hS hl => lv_ldc O.x O.b O.ow (O.ts _ hc) d (kk h H locs ls hΩ hR hS hl)
theorem x_ldcw (O : Ok G F own cc nL ret) {index : Nat} {v : Int32} (hc : Cond.constant own index v ∈ lw_all) (d : decode cc pc = .ok (.ldc_w index, 3)) (kk : X G F R Q nL (pc + 3) L (.int v :: st) Ω k n) : X G F R Q nL pc L st Ω k n := fun h H locs ls hΩ hR hS hl => lv_ldcw O.x O.b O.ow (O.ts _ hc) d (kk h H locs ls hΩ hR hS hl)
theorem x_tabIn (O : Ok G F own cc nL ret) {dflt lo hi : Int} {offs : Array Int} {len : Nat} {x : Int32} {off : Int} (tgt : Nat) (d : decode cc pc = .ok (.tableswitch dflt lo hi offs, len)) (h1 : ¬ x.toInt < lo) (h2 : ¬ hi < x.toInt) (ho : offs[(x.toInt - lo).toNat]? = some off) (ht : (pc : Int) + off = (tgt : Int)) (kk : X G F R Q nL tgt L st Ω k n) : X G F R Q nL pc L (.int x :: st) Ω k n := fun h H locs ls hΩ hR hS hl => lv_tableIn O.x O.b d h1 h2 ho ht (kk h H locs ls hΩ hR hS hl)
theorem x_tabOut (O : Ok G F own cc nL ret) {dflt lo hi : Int} {offs : Array Int} {len : Nat} {x : Int32} (tgt : Nat) (d : decode cc pc = .ok (.tableswitch dflt lo hi offs, len)) (h1 : x.toInt < lo ∨ hi < x.toInt) (ht : (pc : Int) + dflt = (tgt : Int)) (kk : X G F R Q nL tgt L st Ω k n) : X G F R Q nL pc L (.int x :: st) Ω k n := fun h H locs ls hΩ hR hS hl => lv_tableOut O.x O.b d h1 ht (kk h H locs ls hΩ hR hS hl)
theorem x_iald (O : Ok G F own cc nL ret) {a N : Nat} {f : Nat → Int32} {i : Int32} (ha : ∀ h, Ω h → h a = some (.inl (uI G 0, N, .inl f))) (hin : vp_in i N) (d : decode cc pc = .ok (.iaload, 1)) (kk : X G F R Q nL (pc + 1) L (.int (f i.toNatClampNeg) :: st) Ω k n) : X G F R Q nL pc L (.int i :: .ref a :: st) Ω k n := by
  rintro h H locs ls hΩ ⟨ws, hP, hD, hlk⟩ hS hl
  obtain ⟨q, hq⟩ := hlk _ _ (ha h hΩ)
  exact va_iald O.x O.b O.K hP q 0 hq rfl hin d (kk h H locs ls hΩ ⟨ws, hP, hD, hlk⟩ hS hl)
theorem x_bald (O : Ok G F own cc nL ret) {a N : Nat} {f : Nat → Int32} {i : Int32} (ha : ∀ h, Ω h → h a = some (.inl (uI G 1, N, .inl f))) (hin : vp_in i N) (d : decode cc pc = .ok (.baload, 1)) (kk : X G F R Q nL (pc + 1) L (.int (f i.toNatClampNeg) :: st) Ω k n) : X G F R Q nL pc L (.int i :: .ref a :: st) Ω k n := by
  rintro h H locs ls hΩ ⟨ws, hP, hD, hlk⟩ hS hl
  obtain ⟨q, hq⟩ := hlk _ _ (ha h hΩ)
  exact va_bald O.x O.b O.K hP q 1 hq rfl hin d (kk h H locs ls hΩ ⟨ws, hP, hD, hlk⟩ hS hl)
theorem x_zald (O : Ok G F own cc nL ret) {a N : Nat} {f : Nat → Int32} {i : Int32} (ha : ∀ h, Ω h → h a = some (.inl (uI G 2, N, .inl f))) (hin : vp_in i N) (d : decode cc pc = .ok (.baload, 1)) (kk : X G F R Q nL (pc + 1) L (.int (f i.toNatClampNeg) :: st) Ω k n) : X G F R Q nL pc L (.int i :: .ref a :: st) Ω k n := by
  rintro h H locs ls hΩ ⟨ws, hP, hD, hlk⟩ hS hl
  obtain ⟨q, hq⟩ := hlk _ _ (ha h hΩ)
  exact va_zald O.x O.b O.K hP q 2 hq rfl hin d (kk h H locs ls hΩ ⟨ws, hP, hD, hlk⟩ hS hl)
theorem x_lald (O : Ok G F own cc nL ret) {a N : Nat} {f : Nat → Int64} {i : Int32} (ha : ∀ h, Ω h → h a = some (.inl (uI G 3, N, .inr (.inl f)))) (hin : vp_in i N) (d : decode cc pc = .ok (.laload, 1)) (kk : X G F R Q nL (pc + 1) L (.long (f i.toNatClampNeg) :: st) Ω k n) : X G F R Q nL pc L (.int i :: .ref a :: st) Ω k n := by
  rintro h H locs ls hΩ ⟨ws, hP, hD, hlk⟩ hS hl
  obtain ⟨q, hq⟩ := hlk _ _ (ha h hΩ)
  exact va_lald O.x O.b O.K hP q 3 hq rfl hin d (kk h H locs ls hΩ ⟨ws, hP, hD, hlk⟩ hS hl)
theorem x_iast (O : Ok G F own cc nL ret) {a N : Nat} {f : Nat → Int32} {i : Int32} {x : Int32} (ha : ∀ h, Ω h → h a = some (.inl (uI G 0, N, .inl f))) (hin : vp_in i N) (d : decode cc pc = .ok (.iastore, 1)) (Ω' : Hp → Prop) (hw : ∀ h, Ω h → Ω' (hset h a (.inl (uI G 0, N, .inl (upd f i.toNatClampNeg x))))) (kk : X G F R Q nL (pc + 1) L st Ω' k n) : X G F R Q nL pc L (.int x :: .int i :: .ref a :: st) Ω k n := by
  rintro h H locs ls hΩ ⟨ws, hP, hD, hlk⟩ hS hl
  obtain ⟨q, hq⟩ := hlk _ _ (ha h hΩ)
  exact va_iast O.x O.b O.K hP hD hS q 0 hq rfl hin d (fun H1 locs1 hP1 hD1 hS1 => kk _ H1 locs1 ls (hw h hΩ) ⟨_, hP1, hD1, hlk.set hq⟩ hS1 hl)
theorem x_bast (O : Ok G F own cc nL ret) {a N : Nat} {f : Nat → Int32} {i : Int32} {x : Int32} (ha : ∀ h, Ω h → h a = some (.inl (uI G 1, N, .inl f))) (hin : vp_in i N) (d : decode cc pc = .ok (.bastore, 1)) (Ω' : Hp → Prop) (hw : ∀ h, Ω h → Ω' (hset h a (.inl (uI G 1, N, .inl (upd f i.toNatClampNeg (vp_nar .byte x)))))) (kk : X G F R Q nL (pc + 1) L st Ω' k n) : X G F R Q nL pc L (.int x :: .int i :: .ref a :: st) Ω k n := by
  rintro h H locs ls hΩ ⟨ws, hP, hD, hlk⟩ hS hl
  obtain ⟨q, hq⟩ := hlk _ _ (ha h hΩ)
  exact va_bast O.x O.b O.K hP hD hS q 1 hq rfl hin d (fun H1 locs1 hP1 hD1 hS1 => kk _ H1 locs1 ls (hw h hΩ) ⟨_, hP1, hD1, hlk.set hq⟩ hS1 hl)
theorem x_zast (O : Ok G F own cc nL ret) {a N : Nat} {f : Nat → Int32} {i : Int32} {x : Int32} (ha : ∀ h, Ω h → h a = some (.inl (uI G 2, N, .inl f))) (hin : vp_in i N) (d : decode cc pc = .ok (.bastore, 1)) (Ω' : Hp → Prop) (hw : ∀ h, Ω h → Ω' (hset h a (.inl (uI G 2, N, .inl (upd f i.toNatClampNeg (vp_nar .boolean x)))))) (kk : X G F R Q nL (pc + 1) L st Ω' k n) : X G F R Q nL pc L (.int x :: .int i :: .ref a :: st) Ω k n := by
  rintro h H locs ls hΩ ⟨ws, hP, hD, hlk⟩ hS hl
  obtain ⟨q, hq⟩ := hlk _ _ (ha h hΩ)
  exact va_zast O.x O.b O.K hP hD hS q 2 hq rfl hin d (fun H1 locs1 hP1 hD1 hS1 => kk _ H1 locs1 ls (hw h hΩ) ⟨_, hP1, hD1, hlk.set hq⟩ hS1 hl)
theorem x_last (O : Ok G F own cc nL ret) {a N : Nat} {f : Nat → Int64} {i : Int32} {x : Int64} (ha : ∀ h, Ω h → h a = some (.inl (uI G 3, N, .inr (.inl f)))) (hin : vp_in i N) (d : decode cc pc = .ok (.lastore, 1)) (Ω' : Hp → Prop) (hw : ∀ h, Ω h → Ω' (hset h a (.inl (uI G 3, N, .inr (.inl (vp_updL f i.toNatClampNeg x)))))) (kk : X G F R Q nL (pc + 1) L st Ω' k n) : X G F R Q nL pc L (.long x :: .int i :: .ref a :: st) Ω k n := by
  rintro h H locs ls hΩ ⟨ws, hP, hD, hlk⟩ hS hl
  obtain ⟨q, hq⟩ := hlk _ _ (ha h hΩ)
  exact va_last O.x O.b O.K hP hD hS q 3 hq rfl hin d (fun H1 locs1 hP1 hD1 hS1 => kk _ H1 locs1 ls (hw h hΩ) ⟨_, hP1, hD1, hlk.set hq⟩ hS1 hl)
theorem x_aald (O : Ok G F own cc nL ret) (t : Nat) {C : String} {a N : Nat} {f : Nat → Option Nat} {i : Int32} (ha : ∀ h, Ω h → h a = some (.inl (uI G t, N, .inr (.inr (.inr (.inr f)))))) (ht : (uTys (uI G))[t]? = some (uI G t, .object C)) (hin : vp_in i N) (d : decode cc pc = .ok (.aaload, 1)) (kk : X G F R Q nL (pc + 1) L (va_rf (f i.toNatClampNeg) :: st) Ω k n) : X G F R Q nL pc L (.int i :: .ref a :: st) Ω k n := by
  rintro h H locs ls hΩ ⟨ws, hP, hD, hlk⟩ hS hl
  obtain ⟨q, hq⟩ := hlk _ _ (ha h hΩ)
  exact va_aldq O.x O.b O.K hP q t hq ht hin d (kk h H locs ls hΩ ⟨ws, hP, hD, hlk⟩ hS hl)
theorem x_aast (O : Ok G F own cc nL ret) (t : Nat) {r : vw_C} {a N v ci : Nat} {vs : List Value} {f : Nat → Option Nat} {i : Int32} (ha : ∀ h, Ω h → h a = some (.inl (uI G t, N, .inr (.inr (.inr (.inr f)))))) (hv : ∀ h, Ω h → h v = some (.inr (ci, vs))) (hc : uCl[ci]? = some r) (ht : (uTys (uI G))[t]? = some (uI G t, .object r.1)) (hin : vp_in i N) (d : decode cc pc = .ok (.aastore, 1)) (Ω' : Hp → Prop) (hw : ∀ h, Ω h → Ω' (hset h a (.inl (uI G t, N, .inr (.inr (.inr (.inr (va_up f i.toNatClampNeg (some v))))))))) (kk : X G F R Q nL (pc + 1) L st Ω' k n) : X G F R Q nL pc L (.ref v :: .int i :: .ref a :: st) Ω k n := by
  rintro h H locs ls hΩ ⟨ws, hP, hD, hlk⟩ hS hl
  obtain ⟨q, hq⟩ := hlk _ _ (ha h hΩ)
  obtain ⟨qk, hqk⟩ := hlk _ _ (hv h hΩ)
  exact va_astq O.x O.b O.K hP hD hS q t qk ci hq ht hqk hc hin d (fun H1 locs1 hP1 hD1 hS1 => kk _ H1 locs1 ls (hw h hΩ) ⟨_, hP1, hD1, hlk.set hq⟩ hS1 hl)
theorem x_alen (O : Ok G F own cc nL ret) (t : Nat) {ty : FieldType} {a : Nat} {x : vp_A} (v : Int32) (ha : ∀ h, Ω h → h a = some (.inl (uI G t, x))) (ht : (uTys (uI G))[t]? = some (uI G t, ty)) (hv : Int32.ofNat x.1 = v) (d : decode cc pc = .ok (.arraylength, 1)) (kk : X G F R Q nL (pc + 1) L (.int v :: st) Ω k n) : X G F R Q nL pc L (.ref a :: st) Ω k n := by
  rintro h H locs ls hΩ ⟨ws, hP, hD, hlk⟩ hS hl
  obtain ⟨q, hq⟩ := hlk _ _ (ha h hΩ)
  exact va_alen O.x O.b O.K hP q t hq ht hv d (kk h H locs ls hΩ ⟨ws, hP, hD, hlk⟩ hS hl)
/-- own's entry 'index' is field kf of class ci of uCl (its own, or a nest mate's) -/
def FK (own : String) (index ci kf : Nat) : Prop := ∃ (C : String) (T : u_T) (N : Nat), uCl[ci]? = some (C, T, N) ∧ (∀ w ∈ u_ws C T N, w ∈ lw_all) ∧ kf < N ∧ (Cond.fieldLink own index (T kf).1 (T kf).2.1 (T kf).2.2.1 ∈ lw_all ∨ ∃ host : String, Cond.fieldLinkNest own index (T kf).1 (T kf).2.1 (T kf).2.2.1 host ∈ lw_tbl)
def FP (own : String) (index ci kf : Nat) (ty : FieldType) : Prop := ∃ (C : String) (T : u_T) (N : Nat) (ty0 : Nat → FieldType), uCl[ci]? = some (C, T, N) ∧ (∀ w ∈ u_ws C T N, w ∈ lw_all) ∧ (∀ k, k < N → parseFieldDescriptor (T k).2.2.1 = some (ty0 k)) ∧ (∀ a, a < N → ∀ b, b < N → a ≠ b → (T a).2.1 ≠ (T b).2.1) ∧ kf < N ∧ (T kf).2.2.2 = false ∧ parseFieldDescriptor (T kf).2.2.1 = some ty ∧ (Cond.fieldLink own index (T kf).1 (T kf).2.1 (T kf).2.2.1 ∈ lw_all ∨ ∃ host : String, Cond.fieldLinkNest own index (T kf).1 (T kf).2.1 (T kf).2.2.1 host ∈ lw_tbl)
def FF (own : String) (index ci kf : Nat) (ty : FieldType) : Prop := ∃ (C : String) (T : u_T) (N : Nat) (ty0 : Nat → FieldType), uCl[ci]? = some (C, T, N) ∧ (∀ w ∈ u_ws C T N, w ∈ lw_all) ∧ (∀ k, k < N → parseFieldDescriptor (T k).2.2.1 = some (ty0 k)) ∧ (∀ a, a < N → ∀ b, b < N → a ≠ b → (T a).2.1 ≠ (T b).2.1) ∧ kf < N ∧ (T kf).2.2.2 = true ∧ (T kf).1 = own ∧ parseFieldDescriptor (T kf).2.2.1 = some ty ∧ Cond.fieldLink own index (T kf).1 (T kf).2.1 (T kf).2.2.1 ∈ lw_all
theorem x_get (O : Ok G F own cc nL ret) {index ci kf a : Nat} {fs : List Value} {v : Value} (K : FK own index ci kf) (ha : ∀ h, Ω h → h a = some (.inr (ci, fs))) (hv : fs[kf]? = some v) (d : decode cc pc = .ok (.getfield index, 3)) (kk : X G F R Q nL (pc + 3) L (v :: st) Ω k n) : X G F R Q nL pc L (.ref a :: st) Ω k n := by
  rintro h H locs ls hΩ ⟨ws, hP, hD, hlk⟩ hS hl
  obtain ⟨q, hq⟩ := hlk _ _ (ha h hΩ)
  obtain ⟨C, T, N, hc, hin, hk, hw | ⟨host, hw⟩⟩ := K
  · exact va_get O.x O.b O.ts hin O.ow O.K hP q hq hc kf hk (O.ts _ hw) (fun _ z => z) hv d (kk h H locs ls hΩ ⟨ws, hP, hD, hlk⟩ hS hl)
  · exact va_getN O.x O.b O.ts hin O.ow O.K hP q hq hc kf hk (va_Nw.use rfl (O.pre.1.2.2.1 _ _ _ _ _ _ hw)) (fun _ z => z) hv d (kk h H locs ls hΩ ⟨ws, hP, hD, hlk⟩ hS hl)
theorem x_put (O : Ok G F own cc nL ret) {index ci kf a : Nat} {ty : FieldType} {fs : List Value} {v : Value} (K : FP own index ci kf ty) (ha : ∀ h, Ω h → h a = some (.inr (ci, fs))) (hn : narrow ty v = v) (hf : fits ty v = true) (hlen : Nat.ble (kf + 1) fs.length = true) (d : decode cc pc = .ok (.putfield index, 3)) (Ω' : Hp → Prop) (hw : ∀ h, Ω h → Ω' (hset h a (.inr (ci, fs.set kf v)))) (kk : X G F R Q nL (pc + 3) L st Ω' k n) : X G F R Q nL pc L (v :: .ref a :: st) Ω k n := by
  rintro h H locs ls hΩ ⟨ws, hP, hD, hlk⟩ hS hl
  obtain ⟨q, hq⟩ := hlk _ _ (ha h hΩ)
  obtain ⟨C, T, N, ty0, hc, hin, hty, hnm, hk, hfin, hd, hlw | ⟨host, hlw⟩⟩ := K
  · exact va_put O.x O.b O.ts hin ty0 hty hnm O.ow O.K hP hD hS q hq hc kf hk (O.ts _ hlw) (fun _ z => z) hfin hd hn hf (Nat.le_of_ble_eq_true hlen) d (fun H1 locs1 hP1 hD1 hS1 => kk _ H1 locs1 ls (hw h hΩ) ⟨_, hP1, hD1, hlk.set hq⟩ hS1 hl)
  · exact va_putN O.x O.b O.ts hin ty0 hty hnm O.ow O.K hP hD hS q hq hc kf hk (va_Nw.use rfl (O.pre.1.2.2.1 _ _ _ _ _ _ hlw)) (fun _ z => z) hfin hd hn hf (Nat.le_of_ble_eq_true hlen) d (fun H1 locs1 hP1 hD1 hS1 => kk _ H1 locs1 ls (hw h hΩ) ⟨_, hP1, hD1, hlk.set hq⟩ hS1 hl)
/-- a final field, in the class's own constructor -/
theorem x_putF (O : Ok G F own cc nL ret) (hi : (fMe F).name = "<init>") {index ci kf a : Nat} {ty : FieldType} {fs : List Value} {v : Value} (K : FF own index ci kf ty) (ha : ∀ h, Ω h → h a = some (.inr (ci, fs))) (hn : narrow ty v = v) (hf : fits ty v = true) (hlen : Nat.ble (kf + 1) fs.length = true) (d : decode cc pc = .ok (.putfield index, 3)) (Ω' : Hp → Prop) (hw : ∀ h, Ω h → Ω' (hset h a (.inr (ci, fs.set kf v)))) (kk : X G F R Q nL (pc + 3) L st Ω' k n) : X G F R Q nL pc L (v :: .ref a :: st) Ω k n := by
  rintro h H locs ls hΩ ⟨ws, hP, hD, hlk⟩ hS hl
  obtain ⟨q, hq⟩ := hlk _ _ (ha h hΩ)
  obtain ⟨C, T, N, ty0, hc, hin, hty, hnm, hk, hfin, hdc, hd, hlw⟩ := K
  exact va_putF O.x O.b O.ts hin ty0 hty hnm O.ow O.K hP hD hS q hq hc kf hk (O.ts _ hlw) (fun _ z => z) hfin hi hdc hd hn hf (Nat.le_of_ble_eq_true hlen) d (fun H1 locs1 hP1 hD1 hS1 => kk _ H1 locs1 ls (hw h hΩ) ⟨_, hP1, hD1, hlk.set hq⟩ hS1 hl)
/-- ends -/
theorem x_iret (O : Ok G F own cc nL ret) {P : Option Value → Hp → Prop} {PX : String → Nat → Hp → Prop} {mc ms : Nat} {v : Int32} (hr : ret = some .int) (d : decode cc pc = .ok (.ireturn, 1)) (hk : k = mc) (hn : n = ms) (hp : ∀ h, Ω h → P (some (.int v)) h) : X G F R (CQ G F P PX mc ms) nL pc L [.int v] Ω k n := by
  intro h H locs ls hΩ hR hS hl
  subst hk; subst hn
  exact vx_ret (W.iret O.x O.b (O.r.trans hr) (fun t ht hW => ⟨_, h, rfl, hp h hΩ, by rw [ht]; exact hR, hS.F ht⟩) hS.2.2 d O.lk)
theorem x_zret (O : Ok G F own cc nL ret) {P : Option Value → Hp → Prop} {PX : String → Nat → Hp → Prop} {mc ms : Nat} {v : Int32} (hr : ret = some .boolean) (d : decode cc pc = .ok (.ireturn, 1)) (hk : k = mc) (hn : n = ms) (hv : narrow .boolean (.int v) = .int v) (hp : ∀ h, Ω h → P (some (.int v)) h) : X G F R (CQ G F P PX mc ms) nL pc L [.int v] Ω k n := by
  intro h H locs ls hΩ hR hS hl
  subst hk; subst hn
  exact vx_ret (W.zret O.x O.b (O.r.trans hr) hv (fun t ht hW => ⟨_, h, rfl, hp h hΩ, by rw [ht]; exact hR, hS.F ht⟩) hS.2.2 d O.lk)
theorem x_vret (O : Ok G F own cc nL ret) {P : Option Value → Hp → Prop} {PX : String → Nat → Hp → Prop} {mc ms : Nat} (hr : ret = none) (d : decode cc pc = .ok (.return_, 1)) (hk : k = mc) (hn : n = ms) (hp : ∀ h, Ω h → P none h) : X G F R (CQ G F P PX mc ms) nL pc L [] Ω k n := by
  intro h H locs ls hΩ hR hS hl
  subst hk; subst hn
  exact vx_ret (W.vret O.x O.b (O.r.trans hr) (fun t ht hW => ⟨_, h, rfl, hp h hΩ, by rw [ht]; exact hR, hS.F ht⟩) hS.2.2 d O.lk)
theorem x_aret (O : Ok G F own cc nL ret) {P : Option Value → Hp → Prop} {PX : String → Nat → Hp → Prop} {mc ms : Nat} {x : Option Nat} {C : String} (hr : ret = some (.object C)) (d : decode cc pc = .ok (.areturn, 1)) (hk : k = mc) (hn : n = ms) (hp : ∀ h, Ω h → P (some (va_rf x)) h) : X G F R (CQ G F P PX mc ms) nL pc L [va_rf x] Ω k n := by
  intro h H locs ls hΩ hR hS hl
  subst hk; subst hn
  refine vx_ret (W.aret (v := va_rf x) O.x O.b (O.r.trans hr) (Or.inl ⟨C, rfl⟩) ?_ (fun t ht hW => ⟨_, h, rfl, hp h hΩ, by rw [ht]; exact hR, hS.F ht⟩) hS.2.2 d O.lk)
  cases x with
  | none => exact Or.inl rfl
  | some a => exact Or.inr ⟨a, rfl⟩
theorem x_out (O : Ok G F own cc nL ret) {P : Option Value → Hp → Prop} {PX : String → Nat → Hp → Prop} {mc ms : Nat} {E : String} {q : Nat} (hout : ∀ x ∈ (fC F).exceptionTable.toList, covers x pc = false) (hk : k ≤ mc) (hn : n ≤ ms) (hp : ∀ h, Ω h → PX E q h) : XT G F R (CQ G F P PX mc ms) nL pc L rest Ω k n E q := by
  intro h H locs ls ce hΩ hR hS hl hc hv hcl
  exact vx_out hout O.lk hc hv hcl (fun t ht hA => ⟨h, hp h hΩ, by rw [ht]; exact hR, hS.F ht⟩) hS.2.2 hk hn
theorem noH.out (hn : noH F) {pc : Nat} : ∀ x ∈ (fC F).exceptionTable.toList, covers x pc = false := fun x hx => (hn x hx).elim
/-- calls: what a run of the callee gives -/
def XRun (G : UG) (F : UF) (R : Room) (nL pc : Nat) (L : List (Nat × Value)) (st rest : List Value) (Ω : Hp → Prop) (k n mc ms : Nat) (P : Option Value → Hp → Prop) (PX : String → Nat → Hp → Prop) : Prop :=
  ∀ (h : Hp) (H : Heap) (locs : List Loc) (ls : Array Slot), Ω h → Rep G h H → va_S (uA G) (fS F).heap H locs → lv_has ls nL L → ∃ a : Array Value, vx_Run (fP F) (uL G) (fE F) R (fS F) (fM F) (fA F) (fBl F) (fMe F) (fC F) H locs k n mc ms (F0 (fM F) pc ls st) rest (uQc G P a) (uXC G PX) (uA G)
theorem x_run {mc ms : Nat} {P : Option Value → Hp → Prop} {PX : String → Nat → Hp → Prop} (hr : XRun G F R nL pc L st rest Ω k n mc ms P PX)
    (kk : ∀ v : Option Value, X G F R Q nL (pc + 3) L (v.toList ++ rest) (P v) (k + mc) (n + ms))
    (kx : ∀ (E : String) (q : Nat), XT G F R Q nL pc L rest (PX E q) (k + mc) (n + ms) E q) : X G F R Q nL pc L st Ω k n := by
  intro h H locs ls hΩ hR hS hl T hT XX
  obtain ⟨a, hrun⟩ := hr h H locs ls hΩ hR hS hl
  rcases hrun T hT XX with ⟨v, st₀, t, T', L1, h0, X', hL, e1, e2, ⟨v', h', hv, hp, hR', hF⟩, stp⟩ | ⟨q, st₀, t, T', L1, E, ce, h0, X', hL, e1, e2, ⟨h', hp, hR', hF⟩, hce, hcv, hcl, stp⟩
  · cases hv
    obtain ⟨-, -, k3⟩ := vx_keep h0 e1 hS (fun _ _ z => z) (fun _ z => z) hL hF
    obtain ⟨t2, a1, b1⟩ := kk v h' T'.heap (locs ++ L1) ls hp (by rw [e1]; exact hR') k3 hl T' rfl X'
    exact ⟨t2, stp t2 a1, b1⟩
  · obtain ⟨-, -, k3⟩ := vx_keep h0 e1 hS (fun _ _ z => z) (fun _ z => z) hL hF
    obtain ⟨t2, a1, b1⟩ := kx E q h' T'.heap (locs ++ L1) ls ce hp (by rw [e1]; exact hR') k3 hl (by rw [e1]; exact hce) hcv hcl T' rfl X'
    exact ⟨t2, stp.trans a1, b1⟩
theorem Ok.fix (O : Ok G F own cc nL ret) : CallFix (fP F) (fM F) (fC F) cc nL (fS F) (fA F) lw_all own := ⟨O.x, O.b, O.ml, O.ow, O.ts⟩
theorem Rep.recv (O : Ok G F own cc nL ret) {H : Heap} {h : Hp} {a ci : Nat} {fs : List Value} {r : vw_C} (hR : Rep G h H) (ha : h a = some (.inr (ci, fs))) (hc : uCl[ci]? = some r) : ∃ cell : Cell, H[a]? = some cell ∧ cell.vm.isStatics = false ∧ (fS F).vm.findClass r.1 = some cell.cls := by
  obtain ⟨ws, hP, hD, hlk⟩ := hR
  obtain ⟨q, hq⟩ := hlk _ _ ha
  exact va_recv O.K hP hc hq
theorem Ok.at (O : Ok G F own cc nL ret) {h : Hp} {H : Heap} {locs : List Loc} (hΩ : Ω h) (hR : Rep G h H) (hS : va_S (uA G) (fS F).heap H locs) {av : List Value} : ∀ U : State, U.heap = H → (fS F).WarmedH U.vm → va_Pc av (fun U => Pre G Ω U) av.toArray U := by
  intro U hU hW
  exact ⟨rfl, ⟨h, hΩ, by rw [hU]; exact hR⟩, O.pre.to hW (by rw [hU]; exact hS)⟩
/-- what a callee's head must say, shown once a method: it isn't a method handle's, and has so many arguments -/
def HD (y : MethodName) (na : Nat) : Prop := y.cls ≠ "java/lang/invoke/MethodHandle" ∧ y.cls ≠ "java/lang/invoke/VarHandle" ∧ (parseMethodDescriptor y.desc).map (fun d => d.parameters.length) = some na
theorem r_V (O : Ok G F own cc nL ret) {index ci b fr lo mc ms maxL : Nat} {y : MethodName} {bytes : ByteArray} {ret1 : Option FieldType} {As : List Value} {fs : List Value} {r : vw_C} {P : Option Value → Hp → Prop} {PX : String → Nat → Hp → Prop} (na : Nat)
    (con : Con G y bytes maxL ret1 fr lo mc ms (.ref b :: As) Ω P PX) (ha : ∀ h, Ω h → h b = some (.inr (ci, fs))) (hc : uCl[ci]? = some r) (hw : GoodIn lw_all (wsV own index r.1 y (ws_ y bytes maxL ret1))) (hyc : y.cls = r.1) (hd : HD y na) (hn : As.length = na) (hR0 : Nat.ble (fr + 1) R.frames = true) (hR1 : Nat.ble (8 + (maxL + 11) + lo) R.locals = true) (hcs : k + mc ≤ R.cells ∧ n + ms ≤ R.slots)
    (hst : st = As.reverse ++ .ref b :: rest) (hrm : Nat.ble (rest.map fun v => v.category).sum 8 = true) (d : decode cc pc = .ok (.invokevirtual index, 3)) : XRun G F R nL pc L st rest Ω k n mc ms P PX := by
  intro h H locs ls hΩ hR hS hl
  refine ⟨(Value.ref b :: As).toArray, vx_runV (As := As) (rest := rest) (b := b) (C := r.1) O.fix con (cwV na O.ts hw rfl rfl rfl ⟨hyc, hd⟩ ⟨Nat.le_of_ble_eq_true hR0, Nat.le_of_ble_eq_true hR1⟩) ⟨Pre.blind, Rep.recv O hR (ha h hΩ) hc, O.at hΩ hR hS⟩ rfl hn hl.1 hst ?_ d hcs⟩
  show 2 * 0 + _ ≤ 8
  rw [Nat.mul_zero, Nat.zero_add]
  exact Nat.le_of_ble_eq_true hrm
theorem r_S (O : Ok G F own cc nL ret) {index fr lo mc ms maxL : Nat} {y : MethodName} {bytes : ByteArray} {ret1 : Option FieldType} {As : List Value} {P : Option Value → Hp → Prop} {PX : String → Nat → Hp → Prop} (na : Nat)
    (con : Con G y bytes maxL ret1 fr lo mc ms As Ω P PX) (hw : GoodIn lw_all (va_wsS own index y (ws_ y bytes maxL ret1))) (hd : HD y na) (hn : As.length = na) (hR0 : Nat.ble (fr + 1) R.frames = true) (hR1 : Nat.ble (8 + (maxL + 11) + lo) R.locals = true) (hcs : k + mc ≤ R.cells ∧ n + ms ≤ R.slots)
    (hst : st = As.reverse ++ rest) (hrm : Nat.ble (rest.map fun v => v.category).sum 8 = true) (d : decode cc pc = .ok (.invokestatic index, 3)) : XRun G F R nL pc L st rest Ω k n mc ms P PX := by
  intro h H locs ls hΩ hR hS hl
  refine ⟨As.toArray, vx_runS (As := As) (rest := rest) O.fix con (va_cwS na O.ts hw rfl rfl rfl hd ⟨Nat.le_of_ble_eq_true hR0, Nat.le_of_ble_eq_true hR1⟩) ⟨Pre.blind, O.at hΩ hR hS⟩ rfl hn hl.1 hst ?_ d hcs⟩
  show 2 * 0 + _ ≤ 8
  rw [Nat.mul_zero, Nat.zero_add]
  exact Nat.le_of_ble_eq_true hrm

theorem x_upto {v : Value} {v' : Value} (e : v = v') (kk : X G F R Q nL pc L (v' :: st) Ω k n) : X G F R Q nL pc L (v :: st) Ω k n := by subst e; exact kk
theorem x_iaddN (O : Ok G F own cc nL ret) {a b : Nat} (d : decode cc pc = .ok (.iadd, 1)) (kk : X G F R Q nL (pc + 1) L (.int (nI (a + b)) :: st) Ω k n) : X G F R Q nL pc L (.int (nI b) :: .int (nI a) :: st) Ω k n := x_iadd O d (x_top (nI_add a b) kk)
theorem x_imulN (O : Ok G F own cc nL ret) {a b : Nat} (d : decode cc pc = .ok (.imul, 1)) (kk : X G F R Q nL (pc + 1) L (.int (nI (a * b)) :: st) Ω k n) : X G F R Q nL pc L (.int (nI b) :: .int (nI a) :: st) Ω k n := x_imul O d (x_top (pk_mul a b) kk)
theorem x_isubN (O : Ok G F own cc nL ret) {a b : Nat} (hb : b ≤ a) (d : decode cc pc = .ok (.isub, 1)) (kk : X G F R Q nL (pc + 1) L (.int (nI (a - b)) :: st) Ω k n) : X G F R Q nL pc L (.int (nI b) :: .int (nI a) :: st) Ω k n := x_isub O d (x_top (pk_sub hb) kk)
theorem x_iincN (O : Ok G F own cc nL ret) {i : Nat} {a : Nat} (q : Nat) (L' : List (Nat × Value)) (d : decode cc pc = .ok (.iinc i 1, 3)) (g : L[q]? = some (i, .int (nI a))) (hn : Nat.ble (i + 1) nL = true) (g' : (i, Value.int (nI (a + 1))) :: L.filter (fun q => !(q.1 == i) && !(q.1 + 1 == i && q.2.category == 2)) = L') (kk : X G F R Q nL (pc + 3) L' st Ω k n) : X G F R Q nL pc L st Ω k n := x_iinc O q (nI (a + 1)) L' d g (nI_1 a) hn g' kk
/-- comparisons of counted numbers -/
theorem x_icmpltN (O : Ok G F own cc nL ret) {a b : Nat} {off : Int} (tgt : Nat) (ha : a < 2 ^ 31) (hb : b < 2 ^ 31) (d : decode cc pc = .ok (.if_icmp .lt off, 3)) (ht : (pc : Int) + off = (tgt : Int)) (kt : a < b → X G F R Q nL tgt L st Ω k n) (kf : ¬ a < b → X G F R Q nL (pc + 3) L st Ω k n) : X G F R Q nL pc L (.int (nI b) :: .int (nI a) :: st) Ω k n := x_icmplt O tgt d ht (fun c => kt ((nI_ltI ha hb).mp c)) (fun c => kf (fun z => c ((nI_ltI ha hb).mpr z)))
theorem x_icmpgeN (O : Ok G F own cc nL ret) {a b : Nat} {off : Int} (tgt : Nat) (ha : a < 2 ^ 31) (hb : b < 2 ^ 31) (d : decode cc pc = .ok (.if_icmp .ge off, 3)) (ht : (pc : Int) + off = (tgt : Int)) (kt : b ≤ a → X G F R Q nL tgt L st Ω k n) (kf : ¬ b ≤ a → X G F R Q nL (pc + 3) L st Ω k n) : X G F R Q nL pc L (.int (nI b) :: .int (nI a) :: st) Ω k n := x_icmpge O tgt d ht (fun c => kt ((nI_leI hb ha).mp c)) (fun c => kf (fun z => c ((nI_leI hb ha).mpr z)))
theorem x_icmpgtN (O : Ok G F own cc nL ret) {a b : Nat} {off : Int} (tgt : Nat) (ha : a < 2 ^ 31) (hb : b < 2 ^ 31) (d : decode cc pc = .ok (.if_icmp .gt off, 3)) (ht : (pc : Int) + off = (tgt : Int)) (kt : b < a → X G F R Q nL tgt L st Ω k n) (kf : ¬ b < a → X G F R Q nL (pc + 3) L st Ω k n) : X G F R Q nL pc L (.int (nI b) :: .int (nI a) :: st) Ω k n := x_icmpgt O tgt d ht (fun c => kt ((nI_ltI hb ha).mp c)) (fun c => kf (fun z => c ((nI_ltI hb ha).mpr z)))
theorem x_icmpleN (O : Ok G F own cc nL ret) {a b : Nat} {off : Int} (tgt : Nat) (ha : a < 2 ^ 31) (hb : b < 2 ^ 31) (d : decode cc pc = .ok (.if_icmp .le off, 3)) (ht : (pc : Int) + off = (tgt : Int)) (kt : a ≤ b → X G F R Q nL tgt L st Ω k n) (kf : ¬ a ≤ b → X G F R Q nL (pc + 3) L st Ω k n) : X G F R Q nL pc L (.int (nI b) :: .int (nI a) :: st) Ω k n := x_icmple O tgt d ht (fun c => kt ((nI_leI ha hb).mp c)) (fun c => kf (fun z => c ((nI_leI ha hb).mpr z)))
theorem x_icmpeqN (O : Ok G F own cc nL ret) {a b : Nat} {off : Int} (tgt : Nat) (ha : a < 2 ^ 31) (hb : b < 2 ^ 31) (d : decode cc pc = .ok (.if_icmp .eq off, 3)) (ht : (pc : Int) + off = (tgt : Int)) (kt : a = b → X G F R Q nL tgt L st Ω k n) (kf : ¬ a = b → X G F R Q nL (pc + 3) L st Ω k n) : X G F R Q nL pc L (.int (nI b) :: .int (nI a) :: st) Ω k n := x_icmpeq O tgt d ht (fun c => kt ((nI_eq ha hb).mp c)) (fun c => kf (fun z => c ((nI_eq ha hb).mpr z)))
theorem x_icmpneN (O : Ok G F own cc nL ret) {a b : Nat} {off : Int} (tgt : Nat) (ha : a < 2 ^ 31) (hb : b < 2 ^ 31) (d : decode cc pc = .ok (.if_icmp .ne off, 3)) (ht : (pc : Int) + off = (tgt : Int)) (kt : ¬ a = b → X G F R Q nL tgt L st Ω k n) (kf : a = b → X G F R Q nL (pc + 3) L st Ω k n) : X G F R Q nL pc L (.int (nI b) :: .int (nI a) :: st) Ω k n := x_icmpne O tgt d ht (fun c => kt (fun z => c ((nI_eq ha hb).mpr z))) (fun c => kf ((nI_eq ha hb).mp c))
/-- truth values -/
def b2i (b : Bool) : Int32 := if b then 1 else 0
theorem b2i_0 {b : Bool} : b2i b = 0 ↔ b = false := by cases b <;> decide
theorem b2i_1 {b : Bool} : b2i b = 1 ↔ b = true := by cases b <;> decide
theorem b2i_nz (b : Bool) : narrow .boolean (.int (b2i b)) = .int (b2i b) := by cases b <;> rfl
theorem b2i_fit (b : Bool) : fits .boolean (.int (b2i b)) = true := by cases b <;> rfl
theorem x_ifeqB (O : Ok G F own cc nL ret) {b : Bool} {off : Int} (tgt : Nat) (d : decode cc pc = .ok (.ifCond .eq off, 3)) (ht : (pc : Int) + off = (tgt : Int)) (kt : ¬ b = true → X G F R Q nL tgt L st Ω k n) (kf : b = true → X G F R Q nL (pc + 3) L st Ω k n) : X G F R Q nL pc L (.int (b2i b) :: st) Ω k n := x_ifeq O tgt d ht (fun c => kt (by rw [b2i_0.mp c]; decide)) (fun c => kf (by cases b with | true => rfl | false => exact absurd rfl c))
theorem x_ifneB (O : Ok G F own cc nL ret) {b : Bool} {off : Int} (tgt : Nat) (d : decode cc pc = .ok (.ifCond .ne off, 3)) (ht : (pc : Int) + off = (tgt : Int)) (kt : b = true → X G F R Q nL tgt L st Ω k n) (kf : ¬ b = true → X G F R Q nL (pc + 3) L st Ω k n) : X G F R Q nL pc L (.int (b2i b) :: st) Ω k n := x_ifne O tgt d ht (fun c => kt (by cases b with | true => rfl | false => exact absurd rfl c)) (fun c => kf (by rw [b2i_0.mp c]; decide))
theorem x_zretB (O : Ok G F own cc nL ret) {P : Option Value → Hp → Prop} {PX : String → Nat → Hp → Prop} {mc ms : Nat} {b : Bool} (hr : ret = some .boolean) (d : decode cc pc = .ok (.ireturn, 1)) (hk : k = mc) (hn : n = ms) (hp : ∀ h, Ω h → P (some (.int (b2i b))) h) : X G F R (CQ G F P PX mc ms) nL pc L [.int (b2i b)] Ω k n := x_zret O hr d hk hn (b2i_nz b) hp
end UR
/-- counted loops: cnt rounds from i on -/
def fr {S : Type} (f : Nat → S → S) : Nat → Nat → S → S
  | 0, _, s => s
  | c + 1, i, s => fr f c (i + 1) (f i s)
/-- .. that may be left early -/
def fre {S T : Type} (f : Nat → S → S ⊕ T) : Nat → Nat → S → S ⊕ T
  | 0, _, s => .inl s
  | c + 1, i, s => match f i s with
    | .inl s' => fre f c (i + 1) s'
    | .inr r => .inr r
def tn (x : Int32) : Nat := x.toNatClampNeg
/-- a counted number, at most b -/
def nn (x : Int32) (b : Nat) : Prop := x = nI (tn x) ∧ tn x ≤ b
theorem tn_nI {a : Nat} (h : a < 2 ^ 31) : tn (nI a) = a := nI_clamp h
theorem x_bc (b : Bool) {P : Prop} (kt : b = true → P) (kf : ¬ b = true → P) : P := by
  by_cases c : b = true
  · exact kt c
  · exact kf c
section UQ
variable {G : UG} {F : UF} {R : Room} {Q : State → Prop} {nL pc : Nat} {L L' : List (Nat × Value)} {st rest : List Value} {Ω : Hp → Prop} {k n : Nat} {cc : ByteArray} {own : String} {ret : Option FieldType}
theorem con_of2 {y : MethodName} {maxL fr lo mc ms : Nat} {av : List Value} {P : Option Value → Hp → Prop} {PX : String → Nat → Hp → Prop} (hy : plainFor y = true) (hlen : Nat.ble (lg_sl av).length maxL = true)
    (body : ∀ (F : UF) (R : Room) (Q : State → Prop), R.frames = fr → R.locals = lo → R.cells = mc → R.slots = ms → Q = CQ G F P PX mc ms → Ok G F y.cls cc maxL ret → noH F → (fMe F).name = y.name → X G F R Q maxL 0 (lv_args 0 av) [] Ω 0 0) : Con G y cc maxL ret fr lo mc ms av Ω P PX :=
  con_of hy hlen (fun F O hn hm => body F _ _ rfl rfl rfl rfl rfl O hn hm)
theorem x_iretQ (O : Ok G F own cc nL ret) {P : Option Value → Hp → Prop} {PX : String → Nat → Hp → Prop} {mc ms : Nat} {v : Int32} (hQ : Q = CQ G F P PX mc ms) (hr : ret = some .int) (d : decode cc pc = .ok (.ireturn, 1)) (hp : ∀ h, Ω h → P (some (.int v)) h) : X G F R Q nL pc L [.int v] Ω mc ms := by
  subst hQ; exact x_iret O hr d rfl rfl hp
theorem x_zretQ (O : Ok G F own cc nL ret) {P : Option Value → Hp → Prop} {PX : String → Nat → Hp → Prop} {mc ms : Nat} {b : Bool} (hQ : Q = CQ G F P PX mc ms) (hr : ret = some .boolean) (d : decode cc pc = .ok (.ireturn, 1)) (hp : ∀ h, Ω h → P (some (.int (b2i b))) h) : X G F R Q nL pc L [.int (b2i b)] Ω mc ms := by
  subst hQ; exact x_zretB O hr d rfl rfl hp
theorem x_vretQ (O : Ok G F own cc nL ret) {P : Option Value → Hp → Prop} {PX : String → Nat → Hp → Prop} {mc ms : Nat} (hQ : Q = CQ G F P PX mc ms) (hr : ret = none) (d : decode cc pc = .ok (.return_, 1)) (hp : ∀ h, Ω h → P none h) : X G F R Q nL pc L [] Ω mc ms := by
  subst hQ; exact x_vret O hr d rfl rfl hp
theorem x_aretQ (O : Ok G F own cc nL ret) {P : Option Value → Hp → Prop} {PX : String → Nat → Hp → Prop} {mc ms : Nat} {x : Option Nat} {C : String} (hQ : Q = CQ G F P PX mc ms) (hr : ret = some (.object C)) (d : decode cc pc = .ok (.areturn, 1)) (hp : ∀ h, Ω h → P (some (va_rf x)) h) : X G F R Q nL pc L [va_rf x] Ω mc ms := by
  subst hQ; exact x_aret O hr d rfl rfl hp
end UQ
/-- a loop left early with the state it had -/
def frb {S : Type} (f : Nat → S → S ⊕ S) : Nat → Nat → S → S
  | 0, _, s => s
  | c + 1, i, s => match f i s with
    | .inl s' => frb f c (i + 1) s'
    | .inr s' => s'
theorem fr_step {S : Type} {f : Nat → S → S} {c i : Nat} {s s' : S} (h : f i s = s') : fr f (c + 1) i s = fr f c (i + 1) s' := by subst h; rfl
theorem frb_step {S : Type} {f : Nat → S → S ⊕ S} {c i : Nat} {s s' : S} (h : f i s = .inl s') : frb f (c + 1) i s = frb f c (i + 1) s' := by show (match f i s with | .inl s' => frb f c (i + 1) s' | .inr s' => s') = _; rw [h]
theorem frb_stop {S : Type} {f : Nat → S → S ⊕ S} {c i : Nat} {s s' : S} (h : f i s = .inr s') : frb f (c + 1) i s = s' := by show (match f i s with | .inl s' => frb f c (i + 1) s' | .inr s' => s') = _; rw [h]
theorem frx_step {S T : Type} {f : Nat → S → S ⊕ T} {c i : Nat} {s s' : S} (h : f i s = .inl s') : fre f (c + 1) i s = fre f c (i + 1) s' := by show (match f i s with | .inl s' => fre f c (i + 1) s' | .inr r => .inr r) = _; rw [h]
theorem frx_stop {S T : Type} {f : Nat → S → S ⊕ T} {c i : Nat} {s : S} {r : T} (h : f i s = .inr r) : fre f (c + 1) i s = .inr r := by show (match f i s with | .inl s' => fre f c (i + 1) s' | .inr r => .inr r) = _; rw [h]
