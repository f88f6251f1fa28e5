/-! 'throw new E()' -/
def isCst : Cond → Bool
  | .castable _ _ => true
  | .declares _ => true
  | _ => false
def thOk (ws : List Cond) : Bool := ws.all fun w => decide (w ∈ lw_tbl) && (goodWord w || isCst w)
theorem thOk.to {G : UG} {F : UF} {cc : ByteArray} {own : String} {nL : Nat} {ret : Option FieldType} (O : Ok G F own cc nL ret) {ws : List Cond} (h : thOk ws = true) : ∀ w ∈ ws, w.before (fA F) (fS F) = true := by
  intro w hw
  have h1 := List.all_eq_true.mp h w hw
  simp only [Bool.and_eq_true, Bool.or_eq_true, decide_eq_true_eq] at h1
  obtain ⟨h2, h3 | h3⟩ := h1
  · exact O.ts _ (lw_g h2 h3)
  · cases w <;> simp only [isCst] at h3 <;> first | exact absurd h3 Bool.false_ne_true | exact va_Nw.use rfl (O.pre.1.2.2.2.2.1 _ _ h2) | exact va_Nw.use rfl (O.pre.1.2.2.2.2.2.1 _ h2)
section UT
variable {G : UG} {F : UF} {R : Room} {nL pc k n : Nat} {L L' : List (Nat × Value)} {st rest : List Value} {Ω : Hp → Prop} {cc : ByteArray} {own : String} {ret : Option FieldType}
theorem x_throw0 (O : Ok G F own cc nL ret) (hno : noH F) {cls : String} {names : List String} {ik ic mc ms : Nat} {P : Option Value → Hp → Prop} {PX : String → Nat → Hp → Prop} (hcls : Bundle.fit cls = true) (hnames : ∀ n ∈ names, Bundle.fit n = true)
    (hk : Cond.classLink own ik cls ∈ lw_all) (hini : Cond.initialized cls ∈ lw_all) (hat : thOk (vx_at0 own ic cls names) = true) (hgood : ∀ w ∈ Cond.classLink own ik cls :: Cond.initialized cls :: vx_at0 own ic cls names, vx_ot w = true)
    (d0 : decode cc pc = .ok (.new ik, 3)) (d3 : decode cc (pc + 3) = .ok (.dup, 1)) (d4 : decode cc (pc + 4) = .ok (.invokespecial ic, 3)) (d7 : decode cc (pc + 7) = .ok (.athrow, 1))
    (hR0 : Nat.ble (names.length + 4) R.frames = true) (hR1 : Nat.ble ((rest.map fun v => v.category).sum + (13 * (names.length + 1) + 42)) R.locals = true) (hcs : k + 1 ≤ R.cells ∧ n + 6 ≤ R.slots) (hc : k + 1 ≤ mc) (hs : n + 6 ≤ ms) (hp : ∀ (h : Hp) (q : Nat), Ω h → PX cls q h) : X G F R (CQ G F P PX mc ms) nL pc L rest Ω k n := by
  intro h H locs ls hΩ hR hS hl
  refine vx_throw0 (A := uA G) O.x O.b O.pre.1.1 O.ow hcls hnames (O.ts _ hk) (O.ts _ hini) (thOk.to O hat) hgood O.pre.2.2.1 O.pre.2.2.2.1 hS (hl.1.trans O.ml.symm) d0 d3 d4 d7 (noH.out hno) (Nat.lt_of_lt_of_le (Nat.lt_succ_self _) (Nat.le_of_ble_eq_true hR0)) (Nat.le_of_ble_eq_true hR1) hcs.1 hcs.2 O.lk (fun q9 t hA hz hk => ?_) hS.2.2 hc hs
  exact ⟨h, hp h q9 hΩ, hR.kept hk, ⟨Nat.le_trans hS.1 hz, fun q h1 h2 => (hk q (Nat.lt_of_lt_of_le h1 hS.1)).trans (hS.2.1 q h1 h2)⟩⟩
end UT
theorem th_must : thOk (vx_at0 RX1 58 "java/lang/IllegalArgumentException" ["java/lang/RuntimeException", "java/lang/Exception"]) = true := by decide +kernel
theorem th_mustG : ∀ w ∈ Cond.classLink RX1 56 "java/lang/IllegalArgumentException" :: Cond.initialized "java/lang/IllegalArgumentException" :: vx_at0 RX1 58 "java/lang/IllegalArgumentException" ["java/lang/RuntimeException", "java/lang/Exception"], vx_ot w = true := by decide +kernel
theorem th_mustF : Bundle.fit "java/lang/IllegalArgumentException" = true := by decide +kernel
theorem th_mustBe : thOk (vx_at0 RX1 64 "java/lang/IndexOutOfBoundsException" ["java/lang/RuntimeException", "java/lang/Exception"]) = true := by decide +kernel
theorem th_mustBeG : ∀ w ∈ Cond.classLink RX1 62 "java/lang/IndexOutOfBoundsException" :: Cond.initialized "java/lang/IndexOutOfBoundsException" :: vx_at0 RX1 64 "java/lang/IndexOutOfBoundsException" ["java/lang/RuntimeException", "java/lang/Exception"], vx_ot w = true := by decide +kernel
theorem th_mustBeF : Bundle.fit "java/lang/IndexOutOfBoundsException" = true := by decide +kernel
theorem th_mayBe : thOk (vx_at0 RX1 61 "java/lang/UnsupportedOperationException" ["java/lang/RuntimeException", "java/lang/Exception"]) = true := by decide +kernel
theorem th_mayBeG : ∀ w ∈ Cond.classLink RX1 59 "java/lang/UnsupportedOperationException" :: Cond.initialized "java/lang/UnsupportedOperationException" :: vx_at0 RX1 61 "java/lang/UnsupportedOperationException" ["java/lang/RuntimeException", "java/lang/Exception"], vx_ot w = true := by decide +kernel
theorem th_mayBeF : Bundle.fit "java/lang/UnsupportedOperationException" = true := by decide +kernel
theorem th_thereIs : thOk (vx_at0 RX1 67 "java/util/NoSuchElementException" ["java/lang/RuntimeException", "java/lang/Exception"]) = true := by decide +kernel
theorem th_thereIsG : ∀ w ∈ Cond.classLink RX1 65 "java/util/NoSuchElementException" :: Cond.initialized "java/util/NoSuchElementException" :: vx_at0 RX1 67 "java/util/NoSuchElementException" ["java/lang/RuntimeException", "java/lang/Exception"], vx_ot w = true := by decide +kernel
theorem th_thereIsF : Bundle.fit "java/util/NoSuchElementException" = true := by decide +kernel
theorem th_fit : ∀ n ∈ ["java/lang/RuntimeException", "java/lang/Exception"], Bundle.fit n = true := by decide +kernel
