/-! the model's object and arrays as rows of numbers: mu c j is place j of cell c (0: its own number fields) -/
abbrev Mu : Type := Nat → Nat → Int32
def ups (f : Nat → Int32) (j : Nat) (v : Int32) : Nat → Int32 := fun k => match Nat.beq k j with
  | true => v
  | false => f k
def mset (μ : Mu) (c j : Nat) (v : Int32) : Mu := fun d => match Nat.beq d c with
  | true => ups (μ c) j v
  | false => μ d
theorem ups_s {f : Nat → Int32} {j : Nat} {v : Int32} : ups f j v j = v := by unfold ups; rw [Nat.beq_refl]
theorem beq_n {j k : Nat} (h : k ≠ j) : Nat.beq k j = false := by
  cases hb : Nat.beq k j with
  | true => exact absurd (Nat.eq_of_beq_eq_true hb) h
  | false => rfl
theorem ups_n {f : Nat → Int32} {j k : Nat} {v : Int32} (h : k ≠ j) : ups f j v k = f k := by unfold ups; rw [beq_n h]
theorem ups_upd {f : Nat → Int32} {j : Nat} {v : Int32} : upd f j v = ups f j v := by
  funext k
  by_cases c : k = j
  · subst c; rw [ups_s]; exact if_pos rfl
  · rw [ups_n c]; exact if_neg c
theorem mset_s {μ : Mu} {c j : Nat} {v : Int32} : mset μ c j v c = ups (μ c) j v := by unfold mset; rw [Nat.beq_refl]
theorem mset_n {μ : Mu} {c j d : Nat} {v : Int32} (h : d ≠ c) : mset μ c j v d = μ d := by unfold mset; rw [beq_n h]
theorem bfalse {b : Bool} (c : ¬ b = true) : b = false := by
  cases b with
  | false => rfl
  | true => exact absurd rfl c
theorem rd_hit {μ : Mu} {c j : Nat} {v : Int32} : mset μ c j v c j = v := by rw [mset_s]; exact ups_s
theorem rd_skip {μ : Mu} {c j k : Nat} {v : Int32} (h : k ≠ j) : mset μ c j v c k = μ c k := by rw [mset_s]; exact ups_n h
theorem rd_oth {μ : Mu} {c d j k : Nat} {v : Int32} (h : c ≠ d) : mset μ d j v c k = μ c k := by rw [mset_n h]
def mObj (adr : Nat → Nat) (ν : Nat → Int32) : List Value := [.int (ν 0), .ref (adr 1), .ref (adr 2), .int (ν 3), .ref (adr 3), .int (ν 5), .int (ν 6), .int (ν 7), .int (ν 8), .int (ν 9), .int (ν 10), .ref (adr 4), .int (ν 12), .int (ν 13), .ref (adr 5), .int (ν 15), .int (ν 16), .int (ν 17), .ref (adr 6), .ref (adr 7), .int (ν 20), .ref (adr 8), .ref (adr 9), .ref (adr 10), .int (ν 24), .ref (adr 11), .int (ν 26), .ref (adr 12)]
theorem mg_0 (adr : Nat → Nat) (ν : Nat → Int32) : (mObj adr ν)[0]? = some (.int (ν 0)) := rfl
theorem mp_0 (adr : Nat → Nat) (ν : Nat → Int32) (v : Int32) : (mObj adr ν).set 0 (.int v) = mObj adr (ups ν 0 v) := rfl
theorem mg_1 (adr : Nat → Nat) (ν : Nat → Int32) : (mObj adr ν)[1]? = some (.ref (adr 1)) := rfl
theorem mg_2 (adr : Nat → Nat) (ν : Nat → Int32) : (mObj adr ν)[2]? = some (.ref (adr 2)) := rfl
theorem mg_3 (adr : Nat → Nat) (ν : Nat → Int32) : (mObj adr ν)[3]? = some (.int (ν 3)) := rfl
theorem mp_3 (adr : Nat → Nat) (ν : Nat → Int32) (v : Int32) : (mObj adr ν).set 3 (.int v) = mObj adr (ups ν 3 v) := rfl
theorem mg_4 (adr : Nat → Nat) (ν : Nat → Int32) : (mObj adr ν)[4]? = some (.ref (adr 3)) := rfl
theorem mg_5 (adr : Nat → Nat) (ν : Nat → Int32) : (mObj adr ν)[5]? = some (.int (ν 5)) := rfl
theorem mp_5 (adr : Nat → Nat) (ν : Nat → Int32) (v : Int32) : (mObj adr ν).set 5 (.int v) = mObj adr (ups ν 5 v) := rfl
theorem mg_6 (adr : Nat → Nat) (ν : Nat → Int32) : (mObj adr ν)[6]? = some (.int (ν 6)) := rfl
theorem mp_6 (adr : Nat → Nat) (ν : Nat → Int32) (v : Int32) : (mObj adr ν).set 6 (.int v) = mObj adr (ups ν 6 v) := rfl
theorem mg_7 (adr : Nat → Nat) (ν : Nat → Int32) : (mObj adr ν)[7]? = some (.int (ν 7)) := rfl
theorem mp_7 (adr : Nat → Nat) (ν : Nat → Int32) (v : Int32) : (mObj adr ν).set 7 (.int v) = mObj adr (ups ν 7 v) := rfl
theorem mg_8 (adr : Nat → Nat) (ν : Nat → Int32) : (mObj adr ν)[8]? = some (.int (ν 8)) := rfl
theorem mp_8 (adr : Nat → Nat) (ν : Nat → Int32) (v : Int32) : (mObj adr ν).set 8 (.int v) = mObj adr (ups ν 8 v) := rfl
theorem mg_9 (adr : Nat → Nat) (ν : Nat → Int32) : (mObj adr ν)[9]? = some (.int (ν 9)) := rfl
theorem mp_9 (adr : Nat → Nat) (ν : Nat → Int32) (v : Int32) : (mObj adr ν).set 9 (.int v) = mObj adr (ups ν 9 v) := rfl
theorem mg_10 (adr : Nat → Nat) (ν : Nat → Int32) : (mObj adr ν)[10]? = some (.int (ν 10)) := rfl
theorem mp_10 (adr : Nat → Nat) (ν : Nat → Int32) (v : Int32) : (mObj adr ν).set 10 (.int v) = mObj adr (ups ν 10 v) := rfl
theorem mg_11 (adr : Nat → Nat) (ν : Nat → Int32) : (mObj adr ν)[11]? = some (.ref (adr 4)) := rfl
theorem mg_12 (adr : Nat → Nat) (ν : Nat → Int32) : (mObj adr ν)[12]? = some (.int (ν 12)) := rfl
theorem mp_12 (adr : Nat → Nat) (ν : Nat → Int32) (v : Int32) : (mObj adr ν).set 12 (.int v) = mObj adr (ups ν 12 v) := rfl
theorem mg_13 (adr : Nat → Nat) (ν : Nat → Int32) : (mObj adr ν)[13]? = some (.int (ν 13)) := rfl
theorem mp_13 (adr : Nat → Nat) (ν : Nat → Int32) (v : Int32) : (mObj adr ν).set 13 (.int v) = mObj adr (ups ν 13 v) := rfl
theorem mg_14 (adr : Nat → Nat) (ν : Nat → Int32) : (mObj adr ν)[14]? = some (.ref (adr 5)) := rfl
theorem mg_15 (adr : Nat → Nat) (ν : Nat → Int32) : (mObj adr ν)[15]? = some (.int (ν 15)) := rfl
theorem mp_15 (adr : Nat → Nat) (ν : Nat → Int32) (v : Int32) : (mObj adr ν).set 15 (.int v) = mObj adr (ups ν 15 v) := rfl
theorem mg_16 (adr : Nat → Nat) (ν : Nat → Int32) : (mObj adr ν)[16]? = some (.int (ν 16)) := rfl
theorem mp_16 (adr : Nat → Nat) (ν : Nat → Int32) (v : Int32) : (mObj adr ν).set 16 (.int v) = mObj adr (ups ν 16 v) := rfl
theorem mg_17 (adr : Nat → Nat) (ν : Nat → Int32) : (mObj adr ν)[17]? = some (.int (ν 17)) := rfl
theorem mp_17 (adr : Nat → Nat) (ν : Nat → Int32) (v : Int32) : (mObj adr ν).set 17 (.int v) = mObj adr (ups ν 17 v) := rfl
theorem mg_18 (adr : Nat → Nat) (ν : Nat → Int32) : (mObj adr ν)[18]? = some (.ref (adr 6)) := rfl
theorem mg_19 (adr : Nat → Nat) (ν : Nat → Int32) : (mObj adr ν)[19]? = some (.ref (adr 7)) := rfl
theorem mg_20 (adr : Nat → Nat) (ν : Nat → Int32) : (mObj adr ν)[20]? = some (.int (ν 20)) := rfl
theorem mp_20 (adr : Nat → Nat) (ν : Nat → Int32) (v : Int32) : (mObj adr ν).set 20 (.int v) = mObj adr (ups ν 20 v) := rfl
theorem mg_21 (adr : Nat → Nat) (ν : Nat → Int32) : (mObj adr ν)[21]? = some (.ref (adr 8)) := rfl
theorem mg_22 (adr : Nat → Nat) (ν : Nat → Int32) : (mObj adr ν)[22]? = some (.ref (adr 9)) := rfl
theorem mg_23 (adr : Nat → Nat) (ν : Nat → Int32) : (mObj adr ν)[23]? = some (.ref (adr 10)) := rfl
theorem mg_24 (adr : Nat → Nat) (ν : Nat → Int32) : (mObj adr ν)[24]? = some (.int (ν 24)) := rfl
theorem mp_24 (adr : Nat → Nat) (ν : Nat → Int32) (v : Int32) : (mObj adr ν).set 24 (.int v) = mObj adr (ups ν 24 v) := rfl
theorem mg_25 (adr : Nat → Nat) (ν : Nat → Int32) : (mObj adr ν)[25]? = some (.ref (adr 11)) := rfl
theorem mg_26 (adr : Nat → Nat) (ν : Nat → Int32) : (mObj adr ν)[26]? = some (.int (ν 26)) := rfl
theorem mp_26 (adr : Nat → Nat) (ν : Nat → Int32) (v : Int32) : (mObj adr ν).set 26 (.int v) = mObj adr (ups ν 26 v) := rfl
theorem mg_27 (adr : Nat → Nat) (ν : Nat → Int32) : (mObj adr ν)[27]? = some (.ref (adr 12)) := rfl
def mSz (c : Nat) : Nat := match c with
  | 1 => 9476 | 2 => 8645 | 3 => 400 | 4 => 5 | 5 => 7 | 6 => 400 | 7 => 8 | 8 => 2048 | 9 => 256 | 10 => 16 | 11 => 8 | _ => 256
def mTy (c : Nat) : Nat := match c with
  | 3 => 1 | 12 => 2 | _ => 0
def mEnt (G : UG) (adr : Nat → Nat) (μ : Mu) (c : Nat) : va_E := match c with
  | 0 => .inr (5, mObj adr (μ 0))
  | c + 1 => .inl (uI G (mTy (c + 1)), mSz (c + 1), .inl (μ (c + 1)))
/-- the heap h holds the model's cells with the numbers mu, and is h0 elsewhere -/
def MS (G : UG) (adr : Nat → Nat) (h0 : Hp) (μ : Mu) (h : Hp) : Prop :=
  (∀ i j : Nat, i < 13 → j < 13 → adr i = adr j → i = j) ∧ (∀ c : Nat, c < 13 → h (adr c) = some (mEnt G adr μ c)) ∧ ∀ a : Nat, (∀ c : Nat, c < 13 → a ≠ adr c) → h a = h0 a
section MSr
variable {G : UG} {adr : Nat → Nat} {h0 : Hp} {μ : Mu}
theorem MS.obj : ∀ h, MS G adr h0 μ h → h (adr 0) = some (.inr (5, mObj adr (μ 0))) := fun _ m => m.2.1 0 (by decide)
theorem MS.c1 : ∀ h, MS G adr h0 μ h → h (adr 1) = some (.inl (uI G 0, 9476, .inl (μ 1))) := fun _ m => m.2.1 1 (by decide)
theorem MS.c2 : ∀ h, MS G adr h0 μ h → h (adr 2) = some (.inl (uI G 0, 8645, .inl (μ 2))) := fun _ m => m.2.1 2 (by decide)
theorem MS.c3 : ∀ h, MS G adr h0 μ h → h (adr 3) = some (.inl (uI G 1, 400, .inl (μ 3))) := fun _ m => m.2.1 3 (by decide)
theorem MS.c4 : ∀ h, MS G adr h0 μ h → h (adr 4) = some (.inl (uI G 0, 5, .inl (μ 4))) := fun _ m => m.2.1 4 (by decide)
theorem MS.c5 : ∀ h, MS G adr h0 μ h → h (adr 5) = some (.inl (uI G 0, 7, .inl (μ 5))) := fun _ m => m.2.1 5 (by decide)
theorem MS.c6 : ∀ h, MS G adr h0 μ h → h (adr 6) = some (.inl (uI G 0, 400, .inl (μ 6))) := fun _ m => m.2.1 6 (by decide)
theorem MS.c7 : ∀ h, MS G adr h0 μ h → h (adr 7) = some (.inl (uI G 0, 8, .inl (μ 7))) := fun _ m => m.2.1 7 (by decide)
theorem MS.c8 : ∀ h, MS G adr h0 μ h → h (adr 8) = some (.inl (uI G 0, 2048, .inl (μ 8))) := fun _ m => m.2.1 8 (by decide)
theorem MS.c9 : ∀ h, MS G adr h0 μ h → h (adr 9) = some (.inl (uI G 0, 256, .inl (μ 9))) := fun _ m => m.2.1 9 (by decide)
theorem MS.c10 : ∀ h, MS G adr h0 μ h → h (adr 10) = some (.inl (uI G 0, 16, .inl (μ 10))) := fun _ m => m.2.1 10 (by decide)
theorem MS.c11 : ∀ h, MS G adr h0 μ h → h (adr 11) = some (.inl (uI G 0, 8, .inl (μ 11))) := fun _ m => m.2.1 11 (by decide)
theorem MS.c12 : ∀ h, MS G adr h0 μ h → h (adr 12) = some (.inl (uI G 2, 256, .inl (μ 12))) := fun _ m => m.2.1 12 (by decide)
theorem MS.self {h : Hp} (m : MS G adr h0 μ h) : MS G adr h μ h := ⟨m.1, m.2.1, fun _ _ => rfl⟩
theorem mEnt_n {c d j : Nat} {v : Int32} (hd : d ≠ c) : mEnt G adr (mset μ c j v) d = mEnt G adr μ d := by
  cases d with
  | zero => exact congrArg (fun z => (.inr (5, mObj adr z) : va_E)) (mset_n hd)
  | succ d => exact congrArg (fun z => (.inl (uI G (mTy (d + 1)), mSz (d + 1), .inl z) : va_E)) (mset_n hd)
theorem MS.wr {h : Hp} (m : MS G adr h0 μ h) {c j : Nat} {v : Int32} {e : va_E} (hc : c < 13) (he : e = mEnt G adr (mset μ c j v) c) : MS G adr h0 (mset μ c j v) (hset h (adr c) e) := by
  refine ⟨m.1, fun d hd => ?_, fun a ha => ?_⟩
  · by_cases q : d = c
    · subst q; rw [hset_s, he]
    · rw [hset_n (fun z => q (m.1 d c hd hc z)), m.2.1 d hd, mEnt_n q]
  · rw [hset_n (ha c hc)]; exact m.2.2 a ha
/-- a number field is written -/
theorem MS.put {h : Hp} (kf : Nat) {v : Int32} (m : MS G adr h0 μ h) (hk : (mObj adr (μ 0)).set kf (.int v) = mObj adr (ups (μ 0) kf v)) : MS G adr h0 (mset μ 0 kf v) (hset h (adr 0) (.inr (5, (mObj adr (μ 0)).set kf (.int v)))) :=
  m.wr (by decide) (by rw [hk]; show _ = (.inr (5, mObj adr (mset μ 0 kf v 0)) : va_E); rw [mset_s])
/-- an int array is written -/
theorem MS.ast {h : Hp} (c : Nat) {j N : Nat} {v : Int32} (m : MS G adr h0 μ h) (hc : c < 12) (ht : mTy (c + 1) = 0) (hN : mSz (c + 1) = N) : MS G adr h0 (mset μ (c + 1) j v) (hset h (adr (c + 1)) (.inl (uI G 0, N, .inl (upd (μ (c + 1)) j v)))) :=
  m.wr (by omega) (by show _ = (.inl (uI G (mTy (c + 1)), mSz (c + 1), .inl (mset μ (c + 1) j v (c + 1))) : va_E); rw [ht, hN, mset_s, ups_upd])
end MSr
section MR
variable {G : UG} {F : UF} {R : Room} {Q : State → Prop} {nL pc : Nat} {L L' : List (Nat × Value)} {st rest : List Value} {Ω : Hp → Prop} {k n : Nat} {cc : ByteArray} {own : String} {ret : Option FieldType} {adr : Nat → Nat} {h0 : Hp} {μ : Mu}
theorem x_ialdN (O : Ok G F own cc nL ret) {a N : Nat} {f : Nat → Int32} {i : Nat} (ha : ∀ h, Ω h → h a = some (.inl (uI G 0, N, .inl f))) (hi : i < N) (hN : Nat.ble N 65536 = true) (d : decode cc pc = .ok (.iaload, 1)) (kk : X G F R Q nL (pc + 1) L (.int (f i) :: st) Ω k n) : X G F R Q nL pc L (.int (nI i) :: .ref a :: st) Ω k n := by
  have h5 := Nat.le_of_ble_eq_true hN
  have h3 : (nI i).toNatClampNeg = i := nI_clamp (by omega)
  exact x_iald O ha (vp_in_nI hi (by omega)) d (by rw [h3]; exact kk)
theorem x_baldN (O : Ok G F own cc nL ret) {a N : Nat} {f : Nat → Int32} {i : Nat} (ha : ∀ h, Ω h → h a = some (.inl (uI G 1, N, .inl f))) (hi : i < N) (hN : Nat.ble N 65536 = true) (d : decode cc pc = .ok (.baload, 1)) (kk : X G F R Q nL (pc + 1) L (.int (f i) :: st) Ω k n) : X G F R Q nL pc L (.int (nI i) :: .ref a :: st) Ω k n := by
  have h5 := Nat.le_of_ble_eq_true hN
  have h3 : (nI i).toNatClampNeg = i := nI_clamp (by omega)
  exact x_bald O ha (vp_in_nI hi (by omega)) d (by rw [h3]; exact kk)
theorem x_zaldN (O : Ok G F own cc nL ret) {a N : Nat} {f : Nat → Int32} {i : Nat} (ha : ∀ h, Ω h → h a = some (.inl (uI G 2, N, .inl f))) (hi : i < N) (hN : Nat.ble N 65536 = true) (d : decode cc pc = .ok (.baload, 1)) (kk : X G F R Q nL (pc + 1) L (.int (f i) :: st) Ω k n) : X G F R Q nL pc L (.int (nI i) :: .ref a :: st) Ω k n := by
  have h5 := Nat.le_of_ble_eq_true hN
  have h3 : (nI i).toNatClampNeg = i := nI_clamp (by omega)
  exact x_zald O ha (vp_in_nI hi (by omega)) d (by rw [h3]; exact kk)
/-- the model's int arrays are written -/
theorem x_mast (O : Ok G F own cc nL ret) (c : Nat) {N : Nat} {i : Nat} {v : Int32} (ha : ∀ h, MS G adr h0 μ h → h (adr (c + 1)) = some (.inl (uI G 0, N, .inl (μ (c + 1))))) (hc : Nat.ble (c + 1) 12 = true) (ht : mTy (c + 1) = 0) (hs : mSz (c + 1) = N) (hi : i < N) (hN : Nat.ble N 65536 = true) (d : decode cc pc = .ok (.iastore, 1)) (kk : X G F R Q nL (pc + 1) L st (MS G adr h0 (mset μ (c + 1) i v)) k n) : X G F R Q nL pc L (.int v :: .int (nI i) :: .ref (adr (c + 1)) :: st) (MS G adr h0 μ) k n := by
  have h5 := Nat.le_of_ble_eq_true hN
  have h6 := Nat.le_of_ble_eq_true hc
  have h3 : (nI i).toNatClampNeg = i := nI_clamp (by omega)
  exact x_iast O ha (vp_in_nI hi (by omega)) d _ (fun h m => by rw [h3]; exact m.ast c (by omega) ht hs) kk
/-- a number field of the model is read, written -/
theorem x_mget (O : Ok G F own cc nL ret) {index kf : Nat} {v : Value} (K : FK own index 5 kf) (hv : (mObj adr (μ 0))[kf]? = some v) (d : decode cc pc = .ok (.getfield index, 3)) (kk : X G F R Q nL (pc + 3) L (v :: st) (MS G adr h0 μ) k n) : X G F R Q nL pc L (.ref (adr 0) :: st) (MS G adr h0 μ) k n := x_get O K MS.obj hv d kk
theorem x_mput (O : Ok G F own cc nL ret) {index kf : Nat} {v : Int32} (K : FP own index 5 kf .int) (hk : (mObj adr (μ 0)).set kf (.int v) = mObj adr (ups (μ 0) kf v)) (hl : Nat.ble (kf + 1) 28 = true) (d : decode cc pc = .ok (.putfield index, 3)) (kk : X G F R Q nL (pc + 3) L st (MS G adr h0 (mset μ 0 kf v)) k n) : X G F R Q nL pc L (.int v :: .ref (adr 0) :: st) (MS G adr h0 μ) k n :=
  x_put O K MS.obj rfl rfl hl d _ (fun h m => m.put kf hk) kk
theorem x_mputB (O : Ok G F own cc nL ret) {index kf : Nat} {b : Bool} (K : FP own index 5 kf .boolean) (hk : (mObj adr (μ 0)).set kf (.int (b2i b)) = mObj adr (ups (μ 0) kf (b2i b))) (hl : Nat.ble (kf + 1) 28 = true) (d : decode cc pc = .ok (.putfield index, 3)) (kk : X G F R Q nL (pc + 3) L st (MS G adr h0 (mset μ 0 kf (b2i b))) k n) : X G F R Q nL pc L (.int (b2i b) :: .ref (adr 0) :: st) (MS G adr h0 μ) k n :=
  x_put O K MS.obj (b2i_nz b) (b2i_fit b) hl d _ (fun h m => m.put kf hk) kk
/-- a call that comes back with r and leaves the heap in Om', through an object, or static -/
theorem x_cV (O : Ok G F own cc nL ret) {index ci b fr lo maxL : Nat} {y : MethodName} {bytes : ByteArray} {ret1 : Option FieldType} {As : List Value} {fs : List Value} {r : vw_C} {Ω' : Hp → Prop} {rv : Option Value} (na : Nat)
    (con : Con G y bytes maxL ret1 fr lo 0 0 (.ref b :: As) Ω (fun v h' => v = rv ∧ Ω' h') nX) (ha : ∀ h, Ω h → h b = some (.inr (ci, fs))) (hc : uCl[ci]? = some r) (hw : GoodIn lw_all (wsV own index r.1 y (ws_ y bytes maxL ret1))) (hyc : y.cls = r.1) (hd : HD y na) (hn : As.length = na) (hR0 : Nat.ble (fr + 1) R.frames = true) (hR1 : Nat.ble (8 + (maxL + 11) + lo) R.locals = true) (hcs : k ≤ R.cells ∧ n ≤ R.slots)
    (hst : st = As.reverse ++ .ref b :: rest) (hrm : Nat.ble (rest.map fun v => v.category).sum 8 = true) (d : decode cc pc = .ok (.invokevirtual index, 3)) (kk : X G F R Q nL (pc + 3) L (rv.toList ++ rest) Ω' k n) : X G F R Q nL pc L st Ω k n := by
  refine x_run (r_V O na con ha hc hw hyc hd hn hR0 hR1 hcs hst hrm d) (fun v => ?_) (fun E q => ?_)
  · rintro h H locs ls ⟨rfl, hΩ⟩ hR hS hl
    exact kk h H locs ls hΩ hR hS hl
  · intro h H locs ls ce hΩ
    exact hΩ.elim
theorem x_cS (O : Ok G F own cc nL ret) {index fr lo maxL : Nat} {y : MethodName} {bytes : ByteArray} {ret1 : Option FieldType} {As : List Value} {Ω' : Hp → Prop} {rv : Option Value} (na : Nat)
    (con : Con G y bytes maxL ret1 fr lo 0 0 As Ω (fun v h' => v = rv ∧ Ω' h') nX) (hw : GoodIn lw_all (va_wsS own index y (ws_ y bytes maxL ret1))) (hd : HD y na) (hn : As.length = na) (hR0 : Nat.ble (fr + 1) R.frames = true) (hR1 : Nat.ble (8 + (maxL + 11) + lo) R.locals = true) (hcs : k ≤ R.cells ∧ n ≤ R.slots)
    (hst : st = As.reverse ++ rest) (hrm : Nat.ble (rest.map fun v => v.category).sum 8 = true) (d : decode cc pc = .ok (.invokestatic index, 3)) (kk : X G F R Q nL (pc + 3) L (rv.toList ++ rest) Ω' k n) : X G F R Q nL pc L st Ω k n := by
  refine x_run (r_S O na con hw hd hn hR0 hR1 hcs hst hrm d) (fun v => ?_) (fun E q => ?_)
  · rintro h H locs ls ⟨rfl, hΩ⟩ hR hS hl
    exact kk h H locs ls hΩ hR hS hl
  · intro h H locs ls ce hΩ
    exact hΩ.elim
end MR
