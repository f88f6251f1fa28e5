/-! the memory cell by cell: mc puts a whole cell; MS in canonical form; more rows; bits of small numbers -/
def mc (μ : Mu) (c : Nat) (f : Nat → Int32) : Mu := fun d => match Nat.beq d c with
  | true => f
  | false => μ d
abbrev ME (μ μ' : Mu) : Prop := (∀ adr, mObj adr (μ 0) = mObj adr (μ' 0)) ∧ μ 1 = μ' 1 ∧ μ 2 = μ' 2 ∧ μ 3 = μ' 3 ∧ μ 4 = μ' 4 ∧ μ 5 = μ' 5 ∧ μ 6 = μ' 6 ∧ μ 7 = μ' 7 ∧ μ 8 = μ' 8 ∧ μ 9 = μ' 9 ∧ μ 10 = μ' 10 ∧ μ 11 = μ' 11 ∧ μ 12 = μ' 12
theorem ET {α : Type} {a c : α} (b : α) (h1 : a = b) (h2 : b = c) : a = c := h1.trans h2
section KK
variable {G : UG} {adr : Nat → Nat} {h0 : Hp} {μ μ' : Mu}
theorem mEnt_c {c : Nat} (e : μ (c + 1) = μ' (c + 1)) : mEnt G adr μ (c + 1) = mEnt G adr μ' (c + 1) := congrArg (fun z => (.inl (uI G (mTy (c + 1)), mSz (c + 1), .inl z) : va_E)) e
theorem mEnt_ME (e : ME μ μ') : ∀ c, c < 13 → mEnt G adr μ c = mEnt G adr μ' c
  | 0, _ => congrArg (fun z => (.inr (5, z) : va_E)) (e.1 adr)
  | 1, _ => mEnt_c e.2.1
  | 2, _ => mEnt_c e.2.2.1
  | 3, _ => mEnt_c e.2.2.2.1
  | 4, _ => mEnt_c e.2.2.2.2.1
  | 5, _ => mEnt_c e.2.2.2.2.2.1
  | 6, _ => mEnt_c e.2.2.2.2.2.2.1
  | 7, _ => mEnt_c e.2.2.2.2.2.2.2.1
  | 8, _ => mEnt_c e.2.2.2.2.2.2.2.2.1
  | 9, _ => mEnt_c e.2.2.2.2.2.2.2.2.2.1
  | 10, _ => mEnt_c e.2.2.2.2.2.2.2.2.2.2.1
  | 11, _ => mEnt_c e.2.2.2.2.2.2.2.2.2.2.2.1
  | 12, _ => mEnt_c e.2.2.2.2.2.2.2.2.2.2.2.2
  | n + 13, h => absurd h (by omega)
theorem MS.to {h : Hp} (m : MS G adr h0 μ h) (e : ME μ μ') : MS G adr h0 μ' h := ⟨m.1, fun c hc => (m.2.1 c hc).trans (congrArg some (mEnt_ME e c hc)), m.2.2⟩
def isB (x : Int32) : Prop := x = 0 ∨ x = 1
theorem isB_b (b : Bool) : isB (b2i b) := by
  cases b
  · exact Or.inl rfl
  · exact Or.inr rfl
theorem isB_n {x : Int32} (h : isB x) : vp_nar .boolean x = x := by rcases h with rfl | rfl <;> rfl
theorem MS.st {h : Hp} (c : Nat) {j N T : Nat} {v : Int32} (m : MS G adr h0 μ h) (hc : c < 12) (ht : mTy (c + 1) = T) (hN : mSz (c + 1) = N) : MS G adr h0 (mset μ (c + 1) j v) (hset h (adr (c + 1)) (.inl (uI G T, N, .inl (upd (μ (c + 1)) j v)))) :=
  m.wr (by omega) (by show _ = (.inl (uI G (mTy (c + 1)), mSz (c + 1), .inl (mset μ (c + 1) j v (c + 1))) : va_E); rw [ht, hN, mset_s, ups_upd])
variable {F : UF} {R : Room} {Q : State → Prop} {nL pc : Nat} {L L' : List (Nat × Value)} {st rest : List Value} {Ω : Hp → Prop} {k n : Nat} {cc : ByteArray} {own : String} {ret : Option FieldType}
theorem mc_s {c : Nat} {f : Nat → Int32} : mc μ c f c = f := by unfold mc; rw [Nat.beq_refl]
theorem mc_n {c d : Nat} {f : Nat → Int32} (h : d ≠ c) : mc μ c f d = μ d := by unfold mc; rw [beq_n h]
theorem wc_s {c i : Nat} {v : Int32} {f : Nat → Int32} : mset (mc μ c f) c i v = mc μ c (ups f i v) := by
  funext d
  by_cases h : d = c
  · subst h; rw [mset_s, mc_s, mc_s]
  · rw [mset_n h, mc_n h, mc_n h]
theorem wc_n {b c i : Nat} {v : Int32} {g : Nat → Int32} (hb : c ≠ b) : mset (mc μ b g) c i v = mc (mset μ c i v) b g := by
  funext d
  by_cases h : d = c
  · subst h; rw [mset_s, mc_n hb, mc_n hb, mset_s]
  · rw [mset_n h]
    by_cases q : d = b
    · subst q; rw [mc_s, mc_s]
    · rw [mc_n q, mc_n q, mset_n h]
theorem w_new {c i : Nat} {v : Int32} {f : Nat → Int32} (e : μ c = f) : mset μ c i v = mc μ c (ups f i v) := by
  funext d
  by_cases h : d = c
  · subst h; rw [mset_s, mc_s, e]
  · rw [mset_n h, mc_n h]
theorem cc_s {c : Nat} {f g : Nat → Int32} : mc (mc μ c g) c f = mc μ c f := by
  funext d
  by_cases h : d = c
  · subst h; rw [mc_s, mc_s]
  · rw [mc_n h, mc_n h, mc_n h]
theorem cc_n {b c : Nat} {f g : Nat → Int32} (hb : c ≠ b) : mc (mc μ b g) c f = mc (mc μ c f) b g := by
  funext d
  by_cases h : d = c
  · subst h; rw [mc_s, mc_n hb, mc_s]
  · rw [mc_n h]
    by_cases q : d = b
    · subst q; rw [mc_s, mc_s]
    · rw [mc_n q, mc_n q, mc_n h]
theorem ff_s {k : Nat} {v w : Int32} : mset (mset μ 0 k w) 0 k v = mset μ 0 k v := by
  funext d
  by_cases h : d = 0
  · subst h; rw [mset_s, mset_s, mset_s]; funext j
    by_cases q : j = k
    · subst q; rw [ups_s, ups_s]
    · rw [ups_n q, ups_n q, ups_n q]
  · rw [mset_n h, mset_n h, mset_n h]
theorem ff_n {j k : Nat} {v w : Int32} (hk : k ≠ j) : mset (mset μ 0 j w) 0 k v = mset (mset μ 0 k v) 0 j w := by
  funext d
  by_cases h : d = 0
  · subst h; rw [mset_s, mset_s, mset_s, mset_s]; funext i
    by_cases q : i = k
    · subst q; rw [ups_s, ups_n hk, ups_s]
    · rw [ups_n q]
      by_cases r : i = j
      · subst r; rw [ups_s, ups_s]
      · rw [ups_n r, ups_n r, ups_n q]
  · rw [mset_n h, mset_n h, mset_n h, mset_n h]
theorem mc_id {c : Nat} {f : Nat → Int32} (e : μ c = f) : mc μ c f = μ := by
  funext d
  by_cases h : d = c
  · subst h; rw [mc_s, e]
  · rw [mc_n h]
theorem mf_id {k : Nat} {v : Int32} (e : μ 0 k = v) : mset μ 0 k v = μ := by
  funext d
  by_cases h : d = 0
  · subst h; rw [mset_s]; funext j
    by_cases q : j = k
    · subst q; rw [ups_s, e]
    · rw [ups_n q]
  · rw [mset_n h]
theorem MS.eq {h : Hp} (m : MS G adr h0 μ h) (e : μ = μ') : MS G adr h0 μ' h := e ▸ m
theorem x_mputQ (O : Ok G F own cc nL ret) {index kf : Nat} {v : Int32} (K : FP own index 5 kf .int) (hk : (mObj adr (μ 0)).set kf (.int v) = mObj adr (ups (μ 0) kf v)) (hl : Nat.ble (kf + 1) 28 = true) (d : decode cc pc = .ok (.putfield index, 3)) {μ' : Mu} (e : mset μ 0 kf v = μ') (kk : X G F R Q nL (pc + 3) L st (MS G adr h0 μ') k n) : X G F R Q nL pc L (.int v :: .ref (adr 0) :: st) (MS G adr h0 μ) k n :=
  x_mput O K hk hl d (x_weak (fun _ m => m.eq e) kk)
theorem x_mputBQ (O : Ok G F own cc nL ret) {index kf : Nat} {b : Bool} (K : FP own index 5 kf .boolean) (hk : (mObj adr (μ 0)).set kf (.int (b2i b)) = mObj adr (ups (μ 0) kf (b2i b))) (hl : Nat.ble (kf + 1) 28 = true) (d : decode cc pc = .ok (.putfield index, 3)) {μ' : Mu} (e : mset μ 0 kf (b2i b) = μ') (kk : X G F R Q nL (pc + 3) L st (MS G adr h0 μ') k n) : X G F R Q nL pc L (.int (b2i b) :: .ref (adr 0) :: st) (MS G adr h0 μ) k n :=
  x_mputB O K hk hl d (x_weak (fun _ m => m.eq e) kk)
theorem x_mastQ (O : Ok G F own cc nL ret) (c : Nat) {N : Nat} {i : Nat} {v : Int32} (ha : ∀ h, MS G adr h0 μ h → h (adr (c + 1)) = some (.inl (uI G 0, N, .inl (μ (c + 1))))) (hc : Nat.ble (c + 1) 12 = true) (ht : mTy (c + 1) = 0) (hs : mSz (c + 1) = N) (hi : i < N) (hN : Nat.ble N 65536 = true) (d : decode cc pc = .ok (.iastore, 1)) {μ' : Mu} (e : mset μ (c + 1) i v = μ') (kk : X G F R Q nL (pc + 1) L st (MS G adr h0 μ') k n) : X G F R Q nL pc L (.int v :: .int (nI i) :: .ref (adr (c + 1)) :: st) (MS G adr h0 μ) k n :=
  x_mast O c ha hc ht hs hi hN d (x_weak (fun _ m => m.eq e) kk)
theorem x_mbstQ (O : Ok G F own cc nL ret) (c : Nat) {N : Nat} {i : Nat} {v : Int32} (ha : ∀ h, MS G adr h0 μ h → h (adr (c + 1)) = some (.inl (uI G 1, N, .inl (μ (c + 1))))) (hc : Nat.ble (c + 1) 12 = true) (ht : mTy (c + 1) = 1) (hs : mSz (c + 1) = N) (hi : i < N) (hN : Nat.ble N 65536 = true) (d : decode cc pc = .ok (.bastore, 1)) (hz : vp_nar .byte v = v) {μ' : Mu} (e : mset μ (c + 1) i v = μ') (kk : X G F R Q nL (pc + 1) L st (MS G adr h0 μ') k n) : X G F R Q nL pc L (.int v :: .int (nI i) :: .ref (adr (c + 1)) :: st) (MS G adr h0 μ) k n := by
  have h5 := Nat.le_of_ble_eq_true hN
  have h6 := Nat.le_of_ble_eq_true hc
  have h3 : (nI i).toNatClampNeg = i := nI_clamp (by omega)
  exact x_bast O ha (vp_in_nI hi (by omega)) d _ (fun h m => by rw [h3, hz]; exact (m.st c (by omega) ht hs).eq e) kk
theorem x_mzstQ (O : Ok G F own cc nL ret) (c : Nat) {N : Nat} {i : Nat} {v : Int32} (ha : ∀ h, MS G adr h0 μ h → h (adr (c + 1)) = some (.inl (uI G 2, N, .inl (μ (c + 1))))) (hc : Nat.ble (c + 1) 12 = true) (ht : mTy (c + 1) = 2) (hs : mSz (c + 1) = N) (hi : i < N) (hN : Nat.ble N 65536 = true) (d : decode cc pc = .ok (.bastore, 1)) (hz : isB v) {μ' : Mu} (e : mset μ (c + 1) i v = μ') (kk : X G F R Q nL (pc + 1) L st (MS G adr h0 μ') k n) : X G F R Q nL pc L (.int v :: .int (nI i) :: .ref (adr (c + 1)) :: st) (MS G adr h0 μ) k n := by
  have h5 := Nat.le_of_ble_eq_true hN
  have h6 := Nat.le_of_ble_eq_true hc
  have h3 : (nI i).toNatClampNeg = i := nI_clamp (by omega)
  exact x_zast O ha (vp_in_nI hi (by omega)) d _ (fun h m => by rw [h3, isB_n hz]; exact (m.st c (by omega) ht hs).eq e) kk
theorem x_idivN (O : Ok G F own cc nL ret) {a b : Nat} (ha : a < 2 ^ 31) (h0 : 0 < b) (hb : b < 2 ^ 31) (d : decode cc pc = .ok (.idiv, 1)) (kk : X G F R Q nL (pc + 1) L (.int (nI (a / b)) :: st) Ω k n) : X G F R Q nL pc L (.int (nI b) :: .int (nI a) :: st) Ω k n := x_idiv O d (nI_ne0 h0 hb) (x_top (pk_div ha h0 hb) kk)
theorem x_iremN (O : Ok G F own cc nL ret) {a b : Nat} (ha : a < 2 ^ 31) (h0 : 0 < b) (hb : b < 2 ^ 31) (d : decode cc pc = .ok (.irem, 1)) (kk : X G F R Q nL (pc + 1) L (.int (nI (a % b)) :: st) Ω k n) : X G F R Q nL pc L (.int (nI b) :: .int (nI a) :: st) Ω k n := x_irem O d (nI_ne0 h0 hb) (x_top (pk_rem ha h0 hb) kk)
theorem x_eqS {st' : List Value} (e3 : st' = st) (kk : X G F R Q nL pc L st' Ω k n) : X G F R Q nL pc L st Ω k n := by subst e3; exact kk
theorem nI_z {a : Nat} (ha : a < 2 ^ 31) : nI a = 0 ↔ a = 0 := by rw [← nI_0]; exact nI_eq ha (by decide)
theorem nI_z' {a : Nat} (ha : a < 2 ^ 31) : nI a ≤ 0 ↔ a = 0 := by rw [← nI_0, nI_leI ha (by decide)]; omega
theorem nI_p {a : Nat} (ha : a < 2 ^ 31) : 0 < nI a ↔ ¬ a = 0 := by rw [← nI_0, nI_ltI (by decide) ha]; omega
theorem x_ifeqN (O : Ok G F own cc nL ret) {a : Nat} {off : Int} (tgt : Nat) (ha : a < 2 ^ 31) (d : decode cc pc = .ok (.ifCond .eq off, 3)) (ht : (pc : Int) + off = (tgt : Int)) (kt : a = 0 → X G F R Q nL tgt L st Ω k n) (kf : ¬ a = 0 → X G F R Q nL (pc + 3) L st Ω k n) : X G F R Q nL pc L (.int (nI a) :: st) Ω k n := x_ifeq O tgt d ht (fun c => kt ((nI_z ha).mp c)) (fun c => kf (fun z => c ((nI_z ha).mpr z)))
theorem x_ifneN (O : Ok G F own cc nL ret) {a : Nat} {off : Int} (tgt : Nat) (ha : a < 2 ^ 31) (d : decode cc pc = .ok (.ifCond .ne off, 3)) (ht : (pc : Int) + off = (tgt : Int)) (kt : ¬ a = 0 → X G F R Q nL tgt L st Ω k n) (kf : a = 0 → X G F R Q nL (pc + 3) L st Ω k n) : X G F R Q nL pc L (.int (nI a) :: st) Ω k n := x_ifne O tgt d ht (fun c => kt (fun z => c ((nI_z ha).mpr z))) (fun c => kf ((nI_z ha).mp c))
theorem x_ifleN (O : Ok G F own cc nL ret) {a : Nat} {off : Int} (tgt : Nat) (ha : a < 2 ^ 31) (d : decode cc pc = .ok (.ifCond .le off, 3)) (ht : (pc : Int) + off = (tgt : Int)) (kt : a = 0 → X G F R Q nL tgt L st Ω k n) (kf : ¬ a = 0 → X G F R Q nL (pc + 3) L st Ω k n) : X G F R Q nL pc L (.int (nI a) :: st) Ω k n := x_ifle O tgt d ht (fun c => kt ((nI_z' ha).mp c)) (fun c => kf (fun z => c ((nI_z' ha).mpr z)))
theorem x_ifgtN (O : Ok G F own cc nL ret) {a : Nat} {off : Int} (tgt : Nat) (ha : a < 2 ^ 31) (d : decode cc pc = .ok (.ifCond .gt off, 3)) (ht : (pc : Int) + off = (tgt : Int)) (kt : ¬ a = 0 → X G F R Q nL tgt L st Ω k n) (kf : a = 0 → X G F R Q nL (pc + 3) L st Ω k n) : X G F R Q nL pc L (.int (nI a) :: st) Ω k n := x_ifgt O tgt d ht (fun c => kt ((nI_p ha).mp c)) (fun c => kf (Decidable.byContradiction fun z => c ((nI_p ha).mpr z)))
end KK
theorem x_dc (p : Prop) [Decidable p] {P : Prop} (kt : p → P) (kf : ¬ p → P) : P := if h : p then kt h else kf h
theorem tab_out {x : Int32} {n : Nat} {hi : Int} (h : ∀ j, j < n → ¬ x = nI j) (e : hi + 1 = (n : Int)) : x.toInt < 0 ∨ hi < x.toInt := by
  by_cases c : x.toInt < 0
  · exact Or.inl c
  · refine Or.inr (Int.not_le.mp fun c2 => ?_)
    have h1 := x.toInt_lt
    refine h x.toInt.toNat (by omega) (Int32.toInt_inj.mp ?_)
    rw [nI_toInt (by omega)]; omega
theorem MI_u {W : Nat → Int32} {j : Nat} {v : Int32} (hj : 8 ≤ j) (h : MI W) : MI (ups W j v) := fun c hc => by
  rw [ups_n (by omega)]; exact h c hc
/-! bits -/
theorem nI_bv {z : Int32} {m : Nat} (h : z.toBitVec.toNat = m) : z = nI m :=
  Int32.toBitVec_inj.1 (BitVec.eq_of_toNat_eq (by rw [h, pk_tn (by have := z.toBitVec.isLt; omega)]))
theorem and_nn {a : Nat} (ha : a < 2 ^ 31) (y : Int32) : nn (nI a &&& y) a := by
  have h : (nI a &&& y).toBitVec.toNat = a &&& y.toBitVec.toNat := by
    rw [Int32.toBitVec_and, BitVec.toNat_and, pk_tn (by omega)]
  rw [nI_bv h]; exact nn_nI Nat.and_le_left ha
theorem and_N {a b : Nat} (ha : a < 2 ^ 31) (hb : b < 2 ^ 31) : nI a &&& nI b = nI (a &&& b) :=
  nI_bv (by rw [Int32.toBitVec_and, BitVec.toNat_and, pk_tn (by omega), pk_tn (by omega)])
theorem or_N {a b : Nat} (ha : a < 2 ^ 31) (hb : b < 2 ^ 31) : nI a ||| nI b = nI (a ||| b) :=
  nI_bv (by rw [Int32.toBitVec_or, BitVec.toNat_or, pk_tn (by omega), pk_tn (by omega)])
theorem xor_N {a b : Nat} (ha : a < 2 ^ 31) (hb : b < 2 ^ 31) : nI a ^^^ nI b = nI (a ^^^ b) :=
  nI_bv (by rw [Int32.toBitVec_xor, BitVec.toNat_xor, pk_tn (by omega), pk_tn (by omega)])
theorem sh31 : ∀ g, g < 32 → ((nI g &&& 31).toBitVec.smod 32).toNat = g := by decide +kernel
theorem shl_N {a g : Nat} (hg : g < 32) (h : a * 2 ^ g < 2 ^ 31) : nI a <<< (nI g &&& 31) = nI (a * 2 ^ g) := pk_shlN _ g (sh31 g hg) (by omega)
theorem shr_N {a g : Nat} (hg : g < 32) (h : a < 2 ^ 31) : nI a >>> (nI g &&& 31) = nI (a / 2 ^ g) := pk_shrN h _ g (sh31 g hg)
theorem pow_le {a b : Nat} (h : a ≤ b) : 2 ^ a ≤ 2 ^ b := Nat.pow_le_pow_right (by decide) h
theorem pow8 {a : Nat} (h : a ≤ 8) : 2 ^ a ≤ 256 := pow_le h
theorem pow7 {a : Nat} (h : a < 8) : 2 ^ a ≤ 128 := pow_le (b := 7) (by omega)
theorem pow_1 (a : Nat) : 1 ≤ 2 ^ a := Nat.one_le_two_pow
theorem shl1 {g : Nat} (hg : g ≤ 8) : nI 1 <<< (nI g &&& 31) = nI (2 ^ g) := by
  have h := pow8 hg
  rw [shl_N (by omega) (by omega), Nat.one_mul]
theorem shl8 {g : Nat} (hg : g ≤ 8) : nI 8 <<< (nI g &&& 31) = nI (8 * 2 ^ g) := by
  have h := pow8 hg
  rw [shl_N (by omega) (by omega)]
theorem or8 {a b : Nat} (ha : a < 256) (hb : b < 8) : (a ||| 2 ^ b) < 256 := Nat.or_lt_two_pow (n := 8) ha (by have := pow7 hb; omega)
theorem or_nn {x y : Int32} (hx : nn x 255) (hy : nn y 255) : nn (x ||| y) 255 := by
  rw [hx.1, hy.1, or_N (by have := hx.2; omega) (by have := hy.2; omega)]
  exact nn_nI (by have := Nat.or_lt_two_pow (n := 8) (show tn x < 2 ^ 8 by have := hx.2; omega) (show tn y < 2 ^ 8 by have := hy.2; omega); omega) (by decide)
theorem shl1_nn {x : Int32} (h : nn x 7) : nn (nI 1 <<< (x &&& 31)) 255 := by
  rw [h.1, shl1 (by have := h.2; omega)]
  exact nn_nI (by have := pow7 (a := tn x) (by have := h.2; omega); omega) (by decide)
/-! distance -/
theorem j_abs_d {a b : Nat} (ha : a < 2 ^ 30) (hb : b < 2 ^ 30) : j_abs (nI a - nI b) = nI ((a - b) + (b - a)) := by
  unfold j_abs
  by_cases h : b ≤ a
  · rw [pk_sub h, if_pos (nI_pos' (by omega))]; congr 1; omega
  · rw [if_neg (fun z => Int32.not_le.mpr (pk_sneg hb (by omega)) z), Int32.neg_sub, pk_sub (by omega)]; congr 1; omega
theorem j_max_N {a b : Nat} (ha : a < 2 ^ 31) (hb : b < 2 ^ 31) : j_max (nI a) (nI b) = nI (max a b) := by
  unfold j_max
  by_cases h : a < b
  · rw [if_pos (nI_lt h hb)]; congr 1; omega
  · rw [if_neg (nI_nlt (by omega) ha)]; congr 1; omega
theorem j_min_N {a b : Nat} (ha : a < 2 ^ 31) (hb : b < 2 ^ 31) : j_min (nI a) (nI b) = nI (min a b) := by
  unfold j_min
  by_cases h : b < a
  · rw [if_pos (nI_lt h ha)]; congr 1; omega
  · rw [if_neg (nI_nlt (by omega) hb)]; congr 1; omega
def farN (f t : Nat) : Nat := max ((f % 16 - t % 16) + (t % 16 - f % 16)) ((f / 16 - t / 16) + (t / 16 - f / 16))
theorem far_N {f t : Nat} (hf : f < 256) (ht : t < 256) : g_far (nI f) (nI t) = nI (farN f t) := by
  unfold g_far farN
  rw [pk_rem (by omega) (by decide) (by decide), pk_rem (by omega) (by decide) (by decide), pk_div (by omega) (by decide) (by decide), pk_div (by omega) (by decide) (by decide), j_abs_d (by omega) (by omega), j_abs_d (by omega) (by omega), j_max_N (by omega) (by omega)]
theorem farN_le {f t : Nat} (hf : f < 256) (ht : t < 256) : farN f t ≤ 15 := by unfold farN; omega
/-- a place between two, to the nearest -/
def nV (a b k n : Nat) : Nat := (2 * (a * (n - k) + b * k) + n) / (2 * n)
theorem nV_le {a b k n : Nat} (ha : a ≤ 15) (hb : b ≤ 15) (hk : k < n) : nV a b k n ≤ 15 := by
  have h1 : a * (n - k) ≤ 15 * (n - k) := Nat.mul_le_mul_right _ ha
  have h2 : b * k ≤ 15 * k := Nat.mul_le_mul_right _ hb
  have h3 : (2 * (a * (n - k) + b * k) + n) / (2 * n) < 16 := (Nat.div_lt_iff_lt_mul (by omega)).mpr (by omega)
  unfold nV; omega
theorem j_fdiv_N {A B : Nat} (hA : A < 2 ^ 31) (hB : B < 2 ^ 31) (h0 : 0 < B) : j_fdiv (nI A) (nI B) = nI (A / B) := by
  unfold j_fdiv
  rw [xor_N hA hB, if_pos (nI_pos' (Nat.xor_lt_two_pow hA hB)), pk_div hA h0 hB]
theorem nI_lin {a b k n : Nat} (hk : k ≤ n) : nI (a * n) + nI k * (nI b - nI a) = nI (a * (n - k) + b * k) := by
  have hI : ∀ m : Nat, nI m = Int32.ofInt (m : Int) := fun m => Int32.ofInt_eq_ofNat.symm
  obtain ⟨m, rfl⟩ : ∃ m, n = k + m := ⟨n - k, by omega⟩
  rw [hI, hI, hI, hI, hI, ← Int32.ofInt_sub, ← Int32.ofInt_mul, ← Int32.ofInt_add, Nat.add_sub_cancel_left]
  congr 1
  rw [Int.natCast_mul, Int.natCast_add, Int.natCast_add, Int.natCast_mul, Int.natCast_mul]
  grind
theorem nV_ok {a b k n : Nat} (ha : a ≤ 15) (hb : b ≤ 15) (hk : k < n) (hn : n ≤ 15) : m_nearest (nI (a * n) + nI k * (nI b - nI a)) (nI n) = nI (nV a b k n) := by
  have h1 : a * (n - k) ≤ 15 * (n - k) := Nat.mul_le_mul_right _ ha
  have h2 : b * k ≤ 15 * k := Nat.mul_le_mul_right _ hb
  unfold m_nearest nV
  rw [nI_lin (by omega), pk_mul, pk_mul, nI_add, j_fdiv_N (by omega) (by omega) (by omega)]
