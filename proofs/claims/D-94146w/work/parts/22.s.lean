/-! the constants of text: their length and letters -/
section SR
variable {G : UG} {F : UF} {R : Room} {Q : State → Prop} {nL pc : Nat} {L L' : List (Nat × Value)} {st rest : List Value} {Ω : Hp → Prop} {k n : Nat} {cc : ByteArray} {own : String} {ret : Option FieldType}
theorem Ok.S (O : Ok G F own cc nL ret) : vk_S uSN uSlen uSbyt (uK G) (uV G) (uA G) (fS F) (fS F).heap := O.pre.2.2.2.2.2.1
theorem x_getsZ (O : Ok G F own cc nL ret) {index : Nat} (hl : Cond.fieldLink own index "java/lang/String" "COMPACT_STRINGS" "Z" ∈ lw_all) (d : decode cc pc = .ok (.getstatic index, 3)) (kk : X G F R Q nL (pc + 3) L (.int 1 :: st) Ω k n) : X G F R Q nL pc L st Ω k n :=
  fun h H locs ls hΩ hR hS hL => va_gets O.x O.b O.pre.2.2.2.2.1 hS O.ow (O.ts _ hl) (fun _ z => z) d (kk h H locs ls hΩ hR hS hL)
theorem x_getsK (O : Ok G F own cc nL ret) {index : Nat} (hl : Cond.fieldLink own index uCk.1 uCk.2.1 uCk.2.2 ∈ lw_all) (d : decode cc pc = .ok (.getstatic index, 3)) (kk : ∀ q : Nat, X G F R Q nL (pc + 3) L (.ref q :: st) Ω k n) : X G F R Q nL pc L st Ω k n := by
  obtain ⟨q, hq⟩ := O.pre.2.2.2.2.2.2
  exact fun h H locs ls hΩ hR hS hL => va_gets O.x O.b hq hS O.ow (O.ts _ hl) (fun _ z => z) d (kk q h H locs ls hΩ hR hS hL)
theorem x_strF (O : Ok G F own cc nL ret) {i index : Nat} {nm ds : String} {v : Value} (hE : va_OF "java/lang/String" nm ds v (uK G i) (uA G) (fS F) (fS F).heap) (hl : Cond.fieldLink own index "java/lang/String" nm ds ∈ lw_all) (d : decode cc pc = .ok (.getfield index, 3)) (kk : X G F R Q nL (pc + 3) L (v :: st) Ω k n) : X G F R Q nL pc L (.ref (uK G i) :: st) Ω k n :=
  fun h H locs ls hΩ hR hS hL => vk_getf O.x O.b hE hS O.ow (O.ts _ hl) (fun _ z => z) d (kk h H locs ls hΩ hR hS hL)
theorem x_slen (O : Ok G F own cc nL ret) {t N : Nat} {f : Nat → Value} {ty : FieldType} (hT : va_T ty t N f (uA G) (fS F) (fS F).heap) (d : decode cc pc = .ok (.arraylength, 1)) (kk : X G F R Q nL (pc + 1) L (.int (nI N) :: st) Ω k n) : X G F R Q nL pc L (.ref t :: st) Ω k n :=
  fun h H locs ls hΩ hR hS hL => va_tlen O.x O.b hT hS rfl d (kk h H locs ls hΩ hR hS hL)
theorem x_sbald (O : Ok G F own cc nL ret) {t N j : Nat} {f : Nat → Value} {v : Value} (hT : va_T .byte t N f (uA G) (fS F) (fS F).heap) (hj : j < N) (hN : N < 2 ^ 31) (hv : f j = v) (d : decode cc pc = .ok (.baload, 1)) (kk : X G F R Q nL (pc + 1) L (v :: st) Ω k n) : X G F R Q nL pc L (.int (nI j) :: .ref t :: st) Ω k n :=
  fun h H locs ls hΩ hR hS hL => va_tb O.x O.b hT hS (vp_in_nI hj hN) (by rw [nI_clamp (by omega)]; exact hv) d (kk h H locs ls hΩ hR hS hL)
theorem x_i2c (O : Ok G F own cc nL ret) {x : Int32} (d : decode cc pc = .ok (.i2c, 1)) (kk : X G F R Q nL (pc + 1) L (.int (x.toUInt32 % 65536).toInt32 :: st) Ω k n) : X G F R Q nL pc L (.int x :: st) Ω k n :=
  fun h H locs ls hΩ hR hS hL => lv_i2c O.x O.b d rfl (kk h H locs ls hΩ hR hS hL)
theorem x_tretQ (O : Ok G F own cc nL ret) {ty : FieldType} {P : Option Value → Hp → Prop} {PX : String → Nat → Hp → Prop} {mc ms : Nat} {v : Int32} (hQ : Q = CQ G F P PX mc ms) (hr : ret = some ty) (hv : narrow ty (.int v) = .int v) (d : decode cc pc = .ok (.ireturn, 1)) (hp : ∀ h, Ω h → P (some (.int v)) h) : X G F R Q nL pc L [.int v] Ω mc ms := by
  subst hQ
  intro h H locs ls hΩ hR hS hl
  exact vx_ret (W.zret O.x O.b (O.r.trans hr) hv (fun t ht hW => ⟨_, h, rfl, hp h hΩ, by rw [ht]; exact hR, hS.F ht⟩) hS.2.2 d O.lk)
/-- a call through a constant of text -/
theorem x_cVK (O : Ok G F own cc nL ret) {index i fr lo maxL : Nat} {y : MethodName} {bytes : ByteArray} {ret1 : Option FieldType} {As : List Value} {Ω' : Hp → Prop} {rv : Option Value} (na : Nat)
    (con : Con G y bytes maxL ret1 fr lo 0 0 (.ref (uK G i) :: As) Ω (fun v h' => v = rv ∧ Ω' h') nX) (hi : i < uSN) (hw : GoodIn lw_all (wsV own index "java/lang/String" y (ws_ y bytes maxL ret1))) (hyc : y.cls = "java/lang/String") (hd : HD y na) (hn : As.length = na) (hR0 : Nat.ble (fr + 1) R.frames = true) (hR1 : Nat.ble (8 + (maxL + 11) + lo) R.locals = true) (hcs : k ≤ R.cells ∧ n ≤ R.slots)
    (hst : st = As.reverse ++ .ref (uK G i) :: rest) (hrm : Nat.ble (rest.map fun v => v.category).sum 8 = true) (d : decode cc pc = .ok (.invokevirtual index, 3)) (kk : X G F R Q nL (pc + 3) L (rv.toList ++ rest) Ω' k n) : X G F R Q nL pc L st Ω k n := by
  have hr : XRun G F R nL pc L st rest Ω k n 0 0 (fun v h' => v = rv ∧ Ω' h') nX := by
    intro h H locs ls hΩ hR hS hl
    refine ⟨(Value.ref (uK G i) :: As).toArray, vx_runV (As := As) (rest := rest) (b := uK G i) (C := "java/lang/String") O.fix con (cwV na O.ts hw rfl rfl rfl ⟨hyc, hd⟩ ⟨Nat.le_of_ble_eq_true hR0, Nat.le_of_ble_eq_true hR1⟩) ⟨Pre.blind, vk_recv O.S hi hS, O.at hΩ hR hS⟩ rfl hn hl.1 hst ?_ d hcs⟩
    show 2 * 0 + _ ≤ 8
    rw [Nat.mul_zero, Nat.zero_add]
    exact Nat.le_of_ble_eq_true hrm
  refine x_run hr (fun v => ?_) (fun E q => ?_)
  · rintro h H locs ls ⟨rfl, hΩ⟩ hR hS hl
    exact kk h H locs ls hΩ hR hS hl
  · intro h H locs ls ce hΩ
    exact hΩ.elim
theorem x_aloadQ (O : Ok G F own cc nL ret) {kk0 : Fin 4} {x : Nat} (q : Nat) {i : Nat} (d : decode cc pc = .ok (.aload_n kk0, 1)) (e : (kk0 : Nat) = i) (g : L[q]? = some (i, .ref x)) (kk : X G F R Q nL (pc + 1) L (.ref x :: st) Ω k n) : X G F R Q nL pc L st Ω k n := x_aload_n O q d e g kk
theorem x_ldcS (O : Ok G F own cc nL ret) {index i : Nat} {tx : String} (hm : (own, index, tx, i) ∈ uStr) (d : decode cc pc = .ok (.ldc index, 2)) (kk : X G F R Q nL (pc + 2) L (.ref (uK G i) :: st) Ω k n) : X G F R Q nL pc L st Ω k n :=
  fun h H locs ls hΩ hR hS hL => va_ldcS O.x O.b O.ow (O.pre.1.2.2.2.2.2.2.2.2.2 _ hm) d (kk h H locs ls hΩ hR hS hL)
end SR
def sN (i : Nat) : Nat := uSlen.getD i 0
def sB (i j : Nat) : Int32 := (uSbyt.getD i []).getD j 0 &&& 255
theorem sN_le : ∀ i, i < uSN → sN i ≤ 7 := by decide +kernel
theorem c_s_coder {G : UG} {Ω : Hp → Prop} {i : Nat} (hi : i < uSN) : Con G yJ5_coder cJ5_coder 1 (some .byte) 0 0 0 0 [.ref (uK G i)] Ω (fun v h' => v = some (.int 0) ∧ Ω h') nX := by
  refine con_of2 (plainFor_of_name (by decide)) rfl ?_
  intro F R Q RF RL RC RS hQ O hnh hnm
  refine x_eq (L' := [(0, .ref (uK G i))]) ?_ rfl rfl rfl
  refine x_getsZ O q860 dJ5_coder_0 ?_
  refine x_ifeq O 13 dJ5_coder_3 (by decide) (fun c => absurd c (by decide)) (fun _ => ?_)
  refine x_aload_n O 0 dJ5_coder_6 rfl rfl ?_
  refine x_strF O (O.S.1 i hi).2.1 q2306 dJ5_coder_7 ?_
  refine x_goto O 14 dJ5_coder_10 (by decide) ?_
  exact x_tretQ O hQ rfl rfl dJ5_coder_14 (fun h m => ⟨rfl, m⟩)
theorem c_s_isLatin1 {G : UG} {Ω : Hp → Prop} {i : Nat} (hi : i < uSN) : Con G yJ5_isLatin1 cJ5_isLatin1 1 (some .boolean) 0 0 0 0 [.ref (uK G i)] Ω (fun v h' => v = some (.int 1) ∧ Ω h') nX := by
  refine con_of2 (plainFor_of_name (by decide)) rfl ?_
  intro F R Q RF RL RC RS hQ O hnh hnm
  refine x_eq (L' := [(0, .ref (uK G i))]) ?_ rfl rfl rfl
  refine x_getsZ O q860 dJ5_isLatin1_0 ?_
  refine x_ifeq O 17 dJ5_isLatin1_3 (by decide) (fun c => absurd c (by decide)) (fun _ => ?_)
  refine x_aload_n O 0 dJ5_isLatin1_6 rfl rfl ?_
  refine x_strF O (O.S.1 i hi).2.1 q2306 dJ5_isLatin1_7 ?_
  refine x_ifne O 17 dJ5_isLatin1_10 (by decide) (fun c => absurd rfl c) (fun _ => ?_)
  refine x_iconst O 1 dJ5_isLatin1_13 (by decide) ?_
  refine x_goto O 18 dJ5_isLatin1_14 (by decide) ?_
  exact x_tretQ O hQ rfl rfl dJ5_isLatin1_18 (fun h m => ⟨rfl, m⟩)
theorem c_s_len {G : UG} {Ω : Hp → Prop} {i : Nat} (hi : i < uSN) : Con G yJ5_length cJ5_length 1 (some .int) 1 20 0 0 [.ref (uK G i)] Ω (fun v h' => v = some (.int (nI (sN i))) ∧ Ω h') nX := by
  refine con_of2 (plainFor_of_name (by decide)) rfl ?_
  intro F R Q RF RL RC RS hQ O hnh hnm
  refine x_eq (L' := [(0, .ref (uK G i))]) ?_ rfl rfl rfl
  refine x_aload_n O 0 dJ5_length_0 rfl rfl ?_
  refine x_strF O (O.S.1 i hi).2.2.1 q2305 dJ5_length_1 ?_
  refine x_slen O (O.S.1 i hi).2.2.2 dJ5_length_4 ?_
  refine x_aload_n O 0 dJ5_length_5 rfl rfl ?_
  refine x_cVK O 0 (c_s_coder hi) hi (lw_V q856 q857 q858 q114 q859) rfl hd_J5_coder rfl (by rw [RF]; rfl) (by rw [RL]; rfl) ⟨Nat.zero_le _, Nat.zero_le _⟩ rfl rfl dJ5_length_6 ?_
  refine x_ishr O dJ5_length_9 ?_
  refine x_top (v' := nI (sN i)) ?_ ?_
  · have h7 := sN_le i hi
    show nI (sN i) >>> (nI 0 &&& 31) = _
    rw [shr_N (by decide) (by omega)]; simp
  exact x_iretQ O hQ rfl dJ5_length_10 (fun h m => ⟨rfl, m⟩)
theorem c_checkIndex10 {G : UG} {Ω : Hp → Prop} {j N q : Nat} (hj : j < N) (hN : N < 2 ^ 31) : Con G yJ10_checkIndex cJ10_checkIndex 3 (some .int) 0 0 0 0 [.int (nI j), .int (nI N), .ref q] Ω (fun v h' => v = some (.int (nI j)) ∧ Ω h') nX := by
  refine con_of2 (plainFor_of_name (by decide)) rfl ?_
  intro F R Q RF RL RC RS hQ O hnh hnm
  refine x_eq (L' := [(0, .int (nI j)), (1, .int (nI N)), (2, .ref q)]) ?_ rfl rfl rfl
  refine x_iload_n O 0 dJ10_checkIndex_0 rfl rfl ?_
  refine x_iflt O 9 dJ10_checkIndex_1 (by decide) (fun c => absurd c (nI_pos (by omega))) (fun _ => ?_)
  refine x_iload_n O 0 dJ10_checkIndex_4 rfl rfl ?_
  refine x_iload_n O 1 dJ10_checkIndex_5 rfl rfl ?_
  refine x_icmplt O 16 dJ10_checkIndex_6 (by decide) (fun _ => ?_) (fun c => absurd (nI_lt hj hN) c)
  refine x_iload_n O 0 dJ10_checkIndex_16 rfl rfl ?_
  exact x_iretQ O hQ rfl dJ10_checkIndex_17 (fun h m => ⟨rfl, m⟩)
theorem c_checkIndex5 {G : UG} {Ω : Hp → Prop} {j N : Nat} (hj : j < N) (hN : N < 2 ^ 31) : Con G yJ5_checkIndex cJ5_checkIndex 2 none 1 22 0 0 [.int (nI j), .int (nI N)] Ω (fun v h' => v = none ∧ Ω h') nX := by
  refine con_of2 (plainFor_of_name (by decide)) rfl ?_
  intro F R Q RF RL RC RS hQ O hnh hnm
  refine x_eq (L' := [(0, .int (nI j)), (1, .int (nI N))]) ?_ rfl rfl rfl
  refine x_iload_n O 0 dJ5_checkIndex_0 rfl rfl ?_
  refine x_iload_n O 1 dJ5_checkIndex_1 rfl rfl ?_
  refine x_getsK O q876 dJ5_checkIndex_2 (fun q => ?_)
  refine x_cS O 3 (c_checkIndex10 hj hN) (lw_S q878 q879 q120 q880) hd_J10_checkIndex rfl (by rw [RF]; rfl) (by rw [RL]; rfl) ⟨Nat.zero_le _, Nat.zero_le _⟩ rfl rfl dJ5_checkIndex_5 ?_
  refine x_pop O dJ5_checkIndex_8 rfl ?_
  exact x_vretQ O hQ rfl dJ5_checkIndex_9 (fun h m => ⟨rfl, m⟩)
theorem c_l1_charAt {G : UG} {Ω : Hp → Prop} {i j : Nat} (hi : i < uSN) (hj : j < sN i) : Con G yJ9_charAt cJ9_charAt 2 (some .char) 2 43 0 0 [.ref (uV G i), .int (nI j)] Ω (fun v h' => v = some (.int (sB i j)) ∧ Ω h') nX := by
  refine con_of2 (plainFor_of_name (by decide)) rfl ?_
  intro F R Q RF RL RC RS hQ O hnh hnm
  have h7 := sN_le i hi
  refine x_eq (L' := [(0, .ref (uV G i)), (1, .int (nI j))]) ?_ rfl rfl rfl
  refine x_iload_n O 1 dJ9_charAt_0 rfl rfl ?_
  refine x_aload_n O 0 dJ9_charAt_1 rfl rfl ?_
  refine x_slen O (O.S.1 i hi).2.2.2 dJ9_charAt_2 ?_
  refine x_cS O 2 (c_checkIndex5 hj (by omega)) (lw_S q873 q874 q114 q875) hd_J5_checkIndex rfl (by rw [RF]; rfl) (by rw [RL]; rfl) ⟨Nat.zero_le _, Nat.zero_le _⟩ rfl rfl dJ9_charAt_3 ?_
  refine x_aload_n O 0 dJ9_charAt_6 rfl rfl ?_
  refine x_iload_n O 1 dJ9_charAt_7 rfl rfl ?_
  refine x_sbald O (O.S.1 i hi).2.2.2 hj (by show sN i < 2 ^ 31; omega) rfl dJ9_charAt_8 ?_
  refine x_sipush O 255 dJ9_charAt_9 (by decide) ?_
  refine x_iand O dJ9_charAt_12 ?_
  refine x_i2c O dJ9_charAt_13 ?_
  refine x_top (v' := sB i j) (sc_c2 _) ?_
  exact x_tretQ O hQ rfl (sc_nar _) dJ9_charAt_14 (fun h m => ⟨rfl, m⟩)
theorem c_s_charAt {G : UG} {Ω : Hp → Prop} {i j : Nat} (hi : i < uSN) (hj : j < sN i) : Con G yJ5_charAt cJ5_charAt 2 (some .char) 3 64 0 0 [.ref (uK G i), .int (nI j)] Ω (fun v h' => v = some (.int (sB i j)) ∧ Ω h') nX := by
  refine con_of2 (plainFor_of_name (by decide)) rfl ?_
  intro F R Q RF RL RC RS hQ O hnh hnm
  refine x_eq (L' := [(0, .ref (uK G i)), (1, .int (nI j))]) ?_ rfl rfl rfl
  refine x_aload_n O 0 dJ5_charAt_0 rfl rfl ?_
  refine x_cVK O 0 (c_s_isLatin1 hi) hi (lw_V q866 q867 q868 q114 q869) rfl hd_J5_isLatin1 rfl (by rw [RF]; rfl) (by rw [RL]; rfl) ⟨Nat.zero_le _, Nat.zero_le _⟩ rfl rfl dJ5_charAt_1 ?_
  refine x_ifeq O 16 dJ5_charAt_4 (by decide) (fun c => absurd c (by decide)) (fun _ => ?_)
  refine x_aload_n O 0 dJ5_charAt_7 rfl rfl ?_
  refine x_strF O (O.S.1 i hi).2.2.1 q2305 dJ5_charAt_8 ?_
  refine x_iload_n O 1 dJ5_charAt_11 rfl rfl ?_
  refine x_cS O 2 (c_l1_charAt hi hj) (lw_S q870 q871 q119 q872) hd_J9_charAt rfl (by rw [RF]; rfl) (by rw [RL]; rfl) ⟨Nat.zero_le _, Nat.zero_le _⟩ rfl rfl dJ5_charAt_12 ?_
  exact x_tretQ O hQ rfl (sc_nar _) dJ5_charAt_15 (fun h m => ⟨rfl, m⟩)
