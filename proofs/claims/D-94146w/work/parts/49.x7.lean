/-! cases of a gun: objects known to be cases -/
section UC7
variable {G : UG} {F : UF} {R : Room} {Q : State → Prop} {nL pc k n : Nat} {L L' : List (Nat × Value)} {st rest : List Value} {Ω Ω' : Hp → Prop} {cc : ByteArray} {own : String} {ret : Option FieldType}
/-- a callee that answers an object -/
theorem x_anyq {mc ms : Nat} {K : Nat → Prop} (hr : XRun G F R nL pc L st rest Ω k n mc ms (fun vr_ h' => (∃ q, vr_ = some (.ref q) ∧ K q) ∧ Ω' h') nX) (kk : ∀ q, K q → X G F R Q nL (pc + 3) L (.ref q :: rest) Ω' (k + mc) (n + ms)) : X G F R Q nL pc L st Ω k n := by
  refine x_run hr (fun v => ?_) (fun E q => ?_)
  · intro h H locs ls hΩ hR hS hl
    obtain ⟨⟨q, rfl, hK⟩, h2⟩ := hΩ
    exact kk q hK h H locs ls h2 hR hS hl
  · intro h H locs ls ce hΩ
    exact hΩ.elim
theorem fE0 {w : Nat → Int32} {f q : Nat} (hk : w (349 + 6 * f) = 0) (hq : ∀ h, Ω h → h q = some (fEnt w f)) : ∀ h, Ω h → h q = some (.inr (19, [.int (w (350 + 6 * f)), .int (w (351 + 6 * f)), .int (w (352 + 6 * f)), .int (w (353 + 6 * f)), .int (w (354 + 6 * f))])) := fun h hh => by
  rw [hq h hh]; unfold fEnt; rw [if_pos hk]
theorem x_castC (O : Ok G F own cc nL ret) {index f q : Nat} {w : Nat → Int32} (hk : w (349 + 6 * f) = 0) (hq : ∀ h, Ω h → h q = some (fEnt w f)) (hl0 : Cond.classLink own index "GrassField$Case" ∈ lw_all) (d : decode cc pc = .ok (.checkcast index, 3)) (kk : X G F R Q nL (pc + 3) L (.ref q :: st) Ω k n) : X G F R Q nL pc L (.ref q :: st) Ω k n := by
  rintro h H locs ls hΩ hR hS hl
  exact va_castS O.x O.b O.ow (O.ts _ hl0) (O.K.1 19 _ rfl).2 (Rep.recv O hR (fE0 hk hq h hΩ) rfl) d (kk h H locs ls hΩ hR hS hl)
theorem x_ccell (O : Ok G F own cc nL ret) {index q f : Nat} {w : Nat → Int32} (hl : Cond.methodLink own index ⟨"GrassField$Case", "cell", "()I"⟩ ∈ lw_all) (hk : w (349 + 6 * f) = 0) (hq : ∀ h, Ω h → h q = some (fEnt w f)) (hR0 : Nat.ble 1 R.frames = true) (hR1 : Nat.ble 20 R.locals = true) (hcs : k ≤ R.cells ∧ n ≤ R.slots) (hrm : Nat.ble (rest.map fun v => v.category).sum 8 = true) (d : decode cc pc = .ok (.invokevirtual index, 3))
    (kk : X G F R Q nL (pc + 3) L (.int (w (350 + 6 * f)) :: rest) Ω k n) : X G F R Q nL pc L (.ref q :: rest) Ω k n := by
  have ho := fE0 hk hq
  refine x_inh O 0 (owner := "GrassField$Find") (c_x_cell19 q (w (350 + 6 * f)) (w (351 + 6 * f)) (w (352 + 6 * f)) (w (353 + 6 * f)) (w (354 + 6 * f)) ho) (fun h hh => ⟨_, ho h hh⟩) rfl rfl hl q1439 q1441 q546 q137 q552 (by decide +kernel) rfl hR0 hR1 hcs rfl hrm d (x_kn ?_)
  exact kk
/-- whether a find is a case -/
theorem x_isCaseO (O : Ok G F own cc nL ret) {index f q : Nat} {w : Nat → Int32} (hq : ∀ h, Ω h → h q = some (fEnt w f)) (hl0 : Cond.classLink own index "GrassField$Case" ∈ lw_all) (d : decode cc pc = .ok (.instanceof index, 3)) (kt : w (349 + 6 * f) = 0 → X G F R Q nL (pc + 3) L (.int (b2i true) :: st) Ω k n) (kf : ¬ w (349 + 6 * f) = 0 → X G F R Q nL (pc + 3) L (.int (b2i false) :: st) Ω k n) : X G F R Q nL pc L (.ref q :: st) Ω k n := by
  by_cases c0 : w (349 + 6 * f) = 0
  · rintro h H locs ls hΩ hR hS hl
    exact va_instS O.x O.b O.ow (O.ts _ hl0) (O.K.1 19 _ rfl).2 (Rep.recv O hR (fE0 c0 hq h hΩ) rfl) d (kt c0 h H locs ls hΩ hR hS hl)
  · by_cases c1 : w (349 + 6 * f) = 1
    · exact x_instNo O (ci := 20) (fs := []) (fun h hh => ⟨_, by rw [hq h hh]; unfold fEnt; rw [if_neg c0, if_pos c1]⟩) rfl hl0 (by decide) d (kf c0)
    · by_cases c2 : w (349 + 6 * f) = 2
      · exact x_instNo O (ci := 21) (fs := []) (fun h hh => ⟨_, by rw [hq h hh]; unfold fEnt; rw [if_neg c0, if_neg c1, if_pos c2]⟩) rfl hl0 (by decide) d (kf c0)
      · exact x_instNo O (ci := 22) (fs := []) (fun h hh => ⟨_, by rw [hq h hh]; unfold fEnt; rw [if_neg c0, if_neg c1, if_neg c2]⟩) rfl hl0 (by decide) d (kf c0)
end UC7

theorem MJ_k {W : Nat → Int32} (hJ : MJ W) {f : Nat} (h : f < 120) : nn (W (349 + 6 * f)) 3 := (hJ.2.2.1 f h).1
theorem MJ_c {W : Nat → Int32} (hJ : MJ W) {f : Nat} (h : f < 120) : nn (W (350 + 6 * f)) 255 := by
  have := (hJ.2.2.1 f h).2.1
  unfold m_ofFind at this
  rwa [show 349 + 6 * f + 1 = 350 + 6 * f by omega] at this
theorem c_x_at {G : UG} {κe κ : Hp} {adr : Nat → Nat} {μ : Mu} {ρ : List Nat} (hI : MI (μ 1)) (k : Nat) (hk : k < 8) (hC : μ 4 k = nI (tn (μ 4 k)) ∧ tn (μ 4 k) < tn (μ 1 3) ∧ μ 1 (349 + 6 * tn (μ 4 k)) = 0) : Con G yX5_at cX5_at 2 (some (.object "GrassField$Case")) 0 0 0 0 [.ref (adr 10), .int (nI k)] (XR G κe κ adr μ ρ) (fun vr_ h' => (∃ q, vr_ = some (.ref q) ∧ κe q = some (fEnt (μ 1) (tn (μ 4 k)))) ∧ XR G κe κ adr μ ρ h') nX := by
  refine con_of2 (plainFor_of_name (by decide)) rfl ?_
  intro F R Q RF RL RC RS hQ O hnh hnm
  have hb3 := (hI 3 (by decide)).2
  refine x_eq (L' := [(0, .ref (adr 10)), (1, .int (nI k))]) ?_ rfl rfl rfl
  refine x_aload_n O 0 dX5_at_0 rfl rfl ?_
  refine x_get O k_X5_23_5 XR.o10 (v := .ref (adr 1000)) rfl dX5_at_1 ?_
  refine x_hget O (XR.hr hI rfl : HR G κe adr _ _ 1000 (μ 1) (XR G κe κ adr μ ρ)) k_X5_40_4 rfl dX5_at_4 ?_
  refine x_aload_n O 0 dX5_at_7 rfl rfl ?_
  refine x_get O k_X5_9_5 XR.o10 (v := .ref (adr 4)) rfl dX5_at_8 ?_
  refine x_iload_n O 1 dX5_at_11 rfl rfl ?_
  refine x_ialdN O XR.c4 hk rfl dX5_at_12 ?_
  refine x_top (v' := nI (tn (μ 4 k))) hC.1 ?_
  refine x_hfind O (XR.hr hI rfl : HR G κe adr _ _ 1000 (μ 1) (XR G κe κ adr μ ρ)) hC.2.1 dX5_at_13 (fun q hq => ?_)
  refine x_castC O hC.2.2 ((XR.hr hI rfl : HR G κe adr _ _ 1000 (μ 1) (XR G κe κ adr μ ρ)).fr hq) q1433 dX5_at_14 ?_
  exact x_aretQ O (x := some q) hQ rfl dX5_at_17 (fun h m => ⟨⟨q, rfl, hq⟩, m⟩)

def x_gather_b7 (W : Nat → Int32) (C4 : Nat → Int32) (gun : Int32) (i2_7 : Nat) (f10_7 : Nat) (a4_7 : (Nat → Int32)) : (Nat × (Nat → Int32)) ⊕ (Nat × (Nat → Int32)) :=
  (if 8 ≤ f10_7 then .inr (f10_7, a4_7) else .inl ((if (h_sure W i2_7) = gun then f10_7 + 1 else f10_7), (if (h_sure W i2_7) = gun then ups a4_7 f10_7 (nI i2_7) else a4_7)))
def x_gather_f10 (W : Nat → Int32) (C4 : Nat → Int32) (gun : Int32) : Nat :=
  (frb (fun i s => x_gather_b7 W C4 gun i s.1 s.2) (tn (W 3)) 0 (0, C4)).1
def x_gather_c4 (W : Nat → Int32) (C4 : Nat → Int32) (gun : Int32) : Nat → Int32 :=
  (frb (fun i s => x_gather_b7 W C4 gun i s.1 s.2) (tn (W 3)) 0 (0, C4)).2
set_option maxHeartbeats 1000000 in
set_option maxRecDepth 100000 in
theorem c_x_gather {G : UG} {κe κ : Hp} {adr : Nat → Nat} {μ : Mu} {ρ : List Nat} (hI : MI (μ 1)) (hkind : ∀ f : Nat, f < tn (μ 1 3) → μ 1 (349 + 6 * f) = 0 ∨ μ 1 (349 + 6 * f) = 1 ∨ μ 1 (349 + 6 * f) = 2 ∨ μ 1 (349 + 6 * f) = 3) (gun : Int32)  : Con G yX5_gather cX5_gather 3 none 5 107 0 0 [.ref (adr 10), .int gun] (XR G κe κ adr μ ρ) (fun vr_ h' => vr_ = none ∧ XR G κe κ adr (mc (mset μ 0 10 (nI (x_gather_f10 (μ 1) (μ 4) gun))) 4 (x_gather_c4 (μ 1) (μ 4) gun)) ρ h') nX := by
  refine con_of2 (plainFor_of_name (by decide)) rfl ?_
  intro F R Q RF RL RC RS hQ O hnh hnm
  obtain ⟨rs0, hrs0⟩ : ∃ z, z = (x_gather_f10 (μ 1) (μ 4) gun) := ⟨_, rfl⟩
  rw [← hrs0] at hQ
  unfold x_gather_f10 at hrs0
  obtain ⟨rs1, hrs1⟩ : ∃ z, z = (x_gather_c4 (μ 1) (μ 4) gun) := ⟨_, rfl⟩
  rw [← hrs1] at hQ
  unfold x_gather_c4 at hrs1
  have hb3 : tn (μ 1 3) ≤ 120 := (hI 3 (by decide)).2
  refine x_eq (L' := [(0, .ref (adr 10)), (1, .int gun)]) ?_ rfl rfl rfl
  refine x_aload_n O 0 dX5_gather_0 rfl rfl ?_
  refine x_iconst O (nI 0) dX5_gather_1 (by decide) ?_
  refine x_put O p_X5_27_5 XR.o10 rfl rfl rfl dX5_gather_2 (XR G κe κ adr (mset μ 0 10 (nI 0)) ρ) (fun _ m => XR.eq (XR.p10 m) rfl) ?_
  refine x_iconst O (nI 0) dX5_gather_5 (by decide) ?_
  refine x_istore_n O [(2, .int (nI 0)), (0, .ref (adr 10)), (1, .int gun)] dX5_gather_6 rfl rfl rfl ?_
  have LOOP7 : ∀ (cc_ : Nat) (i2_7 : Nat) (f10_7 : Nat) (a4_7 : (Nat → Int32)), cc_ = tn (μ 1 3) - i2_7 → i2_7 < 2147483648 → (f10_7 ≤ 8) → (∀ (y0 : Nat) (y1 : (Nat → Int32)), (y0, y1) = frb (fun i s => x_gather_b7 (μ 1) (μ 4) gun i s.1 s.2) cc_ i2_7 (f10_7, a4_7) → X G F R Q 3 68 [(0, .ref (adr 10))] [] (XR G κe κ adr (mc (mset μ 0 10 (nI y0)) 4 y1) ρ) 0 0) → X G F R Q 3 7 [(2, .int (nI i2_7)), (0, .ref (adr 10)), (1, .int gun)] [] (XR G κe κ adr (mc (mset μ 0 10 (nI f10_7)) 4 a4_7) ρ) 0 0 := by
    intro cc_
    induction cc_ using Nat.strongRecOn with
    | ind cc_ IH_ =>
      intro i2_7 f10_7 a4_7 hc_ hb_ hn_ K_
      refine x_iload_n O 0 dX5_gather_7 rfl rfl ?_
      refine x_aload_n O 1 dX5_gather_8 rfl rfl ?_
      refine x_get O k_X5_23_5 XR.o10 (v := .ref (adr 1000)) rfl dX5_gather_9 ?_
      refine x_hget O (XR.hr (μ := (mc (mset μ 0 10 (nI f10_7)) 4 a4_7)) hI ((mc_n (by decide)).trans (mset_n (by decide))) : HR G κe adr _ _ 1000 (μ 1) (XR G κe κ adr (mc (mset μ 0 10 (nI f10_7)) 4 a4_7) ρ)) k_X5_31_4 rfl dX5_gather_12 ?_
      refine x_top (v' := nI (tn (μ 1 3))) (hI 3 (by decide)).1 ?_
      refine x_icmpgeN O 68 (by omega) (by omega) dX5_gather_15 (by decide) (fun c15 => ?_) (fun c15 => ?_)
      · refine x_sub [1] (L' := [(0, .ref (adr 10))]) rfl ?_
        obtain rfl : cc_ = 0 := by omega
        exact K_ _ _ rfl
      · refine x_aload_n O 1 dX5_gather_18 rfl rfl ?_
        refine x_get O k_X5_27_5 XR.o10 (v := .int ((mc (mset μ 0 10 (nI f10_7)) 4 a4_7) 0 10)) rfl dX5_gather_19 ?_
        refine x_top (v' := nI f10_7) ((congrFun (mc_n (by decide)) 10).trans rd_hit) ?_
        refine x_bipush O (nI 8) dX5_gather_22 (by decide) ?_
        refine x_icmpgeN O 68 (by omega) (by omega) dX5_gather_24 (by decide) (fun c24 => ?_) (fun c24 => ?_)
        · refine x_sub [1] (L' := [(0, .ref (adr 10))]) rfl ?_
          obtain ⟨c2_, rfl⟩ : ∃ z, cc_ = z + 1 := ⟨cc_ - 1, by omega⟩
          have hs_ : (fun i s => x_gather_b7 (μ 1) (μ 4) gun i s.1 s.2) i2_7 (f10_7, a4_7) = .inr (f10_7, a4_7) := by show x_gather_b7 (μ 1) (μ 4) gun i2_7 f10_7 a4_7 = _; unfold x_gather_b7; rw [if_pos c24]
          exact K_ _ _ (frb_stop hs_).symm
        · refine x_aload_n O 1 dX5_gather_27 rfl rfl ?_
          refine x_get O k_X5_23_5 XR.o10 (v := .ref (adr 1000)) rfl dX5_gather_28 ?_
          refine x_iload_n O 0 dX5_gather_31 rfl rfl ?_
          refine x_cV O 1 (c_h_sure (XR.hr (μ := (mc (mset μ 0 10 (nI f10_7)) 4 a4_7)) hI ((mc_n (by decide)).trans (mset_n (by decide))) : HR G κe adr _ _ 1000 (μ 1) (XR G κe κ adr (mc (mset μ 0 10 (nI f10_7)) 4 a4_7) ρ)) hI hkind i2_7 (by omega)) (XR.hr (μ := (mc (mset μ 0 10 (nI f10_7)) 4 a4_7)) hI ((mc_n (by decide)).trans (mset_n (by decide))) : HR G κe adr _ _ 1000 (μ 1) (XR G κe κ adr (mc (mset μ 0 10 (nI f10_7)) 4 a4_7) ρ)).obj rfl (lw_V q1412 q1413 q1414 q109 q1415) rfl hd_X4_sure rfl (by rw [RF]; rfl) (by rw [RL]; rfl) ⟨Nat.zero_le _, Nat.zero_le _⟩ rfl rfl dX5_gather_32 ?_
          refine x_top (v' := h_sure (μ 1) i2_7) rfl ?_
          refine x_iload_n O 2 dX5_gather_35 rfl rfl ?_
          have J3 : ∀ (y1 : Nat) (y2 : Nat → Int32), y1 = (if (h_sure (μ 1) i2_7) = gun then f10_7 + 1 else f10_7) → y2 = (if (h_sure (μ 1) i2_7) = gun then ups a4_7 f10_7 (nI i2_7) else a4_7) → X G F R Q 3 62 [(2, .int (nI i2_7)), (0, .ref (adr 10)), (1, .int gun)] [] (XR G κe κ adr (mc (mset μ 0 10 (nI y1)) 4 y2) ρ) 0 0 := by
            intro y1 y2 e4 e5
            subst e4; subst e5
            refine x_iincN O 0 [(2, .int (nI (i2_7 + 1))), (0, .ref (adr 10)), (1, .int gun)] dX5_gather_62 rfl rfl rfl ?_
            refine x_goto O 7 dX5_gather_65 (by decide) ?_
            obtain ⟨c2_, rfl⟩ : ∃ z, cc_ = z + 1 := ⟨cc_ - 1, by omega⟩
            have hs_ : (fun i s => x_gather_b7 (μ 1) (μ 4) gun i s.1 s.2) i2_7 (f10_7, a4_7) = .inl ((if (h_sure (μ 1) i2_7) = gun then f10_7 + 1 else f10_7), (if (h_sure (μ 1) i2_7) = gun then ups a4_7 f10_7 (nI i2_7) else a4_7)) := by show x_gather_b7 (μ 1) (μ 4) gun i2_7 f10_7 a4_7 = _; unfold x_gather_b7; rw [if_neg c24]
            exact IH_ c2_ (by omega) _ _ _ (by omega) (by omega) (by (repeat' split) <;> omega) (fun y0 y1 hy_ => K_ y0 y1 (hy_.trans (frb_step hs_).symm))
          refine x_icmpeq O 42 dX5_gather_36 (by decide) (fun c36 => ?_) (fun c36 => ?_)
          · refine x_aload_n O 1 dX5_gather_42 rfl rfl ?_
            refine x_get O k_X5_9_5 XR.o10 (v := .ref (adr 4)) rfl dX5_gather_43 ?_
            refine x_aload_n O 1 dX5_gather_46 rfl rfl ?_
            refine x_get O k_X5_27_5 XR.o10 (v := .int ((mc (mset μ 0 10 (nI f10_7)) 4 a4_7) 0 10)) rfl dX5_gather_47 ?_
            refine x_top (v' := nI f10_7) ((congrFun (mc_n (by decide)) 10).trans rd_hit) ?_
            refine x_iload_n O 0 dX5_gather_50 rfl rfl ?_
            refine x_xst4 O (by omega) dX5_gather_51 (μ' := (mc (mset μ 0 10 (nI f10_7)) 4 (ups a4_7 f10_7 (nI i2_7)))) wc_s ?_
            refine x_aload_n O 1 dX5_gather_52 rfl rfl ?_
            refine x_dup O dX5_gather_53 rfl ?_
            refine x_get O k_X5_27_5 XR.o10 (v := .int ((mc (mset μ 0 10 (nI f10_7)) 4 (ups a4_7 f10_7 (nI i2_7))) 0 10)) rfl dX5_gather_54 ?_
            refine x_top (v' := nI f10_7) ((congrFun (mc_n (by decide)) 10).trans rd_hit) ?_
            refine x_iconst O (nI 1) dX5_gather_57 (by decide) ?_
            refine x_iaddN O dX5_gather_58 ?_
            refine x_put O p_X5_27_5 XR.o10 rfl rfl rfl dX5_gather_59 (XR G κe κ adr (mc (mset μ 0 10 (nI (f10_7 + 1))) 4 (ups a4_7 f10_7 (nI i2_7))) ρ) (fun _ m => XR.eq (XR.p10 m) ((wc_n (by decide)).trans (congrArg (fun m_ => mc m_ 4 _) ff_s))) ?_
            exact J3 (f10_7 + 1) (ups a4_7 f10_7 (nI i2_7)) (by rw [if_pos c36]) (by rw [if_pos c36])
          · refine x_goto O 62 dX5_gather_39 (by decide) ?_
            exact J3 f10_7 a4_7 (by rw [if_neg c36]) (by rw [if_neg c36])
  refine x_weak (Ω' := XR G κe κ adr (mc (mset μ 0 10 (nI 0)) 4 (μ 4)) ρ) (fun _ m => m.eq (mc_id (c := 4) (f := μ 4) (by rfl)).symm) ?_
  refine LOOP7 (tn (μ 1 3)) 0 0 (μ 4) rfl (by omega) (by omega) (fun y0 y1 hy_7 => ?_)
  obtain rfl : y0 = (frb (fun i s => x_gather_b7 (μ 1) (μ 4) gun i s.1 s.2) (tn (μ 1 3)) 0 (0, μ 4)).1 := congrArg (fun z => z.1) hy_7
  obtain rfl : y1 = (frb (fun i s => x_gather_b7 (μ 1) (μ 4) gun i s.1 s.2) (tn (μ 1 3)) 0 (0, μ 4)).2 := congrArg (fun z => z.2) hy_7
  exact x_vretQ O hQ rfl dX5_gather_68 (fun h m => ⟨rfl, by rw [hrs0, hrs1]; exact m.eq rfl⟩)

def x_minutes (W : Nat → Int32) (C4 : Nat → Int32) (a : Nat) (b : Nat) : Int32 :=
  (z_far (nI (tn (W (350 + 6 * tn (C4 a))))) (nI (tn (W (350 + 6 * tn (C4 b)))))) + (nI ((if (W (13 + (tn (W (350 + 6 * tn (C4 b)))))) ≤ (W (13 + (tn (W (350 + 6 * tn (C4 a)))))) then 0 else 1)))
set_option maxHeartbeats 1000000 in
set_option maxRecDepth 100000 in
theorem c_x_minutes {G : UG} {κe κ : Hp} {adr : Nat → Nat} {μ : Mu} {ρ : List Nat} (hI : MI (μ 1)) (hJ : MJ (μ 1)) (hn : nn (μ 0 10) 8) (hC : ∀ k, k < tn (μ 0 10) → μ 4 k = nI (tn (μ 4 k)) ∧ tn (μ 4 k) < tn (μ 1 3) ∧ μ 1 (349 + 6 * tn (μ 4 k)) = 0) (a : Nat) (b : Nat) (ha : a < tn (μ 0 10)) (hb : b < tn (μ 0 10)) : Con G yX5_minutes cX5_minutes 5 (some .int) 2 42 0 0 [.ref (adr 10), .int (nI a), .int (nI b)] (XR G κe κ adr μ ρ) (fun vr_ h' => vr_ = some (.int (x_minutes (μ 1) (μ 4) a b)) ∧ XR G κe κ adr μ ρ h') nX := by
  refine con_of2 (plainFor_of_name (by decide)) rfl ?_
  intro F R Q RF RL RC RS hQ O hnh hnm
  obtain ⟨res, hres⟩ : ∃ z, z = (x_minutes (μ 1) (μ 4) a b) := ⟨_, rfl⟩
  rw [← hres] at hQ
  unfold x_minutes at hres
  have hnb := hn.2
  have hb3 := (hI 3 (by decide)).2
  have hb3b : tn (μ 1 3) ≤ 120 := hb3
  have ca := (hC a ha).2.1
  have cb := (hC b hb).2.1
  have cca := (MJ_c hJ (f := tn (μ 4 a)) (by omega)).2
  have ccb := (MJ_c hJ (f := tn (μ 4 b)) (by omega)).2
  refine x_eq (L' := [(0, .ref (adr 10)), (1, .int (nI a)), (2, .int (nI b))]) ?_ rfl rfl rfl
  refine x_aload_n O 0 dX5_minutes_0 rfl rfl ?_
  refine x_iload_n O 1 dX5_minutes_1 rfl rfl ?_
  refine x_anyq (r_V O 1 (c_x_at (μ := μ) hI a (by omega) (hC a (by omega))) XR.o10 rfl (lw_V q1429 q1431 qs23 q110 q1432) rfl hd_X5_at rfl (by rw [RF]; rfl) (by rw [RL]; rfl) ⟨Nat.zero_le _, Nat.zero_le _⟩ rfl rfl dX5_minutes_2) (fun q1 (hq2 : κe q1 = some (fEnt (μ 1) (tn (μ 4 a)))) => ?_)
  refine x_ccell O q1438 (hC a (by omega)).2.2 ((XR.hr (μ := μ) hI rfl : HR G κe adr _ _ 1000 (μ 1) (XR G κe κ adr μ ρ)).fr hq2) (by rw [RF]; rfl) (by rw [RL]; rfl) ⟨Nat.zero_le _, Nat.zero_le _⟩ rfl dX5_minutes_5 ?_
  refine x_top (v' := nI (tn (μ 1 (350 + 6 * tn (μ 4 a))))) ((MJ_c hJ (by omega)).1) ?_
  refine x_istore_n O [(3, .int (nI (tn (μ 1 (350 + 6 * tn (μ 4 a)))))), (0, .ref (adr 10)), (1, .int (nI a)), (2, .int (nI b))] dX5_minutes_8 rfl rfl rfl ?_
  refine x_sub [0, 1, 3] (L' := [(3, .int (nI (tn (μ 1 (350 + 6 * tn (μ 4 a)))))), (0, .ref (adr 10)), (2, .int (nI b))]) rfl ?_
  refine x_aload_n O 1 dX5_minutes_9 rfl rfl ?_
  refine x_iload_n O 2 dX5_minutes_10 rfl rfl ?_
  refine x_anyq (r_V O 1 (c_x_at (μ := μ) hI b (by omega) (hC b (by omega))) XR.o10 rfl (lw_V q1429 q1431 qs23 q110 q1432) rfl hd_X5_at rfl (by rw [RF]; rfl) (by rw [RL]; rfl) ⟨Nat.zero_le _, Nat.zero_le _⟩ rfl rfl dX5_minutes_11) (fun q3 (hq4 : κe q3 = some (fEnt (μ 1) (tn (μ 4 b)))) => ?_)
  refine x_ccell O q1438 (hC b (by omega)).2.2 ((XR.hr (μ := μ) hI rfl : HR G κe adr _ _ 1000 (μ 1) (XR G κe κ adr μ ρ)).fr hq4) (by rw [RF]; rfl) (by rw [RL]; rfl) ⟨Nat.zero_le _, Nat.zero_le _⟩ rfl dX5_minutes_14 ?_
  refine x_top (v' := nI (tn (μ 1 (350 + 6 * tn (μ 4 b))))) ((MJ_c hJ (by omega)).1) ?_
  refine x_istore O [(4, .int (nI (tn (μ 1 (350 + 6 * tn (μ 4 b)))))), (3, .int (nI (tn (μ 1 (350 + 6 * tn (μ 4 a)))))), (0, .ref (adr 10)), (2, .int (nI b))] dX5_minutes_17 rfl rfl ?_
  refine x_sub [0, 1, 2] (L' := [(4, .int (nI (tn (μ 1 (350 + 6 * tn (μ 4 b)))))), (3, .int (nI (tn (μ 1 (350 + 6 * tn (μ 4 a)))))), (0, .ref (adr 10))]) rfl ?_
  refine x_iload_n O 1 dX5_minutes_19 rfl rfl ?_
  refine x_iload O 0 dX5_minutes_20 rfl ?_
  refine x_cSN O 2 (c_z_far (nI (tn (μ 1 (350 + 6 * tn (μ 4 a))))) (nI (tn (μ 1 (350 + 6 * tn (μ 4 b)))))) q1442 q554 q103 q555 hd_X1_far rfl (by rw [RF]; rfl) (by rw [RL]; rfl) ⟨Nat.zero_le _, Nat.zero_le _⟩ rfl rfl dX5_minutes_22 ?_
  refine x_top (v' := z_far (nI (tn (μ 1 (350 + 6 * tn (μ 4 a))))) (nI (tn (μ 1 (350 + 6 * tn (μ 4 b)))))) rfl ?_
  refine x_aload_n O 2 dX5_minutes_25 rfl rfl ?_
  refine x_get O k_X5_23_5 XR.o10 (v := .ref (adr 1000)) rfl dX5_minutes_26 ?_
  refine x_hget O (XR.hr (μ := μ) hI rfl : HR G κe adr _ _ 1000 (μ 1) (XR G κe κ adr μ ρ)) k_X5_58_4 rfl dX5_minutes_29 ?_
  refine x_iload O 0 dX5_minutes_32 rfl ?_
  refine x_hheight O (XR.hr (μ := μ) hI rfl : HR G κe adr _ _ 1000 (μ 1) (XR G κe κ adr μ ρ)) (by omega) dX5_minutes_34 ?_
  refine x_aload_n O 2 dX5_minutes_35 rfl rfl ?_
  refine x_get O k_X5_23_5 XR.o10 (v := .ref (adr 1000)) rfl dX5_minutes_36 ?_
  refine x_hget O (XR.hr (μ := μ) hI rfl : HR G κe adr _ _ 1000 (μ 1) (XR G κe κ adr μ ρ)) k_X5_58_4 rfl dX5_minutes_39 ?_
  refine x_iload_n O 1 dX5_minutes_42 rfl rfl ?_
  refine x_hheight O (XR.hr (μ := μ) hI rfl : HR G κe adr _ _ 1000 (μ 1) (XR G κe κ adr μ ρ)) (by omega) dX5_minutes_43 ?_
  have J6 : ∀ (y5 : Nat), y5 = (if (μ 1 (13 + (tn (μ 1 (350 + 6 * tn (μ 4 b)))))) ≤ (μ 1 (13 + (tn (μ 1 (350 + 6 * tn (μ 4 a)))))) then 0 else 1) → X G F R Q 5 52 [(0, .ref (adr 10))] [.int (nI y5), .int (z_far (nI (tn (μ 1 (350 + 6 * tn (μ 4 a))))) (nI (tn (μ 1 (350 + 6 * tn (μ 4 b))))))] (XR G κe κ adr μ ρ) 0 0 := by
    intro y5 e7
    subst e7
    refine x_iadd O dX5_minutes_52 ?_
    exact x_iretQ O hQ rfl dX5_minutes_53 (fun h m => ⟨by rw [hres], m⟩)
  refine x_icmple O 51 dX5_minutes_44 (by decide) (fun c44 => ?_) (fun c44 => ?_)
  · refine x_sub [2] (L' := [(0, .ref (adr 10))]) rfl ?_
    refine x_iconst O (nI 0) dX5_minutes_51 (by decide) ?_
    exact J6 0 (by rw [if_pos c44])
  · refine x_sub [2] (L' := [(0, .ref (adr 10))]) rfl ?_
    refine x_iconst O (nI 1) dX5_minutes_47 (by decide) ?_
    refine x_goto O 52 dX5_minutes_48 (by decide) ?_
    exact J6 1 (by rw [if_neg c44])

def x_leads_b14 (W : Nat → Int32) (C4 : Nat → Int32) (C7 : Nat → Int32) (F10 : Int32) (i2_2 : Nat) (i3_14 : Nat) (a7_14 : (Nat → Int32)) : (Nat → Int32) :=
  ups a7_14 (8 * i2_2 + i3_14) ((1000000))
def x_leads_b2 (W : Nat → Int32) (C4 : Nat → Int32) (C7 : Nat → Int32) (F10 : Int32)  (i2_2 : Nat) (a7_2 : (Nat → Int32)) : (Nat → Int32) :=
  (fr (fun i s => x_leads_b14 W C4 C7 F10 i2_2 i s) (tn F10) 0 a7_2)
def x_leads_b46 (W : Nat → Int32) (C4 : Nat → Int32) (C7 : Nat → Int32) (F10 : Int32) (first : Int32) (i2_46 : Nat) (a7_46 : (Nat → Int32)) : (Nat → Int32) :=
  (if first = ((-1)) then ups a7_46 (8 * (2 ^ i2_46) + i2_46) (W (353 + 6 * (tn (C4 i2_46)))) else (if (nI i2_46) = first then ups a7_46 (8 * (2 ^ i2_46) + i2_46) (W (353 + 6 * (tn (C4 i2_46)))) else a7_46))
def x_leads_b129 (W : Nat → Int32) (C4 : Nat → Int32) (C7 : Nat → Int32) (F10 : Int32) (i2_90 : Nat) (i3_102 : Nat) (i4_129 : Nat) (a7_129 : (Nat → Int32)) : (Nat → Int32) :=
  (if (((nI i2_90) >>> ((nI i4_129) &&& 31)) &&& (nI 1)) = (nI 1) then a7_129 else (if (W (354 + 6 * (tn (C4 i4_129)))) < (j_max (W (353 + 6 * (tn (C4 i4_129)))) ((a7_129 (8 * i2_90 + i3_102)) + (x_minutes W C4 i3_102 i4_129))) then a7_129 else ups a7_129 (8 * (i2_90 ||| 2 ^ i4_129) + i4_129) (j_min (a7_129 (8 * (i2_90 ||| 2 ^ i4_129) + i4_129)) (j_max (W (353 + 6 * (tn (C4 i4_129)))) ((a7_129 (8 * i2_90 + i3_102)) + (x_minutes W C4 i3_102 i4_129))))))
def x_leads_b102 (W : Nat → Int32) (C4 : Nat → Int32) (C7 : Nat → Int32) (F10 : Int32) (i2_90 : Nat) (i3_102 : Nat) (a7_102 : (Nat → Int32)) : (Nat → Int32) :=
  (if (a7_102 (8 * i2_90 + i3_102)) = ((1000000)) then a7_102 else (fr (fun i s => x_leads_b129 W C4 C7 F10 i2_90 i3_102 i s) (tn F10) 0 a7_102))
def x_leads_b90 (W : Nat → Int32) (C4 : Nat → Int32) (C7 : Nat → Int32) (F10 : Int32)  (i2_90 : Nat) (a7_90 : (Nat → Int32)) : (Nat → Int32) :=
  (fr (fun i s => x_leads_b102 W C4 C7 F10 i2_90 i s) (tn F10) 0 a7_90)
def x_leads_c7 (W : Nat → Int32) (C4 : Nat → Int32) (C7 : Nat → Int32) (F10 : Int32) (first : Int32) : Nat → Int32 :=
  (fr (fun i s => x_leads_b90 W C4 C7 F10 i s) (2 ^ tn F10 - 1) 1 (fr (fun i s => x_leads_b46 W C4 C7 F10 first i s) (tn F10) 0 (fr (fun i s => x_leads_b2 W C4 C7 F10 i s) (2 ^ tn F10) 0 C7)))
set_option maxHeartbeats 1000000 in
set_option maxRecDepth 100000 in
theorem c_x_leads {G : UG} {κe κ : Hp} {adr : Nat → Nat} {μ : Mu} {ρ : List Nat} (hI : MI (μ 1)) (hJ : MJ (μ 1)) (hn : nn (μ 0 10) 8) (hC : ∀ k, k < tn (μ 0 10) → μ 4 k = nI (tn (μ 4 k)) ∧ tn (μ 4 k) < tn (μ 1 3) ∧ μ 1 (349 + 6 * tn (μ 4 k)) = 0) (first : Int32)  : Con G yX5_leads cX5_leads 6 none 3 66 0 0 [.ref (adr 10), .int first] (XR G κe κ adr μ ρ) (fun vr_ h' => vr_ = none ∧ XR G κe κ adr (mc μ 7 (x_leads_c7 (μ 1) (μ 4) (μ 7) (μ 0 10) first)) ρ h') nX := by
  refine con_of2 (plainFor_of_name (by decide)) rfl ?_
  intro F R Q RF RL RC RS hQ O hnh hnm
  obtain ⟨rs0, hrs0⟩ : ∃ z, z = (x_leads_c7 (μ 1) (μ 4) (μ 7) (μ 0 10) first) := ⟨_, rfl⟩
  rw [← hrs0] at hQ
  unfold x_leads_c7 at hrs0
  have hnb := hn.2
  have hb3 := (hI 3 (by decide)).2
  have hb3b : tn (μ 1 3) ≤ 120 := hb3
  have hp := pow8 hnb
  have hp1 := pow_1 (tn (μ 0 10))
  refine x_eq (L' := [(0, .ref (adr 10)), (1, .int first)]) ?_ rfl rfl rfl
  refine x_iconst O (nI 0) dX5_leads_0 (by decide) ?_
  refine x_istore_n O [(2, .int (nI 0)), (0, .ref (adr 10)), (1, .int first)] dX5_leads_1 rfl rfl rfl ?_
  have LOOP2 : ∀ (cc_ : Nat) (i2_2 : Nat) (a7_2 : (Nat → Int32)), cc_ = 2 ^ tn (μ 0 10) - i2_2 → i2_2 < 2147483648 → (∀ (y0 : (Nat → Int32)), y0 = fr (fun i s => x_leads_b2 (μ 1) (μ 4) (μ 7) (μ 0 10) i s) cc_ i2_2 a7_2 → X G F R Q 6 44 [(0, .ref (adr 10)), (1, .int first)] [] (XR G κe κ adr (mc μ 7 y0) ρ) 0 0) → X G F R Q 6 2 [(2, .int (nI i2_2)), (0, .ref (adr 10)), (1, .int first)] [] (XR G κe κ adr (mc μ 7 a7_2) ρ) 0 0 := by
    intro cc_
    induction cc_ using Nat.strongRecOn with
    | ind cc_ IH_ =>
      intro i2_2 a7_2 hc_ hb_  K_
      refine x_iload_n O 0 dX5_leads_2 rfl rfl ?_
      refine x_iconst O (nI 1) dX5_leads_3 (by decide) ?_
      refine x_aload_n O 1 dX5_leads_4 rfl rfl ?_
      refine x_get O k_X5_27_5 XR.o10 (v := .int ((mc μ 7 a7_2) 0 10)) rfl dX5_leads_5 ?_
      refine x_top (v' := nI (tn (μ 0 10))) ((congrFun (mc_n (by decide)) 10).trans (hn.1)) ?_
      refine x_ishl O dX5_leads_8 ?_
      refine x_top (v' := nI (2 ^ tn (μ 0 10))) (shl1 hnb) ?_
      refine x_icmpgeN O 44 (by omega) (by omega) dX5_leads_9 (by decide) (fun c9 => ?_) (fun c9 => ?_)
      · refine x_sub [1, 2] (L' := [(0, .ref (adr 10)), (1, .int first)]) rfl ?_
        obtain rfl : cc_ = 0 := by omega
        exact K_ _ rfl
      · refine x_iconst O (nI 0) dX5_leads_12 (by decide) ?_
        refine x_istore_n O [(3, .int (nI 0)), (2, .int (nI i2_2)), (0, .ref (adr 10)), (1, .int first)] dX5_leads_13 rfl rfl rfl ?_
        have LOOP14 : ∀ (cc_ : Nat) (i3_14 : Nat) (a7_14 : (Nat → Int32)), cc_ = tn (μ 0 10) - i3_14 → i3_14 < 2147483648 → (∀ (y0 : (Nat → Int32)), y0 = fr (fun i s => x_leads_b14 (μ 1) (μ 4) (μ 7) (μ 0 10) i2_2 i s) cc_ i3_14 a7_14 → X G F R Q 6 38 [(2, .int (nI i2_2)), (0, .ref (adr 10)), (1, .int first)] [] (XR G κe κ adr (mc μ 7 y0) ρ) 0 0) → X G F R Q 6 14 [(3, .int (nI i3_14)), (2, .int (nI i2_2)), (0, .ref (adr 10)), (1, .int first)] [] (XR G κe κ adr (mc μ 7 a7_14) ρ) 0 0 := by
          intro cc_
          induction cc_ using Nat.strongRecOn with
          | ind cc_ IH_ =>
            intro i3_14 a7_14 hc_ hb_  K_
            refine x_iload_n O 0 dX5_leads_14 rfl rfl ?_
            refine x_aload_n O 2 dX5_leads_15 rfl rfl ?_
            refine x_get O k_X5_27_5 XR.o10 (v := .int ((mc μ 7 a7_14) 0 10)) rfl dX5_leads_16 ?_
            refine x_top (v' := nI (tn (μ 0 10))) ((congrFun (mc_n (by decide)) 10).trans (hn.1)) ?_
            refine x_icmpgeN O 38 (by omega) (by omega) dX5_leads_19 (by decide) (fun c19 => ?_) (fun c19 => ?_)
            · refine x_sub [1, 2, 3] (L' := [(2, .int (nI i2_2)), (0, .ref (adr 10)), (1, .int first)]) rfl ?_
              obtain rfl : cc_ = 0 := by omega
              exact K_ _ rfl
            · refine x_aload_n O 2 dX5_leads_22 rfl rfl ?_
              refine x_get O k_X5_20_5 XR.o10 (v := .ref (adr 7)) rfl dX5_leads_23 ?_
              refine x_iload_n O 1 dX5_leads_26 rfl rfl ?_
              refine x_ear1 O (by omega) dX5_leads_27 ?_
              refine x_iload_n O 0 dX5_leads_28 rfl rfl ?_
              refine x_ldc O q1428 dX5_leads_29 ?_
              refine x_ear3 O (by omega) (by omega) dX5_leads_31 (μ' := (mc μ 7 (ups a7_14 (8 * i2_2 + i3_14) ((1000000))))) wc_s ?_
              refine x_iincN O 0 [(3, .int (nI (i3_14 + 1))), (2, .int (nI i2_2)), (0, .ref (adr 10)), (1, .int first)] dX5_leads_32 rfl rfl rfl ?_
              refine x_goto O 14 dX5_leads_35 (by decide) ?_
              obtain ⟨c2_, rfl⟩ : ∃ z, cc_ = z + 1 := ⟨cc_ - 1, by omega⟩
              have hs_ : (fun i s => x_leads_b14 (μ 1) (μ 4) (μ 7) (μ 0 10) i2_2 i s) i3_14 a7_14 = ups a7_14 (8 * i2_2 + i3_14) ((1000000)) := by show x_leads_b14 (μ 1) (μ 4) (μ 7) (μ 0 10) i2_2 i3_14 a7_14 = _; unfold x_leads_b14; rfl
              exact IH_ c2_ (by omega) _ _ (by omega) (by omega) (fun y0 hy_ => K_ y0 (hy_.trans (fr_step hs_).symm))
        refine LOOP14 (tn (μ 0 10)) 0 a7_2 rfl (by omega) (fun y0 hy_14 => ?_)
        subst hy_14
        refine x_iincN O 0 [(2, .int (nI (i2_2 + 1))), (0, .ref (adr 10)), (1, .int first)] dX5_leads_38 rfl rfl rfl ?_
        refine x_goto O 2 dX5_leads_41 (by decide) ?_
        obtain ⟨c2_, rfl⟩ : ∃ z, cc_ = z + 1 := ⟨cc_ - 1, by omega⟩
        have hs_ : (fun i s => x_leads_b2 (μ 1) (μ 4) (μ 7) (μ 0 10) i s) i2_2 a7_2 = (fr (fun i s => x_leads_b14 (μ 1) (μ 4) (μ 7) (μ 0 10) i2_2 i s) (tn (μ 0 10)) 0 a7_2) := by show x_leads_b2 (μ 1) (μ 4) (μ 7) (μ 0 10) i2_2 a7_2 = _; unfold x_leads_b2; rfl
        exact IH_ c2_ (by omega) _ _ (by omega) (by omega) (fun y0 hy_ => K_ y0 (hy_.trans (fr_step hs_).symm))
  refine x_weak (Ω' := XR G κe κ adr (mc μ 7 (μ 7)) ρ) (fun _ m => m.eq (mc_id (c := 7) (f := μ 7) (by rfl)).symm) ?_
  refine LOOP2 (2 ^ tn (μ 0 10)) 0 (μ 7) rfl (by omega) (fun y0 hy_2 => ?_)
  subst hy_2
  refine x_iconst O (nI 0) dX5_leads_44 (by decide) ?_
  refine x_istore_n O [(2, .int (nI 0)), (0, .ref (adr 10)), (1, .int first)] dX5_leads_45 rfl rfl rfl ?_
  have LOOP46 : ∀ (cc_ : Nat) (i2_46 : Nat) (a7_46 : (Nat → Int32)), cc_ = tn (μ 0 10) - i2_46 → i2_46 < 2147483648 → (∀ (y0 : (Nat → Int32)), y0 = fr (fun i s => x_leads_b46 (μ 1) (μ 4) (μ 7) (μ 0 10) first i s) cc_ i2_46 a7_46 → X G F R Q 6 88 [(0, .ref (adr 10))] [] (XR G κe κ adr (mc μ 7 y0) ρ) 0 0) → X G F R Q 6 46 [(2, .int (nI i2_46)), (0, .ref (adr 10)), (1, .int first)] [] (XR G κe κ adr (mc μ 7 a7_46) ρ) 0 0 := by
    intro cc_
    induction cc_ using Nat.strongRecOn with
    | ind cc_ IH_ =>
      intro i2_46 a7_46 hc_ hb_  K_
      refine x_iload_n O 0 dX5_leads_46 rfl rfl ?_
      refine x_aload_n O 1 dX5_leads_47 rfl rfl ?_
      refine x_get O k_X5_27_5 XR.o10 (v := .int ((mc μ 7 a7_46) 0 10)) rfl dX5_leads_48 ?_
      refine x_top (v' := nI (tn (μ 0 10))) ((congrFun (mc_n (by decide)) 10).trans (hn.1)) ?_
      refine x_icmpgeN O 88 (by omega) (by omega) dX5_leads_51 (by decide) (fun c51 => ?_) (fun c51 => ?_)
      · refine x_sub [1] (L' := [(0, .ref (adr 10))]) rfl ?_
        obtain rfl : cc_ = 0 := by omega
        exact K_ _ rfl
      · refine x_iload_n O 2 dX5_leads_54 rfl rfl ?_
        refine x_iconst O ((-1)) dX5_leads_55 (by decide) ?_
        have J12 : ∀ (y5 : Nat → Int32), y5 = (if first = ((-1)) then ups a7_46 (8 * (2 ^ i2_46) + i2_46) (μ 1 (353 + 6 * (tn (μ 4 i2_46)))) else (if (nI i2_46) = first then ups a7_46 (8 * (2 ^ i2_46) + i2_46) (μ 1 (353 + 6 * (tn (μ 4 i2_46)))) else a7_46)) → X G F R Q 6 82 [(2, .int (nI i2_46)), (0, .ref (adr 10)), (1, .int first)] [] (XR G κe κ adr (mc μ 7 y5) ρ) 0 0 := by
          intro y5 e13
          subst e13
          refine x_iincN O 0 [(2, .int (nI (i2_46 + 1))), (0, .ref (adr 10)), (1, .int first)] dX5_leads_82 rfl rfl rfl ?_
          refine x_goto O 46 dX5_leads_85 (by decide) ?_
          obtain ⟨c2_, rfl⟩ : ∃ z, cc_ = z + 1 := ⟨cc_ - 1, by omega⟩
          have hs_ : (fun i s => x_leads_b46 (μ 1) (μ 4) (μ 7) (μ 0 10) first i s) i2_46 a7_46 = (if first = ((-1)) then ups a7_46 (8 * (2 ^ i2_46) + i2_46) (μ 1 (353 + 6 * (tn (μ 4 i2_46)))) else (if (nI i2_46) = first then ups a7_46 (8 * (2 ^ i2_46) + i2_46) (μ 1 (353 + 6 * (tn (μ 4 i2_46)))) else a7_46)) := by show x_leads_b46 (μ 1) (μ 4) (μ 7) (μ 0 10) first i2_46 a7_46 = _; unfold x_leads_b46; rfl
          exact IH_ c2_ (by omega) _ _ (by omega) (by omega) (fun y0 hy_ => K_ y0 (hy_.trans (fr_step hs_).symm))
        refine x_icmpeq O 64 dX5_leads_56 (by decide) (fun c56 => ?_) (fun c56 => ?_)
        · refine x_aload_n O 1 dX5_leads_64 rfl rfl ?_
          refine x_get O k_X5_20_5 XR.o10 (v := .ref (adr 7)) rfl dX5_leads_65 ?_
          refine x_iconst O (nI 1) dX5_leads_68 (by decide) ?_
          refine x_iload_n O 0 dX5_leads_69 rfl rfl ?_
          refine x_ishl O dX5_leads_70 ?_
          refine x_top (v' := nI (2 ^ i2_46)) (shl1 (by omega)) ?_
          refine x_ear1 O (by have := pow7 (a := i2_46) (by omega); omega) dX5_leads_71 ?_
          refine x_iload_n O 0 dX5_leads_72 rfl rfl ?_
          refine x_aload_n O 1 dX5_leads_73 rfl rfl ?_
          refine x_iload_n O 0 dX5_leads_74 rfl rfl ?_
          refine x_anyq (r_V O 1 (c_x_at (μ := (mc μ 7 a7_46)) hI i2_46 (by omega) (hC i2_46 (by omega))) XR.o10 rfl (lw_V q1429 q1431 qs23 q110 q1432) rfl hd_X5_at rfl (by rw [RF]; rfl) (by rw [RL]; rfl) ⟨Nat.zero_le _, Nat.zero_le _⟩ rfl rfl dX5_leads_75) (fun q1 (hq2 : κe q1 = some (fEnt (μ 1) (tn (μ 4 i2_46)))) => ?_)
          refine x_get O k_X5_62_22 (fE0 (hC i2_46 (by omega)).2.2 ((XR.hr (μ := (mc μ 7 a7_46)) hI (mc_n (by decide)) : HR G κe adr _ _ 1000 (μ 1) (XR G κe κ adr (mc μ 7 a7_46) ρ)).fr hq2)) (v := .int (μ 1 (353 + 6 * (tn (μ 4 i2_46))))) rfl dX5_leads_78 ?_
          refine x_ear3 O (by have := pow7 (a := i2_46) (by omega); omega) (by omega) dX5_leads_81 (μ' := (mc μ 7 (ups a7_46 (8 * (2 ^ i2_46) + i2_46) (μ 1 (353 + 6 * (tn (μ 4 i2_46))))))) wc_s ?_
          exact J12 (ups a7_46 (8 * (2 ^ i2_46) + i2_46) (μ 1 (353 + 6 * (tn (μ 4 i2_46))))) (by rw [if_pos c56])
        · refine x_iload_n O 0 dX5_leads_59 rfl rfl ?_
          refine x_iload_n O 2 dX5_leads_60 rfl rfl ?_
          refine x_icmpne O 82 dX5_leads_61 (by decide) (fun c61 => ?_) (fun c61 => ?_)
          · exact J12 a7_46 (by first | (rw [if_neg c56, if_neg c61]; done) | simp only [if_neg c56, if_neg c61])
          · refine x_aload_n O 1 dX5_leads_64 rfl rfl ?_
            refine x_get O k_X5_20_5 XR.o10 (v := .ref (adr 7)) rfl dX5_leads_65 ?_
            refine x_iconst O (nI 1) dX5_leads_68 (by decide) ?_
            refine x_iload_n O 0 dX5_leads_69 rfl rfl ?_
            refine x_ishl O dX5_leads_70 ?_
            refine x_top (v' := nI (2 ^ i2_46)) (shl1 (by omega)) ?_
            refine x_ear1 O (by have := pow7 (a := i2_46) (by omega); omega) dX5_leads_71 ?_
            refine x_iload_n O 0 dX5_leads_72 rfl rfl ?_
            refine x_aload_n O 1 dX5_leads_73 rfl rfl ?_
            refine x_iload_n O 0 dX5_leads_74 rfl rfl ?_
            refine x_anyq (r_V O 1 (c_x_at (μ := (mc μ 7 a7_46)) hI i2_46 (by omega) (hC i2_46 (by omega))) XR.o10 rfl (lw_V q1429 q1431 qs23 q110 q1432) rfl hd_X5_at rfl (by rw [RF]; rfl) (by rw [RL]; rfl) ⟨Nat.zero_le _, Nat.zero_le _⟩ rfl rfl dX5_leads_75) (fun q3 (hq4 : κe q3 = some (fEnt (μ 1) (tn (μ 4 i2_46)))) => ?_)
            refine x_get O k_X5_62_22 (fE0 (hC i2_46 (by omega)).2.2 ((XR.hr (μ := (mc μ 7 a7_46)) hI (mc_n (by decide)) : HR G κe adr _ _ 1000 (μ 1) (XR G κe κ adr (mc μ 7 a7_46) ρ)).fr hq4)) (v := .int (μ 1 (353 + 6 * (tn (μ 4 i2_46))))) rfl dX5_leads_78 ?_
            refine x_ear3 O (by have := pow7 (a := i2_46) (by omega); omega) (by omega) dX5_leads_81 (μ' := (mc μ 7 (ups a7_46 (8 * (2 ^ i2_46) + i2_46) (μ 1 (353 + 6 * (tn (μ 4 i2_46))))))) wc_s ?_
            exact J12 (ups a7_46 (8 * (2 ^ i2_46) + i2_46) (μ 1 (353 + 6 * (tn (μ 4 i2_46))))) (by first | (rw [if_neg c56, if_pos c61]; done) | simp only [if_neg c56, if_pos c61])
  refine LOOP46 (tn (μ 0 10)) 0 ((fr (fun i s => x_leads_b2 (μ 1) (μ 4) (μ 7) (μ 0 10) i s) (2 ^ tn (μ 0 10)) 0 (μ 7))) rfl (by omega) (fun y0 hy_46 => ?_)
  subst hy_46
  refine x_iconst O (nI 1) dX5_leads_88 (by decide) ?_
  refine x_istore_n O [(2, .int (nI 1)), (0, .ref (adr 10))] dX5_leads_89 rfl rfl rfl ?_
  have LOOP90 : ∀ (cc_ : Nat) (i2_90 : Nat) (a7_90 : (Nat → Int32)), cc_ = 2 ^ tn (μ 0 10) - i2_90 → i2_90 < 2147483648 → (∀ (y0 : (Nat → Int32)), y0 = fr (fun i s => x_leads_b90 (μ 1) (μ 4) (μ 7) (μ 0 10) i s) cc_ i2_90 a7_90 → X G F R Q 6 246 [(0, .ref (adr 10))] [] (XR G κe κ adr (mc μ 7 y0) ρ) 0 0) → X G F R Q 6 90 [(2, .int (nI i2_90)), (0, .ref (adr 10))] [] (XR G κe κ adr (mc μ 7 a7_90) ρ) 0 0 := by
    intro cc_
    induction cc_ using Nat.strongRecOn with
    | ind cc_ IH_ =>
      intro i2_90 a7_90 hc_ hb_  K_
      refine x_iload_n O 0 dX5_leads_90 rfl rfl ?_
      refine x_iconst O (nI 1) dX5_leads_91 (by decide) ?_
      refine x_aload_n O 1 dX5_leads_92 rfl rfl ?_
      refine x_get O k_X5_27_5 XR.o10 (v := .int ((mc μ 7 a7_90) 0 10)) rfl dX5_leads_93 ?_
      refine x_top (v' := nI (tn (μ 0 10))) ((congrFun (mc_n (by decide)) 10).trans (hn.1)) ?_
      refine x_ishl O dX5_leads_96 ?_
      refine x_top (v' := nI (2 ^ tn (μ 0 10))) (shl1 hnb) ?_
      refine x_icmpgeN O 246 (by omega) (by omega) dX5_leads_97 (by decide) (fun c97 => ?_) (fun c97 => ?_)
      · refine x_sub [1] (L' := [(0, .ref (adr 10))]) rfl ?_
        obtain rfl : cc_ = 0 := by omega
        exact K_ _ rfl
      · refine x_iconst O (nI 0) dX5_leads_100 (by decide) ?_
        refine x_istore_n O [(3, .int (nI 0)), (2, .int (nI i2_90)), (0, .ref (adr 10))] dX5_leads_101 rfl rfl rfl ?_
        have LOOP102 : ∀ (cc_ : Nat) (i3_102 : Nat) (a7_102 : (Nat → Int32)), cc_ = tn (μ 0 10) - i3_102 → i3_102 < 2147483648 → (∀ (y0 : (Nat → Int32)), y0 = fr (fun i s => x_leads_b102 (μ 1) (μ 4) (μ 7) (μ 0 10) i2_90 i s) cc_ i3_102 a7_102 → X G F R Q 6 240 [(2, .int (nI i2_90)), (0, .ref (adr 10))] [] (XR G κe κ adr (mc μ 7 y0) ρ) 0 0) → X G F R Q 6 102 [(3, .int (nI i3_102)), (2, .int (nI i2_90)), (0, .ref (adr 10))] [] (XR G κe κ adr (mc μ 7 a7_102) ρ) 0 0 := by
          intro cc_
          induction cc_ using Nat.strongRecOn with
          | ind cc_ IH_ =>
            intro i3_102 a7_102 hc_ hb_  K_
            refine x_iload_n O 0 dX5_leads_102 rfl rfl ?_
            refine x_aload_n O 2 dX5_leads_103 rfl rfl ?_
            refine x_get O k_X5_27_5 XR.o10 (v := .int ((mc μ 7 a7_102) 0 10)) rfl dX5_leads_104 ?_
            refine x_top (v' := nI (tn (μ 0 10))) ((congrFun (mc_n (by decide)) 10).trans (hn.1)) ?_
            refine x_icmpgeN O 240 (by omega) (by omega) dX5_leads_107 (by decide) (fun c107 => ?_) (fun c107 => ?_)
            · refine x_sub [1, 2] (L' := [(2, .int (nI i2_90)), (0, .ref (adr 10))]) rfl ?_
              obtain rfl : cc_ = 0 := by omega
              exact K_ _ rfl
            · refine x_aload_n O 2 dX5_leads_110 rfl rfl ?_
              refine x_get O k_X5_20_5 XR.o10 (v := .ref (adr 7)) rfl dX5_leads_111 ?_
              refine x_iload_n O 1 dX5_leads_114 rfl rfl ?_
              refine x_ear1 O (by omega) dX5_leads_115 ?_
              refine x_iload_n O 0 dX5_leads_116 rfl rfl ?_
              refine x_ear2 O (by omega) (by omega) dX5_leads_117 ?_
              refine x_top (v' := a7_102 (8 * i2_90 + i3_102)) (congrFun mc_s (8 * i2_90 + i3_102)) ?_
              refine x_ldc O q1428 dX5_leads_118 ?_
              have J14 : ∀ (y11 : Nat → Int32), y11 = (if (a7_102 (8 * i2_90 + i3_102)) = ((1000000)) then a7_102 else (fr (fun i s => x_leads_b129 (μ 1) (μ 4) (μ 7) (μ 0 10) i2_90 i3_102 i s) (tn (μ 0 10)) 0 a7_102)) → X G F R Q 6 234 [(3, .int (nI i3_102)), (2, .int (nI i2_90)), (0, .ref (adr 10))] [] (XR G κe κ adr (mc μ 7 y11) ρ) 0 0 := by
                intro y11 e15
                subst e15
                refine x_iincN O 0 [(3, .int (nI (i3_102 + 1))), (2, .int (nI i2_90)), (0, .ref (adr 10))] dX5_leads_234 rfl rfl rfl ?_
                refine x_goto O 102 dX5_leads_237 (by decide) ?_
                obtain ⟨c2_, rfl⟩ : ∃ z, cc_ = z + 1 := ⟨cc_ - 1, by omega⟩
                have hs_ : (fun i s => x_leads_b102 (μ 1) (μ 4) (μ 7) (μ 0 10) i2_90 i s) i3_102 a7_102 = (if (a7_102 (8 * i2_90 + i3_102)) = ((1000000)) then a7_102 else (fr (fun i s => x_leads_b129 (μ 1) (μ 4) (μ 7) (μ 0 10) i2_90 i3_102 i s) (tn (μ 0 10)) 0 a7_102)) := by show x_leads_b102 (μ 1) (μ 4) (μ 7) (μ 0 10) i2_90 i3_102 a7_102 = _; unfold x_leads_b102; rfl
                exact IH_ c2_ (by omega) _ _ (by omega) (by omega) (fun y0 hy_ => K_ y0 (hy_.trans (fr_step hs_).symm))
              refine x_icmpne O 126 dX5_leads_120 (by decide) (fun c120 => ?_) (fun c120 => ?_)
              · refine x_iconst O (nI 0) dX5_leads_126 (by decide) ?_
                refine x_istore O [(4, .int (nI 0)), (3, .int (nI i3_102)), (2, .int (nI i2_90)), (0, .ref (adr 10))] dX5_leads_127 rfl rfl ?_
                have LOOP129 : ∀ (cc_ : Nat) (i4_129 : Nat) (a7_129 : (Nat → Int32)), cc_ = tn (μ 0 10) - i4_129 → i4_129 < 2147483648 → (∀ (y0 : (Nat → Int32)), y0 = fr (fun i s => x_leads_b129 (μ 1) (μ 4) (μ 7) (μ 0 10) i2_90 i3_102 i s) cc_ i4_129 a7_129 → X G F R Q 6 234 [(3, .int (nI i3_102)), (2, .int (nI i2_90)), (0, .ref (adr 10))] [] (XR G κe κ adr (mc μ 7 y0) ρ) 0 0) → X G F R Q 6 129 [(4, .int (nI i4_129)), (3, .int (nI i3_102)), (2, .int (nI i2_90)), (0, .ref (adr 10))] [] (XR G κe κ adr (mc μ 7 a7_129) ρ) 0 0 := by
                  intro cc_
                  induction cc_ using Nat.strongRecOn with
                  | ind cc_ IH_ =>
                    intro i4_129 a7_129 hc_ hb_  K_
                    refine x_iload O 0 dX5_leads_129 rfl ?_
                    refine x_aload_n O 3 dX5_leads_131 rfl rfl ?_
                    refine x_get O k_X5_27_5 XR.o10 (v := .int ((mc μ 7 a7_129) 0 10)) rfl dX5_leads_132 ?_
                    refine x_top (v' := nI (tn (μ 0 10))) ((congrFun (mc_n (by decide)) 10).trans (hn.1)) ?_
                    refine x_icmpgeN O 234 (by omega) (by omega) dX5_leads_135 (by decide) (fun c135 => ?_) (fun c135 => ?_)
                    · refine x_sub [1, 2, 3] (L' := [(3, .int (nI i3_102)), (2, .int (nI i2_90)), (0, .ref (adr 10))]) rfl ?_
                      obtain rfl : cc_ = 0 := by omega
                      exact K_ _ rfl
                    · refine x_iload_n O 2 dX5_leads_138 rfl rfl ?_
                      refine x_iload O 0 dX5_leads_139 rfl ?_
                      refine x_ishr O dX5_leads_141 ?_
                      refine x_iconst O (nI 1) dX5_leads_142 (by decide) ?_
                      refine x_iand O dX5_leads_143 ?_
                      refine x_iconst O (nI 1) dX5_leads_144 (by decide) ?_
                      have J16 : ∀ (y10 : Nat → Int32), y10 = (if (((nI i2_90) >>> ((nI i4_129) &&& 31)) &&& (nI 1)) = (nI 1) then a7_129 else (if (μ 1 (354 + 6 * (tn (μ 4 i4_129)))) < (j_max (μ 1 (353 + 6 * (tn (μ 4 i4_129)))) ((a7_129 (8 * i2_90 + i3_102)) + (x_minutes (μ 1) (μ 4) i3_102 i4_129))) then a7_129 else ups a7_129 (8 * (i2_90 ||| 2 ^ i4_129) + i4_129) (j_min (a7_129 (8 * (i2_90 ||| 2 ^ i4_129) + i4_129)) (j_max (μ 1 (353 + 6 * (tn (μ 4 i4_129)))) ((a7_129 (8 * i2_90 + i3_102)) + (x_minutes (μ 1) (μ 4) i3_102 i4_129)))))) → X G F R Q 6 228 [(4, .int (nI i4_129)), (3, .int (nI i3_102)), (2, .int (nI i2_90)), (0, .ref (adr 10))] [] (XR G κe κ adr (mc μ 7 y10) ρ) 0 0 := by
                        intro y10 e17
                        subst e17
                        refine x_iincN O 0 [(4, .int (nI (i4_129 + 1))), (3, .int (nI i3_102)), (2, .int (nI i2_90)), (0, .ref (adr 10))] dX5_leads_228 rfl rfl rfl ?_
                        refine x_goto O 129 dX5_leads_231 (by decide) ?_
                        obtain ⟨c2_, rfl⟩ : ∃ z, cc_ = z + 1 := ⟨cc_ - 1, by omega⟩
                        have hs_ : (fun i s => x_leads_b129 (μ 1) (μ 4) (μ 7) (μ 0 10) i2_90 i3_102 i s) i4_129 a7_129 = (if (((nI i2_90) >>> ((nI i4_129) &&& 31)) &&& (nI 1)) = (nI 1) then a7_129 else (if (μ 1 (354 + 6 * (tn (μ 4 i4_129)))) < (j_max (μ 1 (353 + 6 * (tn (μ 4 i4_129)))) ((a7_129 (8 * i2_90 + i3_102)) + (x_minutes (μ 1) (μ 4) i3_102 i4_129))) then a7_129 else ups a7_129 (8 * (i2_90 ||| 2 ^ i4_129) + i4_129) (j_min (a7_129 (8 * (i2_90 ||| 2 ^ i4_129) + i4_129)) (j_max (μ 1 (353 + 6 * (tn (μ 4 i4_129)))) ((a7_129 (8 * i2_90 + i3_102)) + (x_minutes (μ 1) (μ 4) i3_102 i4_129)))))) := by show x_leads_b129 (μ 1) (μ 4) (μ 7) (μ 0 10) i2_90 i3_102 i4_129 a7_129 = _; unfold x_leads_b129; rfl
                        exact IH_ c2_ (by omega) _ _ (by omega) (by omega) (fun y0 hy_ => K_ y0 (hy_.trans (fr_step hs_).symm))
                      refine x_icmpne O 151 dX5_leads_145 (by decide) (fun c145 => ?_) (fun c145 => ?_)
                      · refine x_aload_n O 3 dX5_leads_151 rfl rfl ?_
                        refine x_iload O 0 dX5_leads_152 rfl ?_
                        refine x_anyq (r_V O 1 (c_x_at (μ := (mc μ 7 a7_129)) hI i4_129 (by omega) (hC i4_129 (by omega))) XR.o10 rfl (lw_V q1429 q1431 qs23 q110 q1432) rfl hd_X5_at rfl (by rw [RF]; rfl) (by rw [RL]; rfl) ⟨Nat.zero_le _, Nat.zero_le _⟩ rfl rfl dX5_leads_154) (fun q6 (hq7 : κe q6 = some (fEnt (μ 1) (tn (μ 4 i4_129)))) => ?_)
                        refine x_get O k_X5_62_22 (fE0 (hC i4_129 (by omega)).2.2 ((XR.hr (μ := (mc μ 7 a7_129)) hI (mc_n (by decide)) : HR G κe adr _ _ 1000 (μ 1) (XR G κe κ adr (mc μ 7 a7_129) ρ)).fr hq7)) (v := .int (μ 1 (353 + 6 * (tn (μ 4 i4_129))))) rfl dX5_leads_157 ?_
                        refine x_aload_n O 3 dX5_leads_160 rfl rfl ?_
                        refine x_get O k_X5_20_5 XR.o10 (v := .ref (adr 7)) rfl dX5_leads_161 ?_
                        refine x_iload_n O 2 dX5_leads_164 rfl rfl ?_
                        refine x_ear1 O (by omega) dX5_leads_165 ?_
                        refine x_iload_n O 1 dX5_leads_166 rfl rfl ?_
                        refine x_ear2 O (by omega) (by omega) dX5_leads_167 ?_
                        refine x_top (v' := a7_129 (8 * i2_90 + i3_102)) (congrFun mc_s (8 * i2_90 + i3_102)) ?_
                        refine x_aload_n O 3 dX5_leads_168 rfl rfl ?_
                        refine x_iload_n O 1 dX5_leads_169 rfl rfl ?_
                        refine x_iload O 0 dX5_leads_170 rfl ?_
                        refine x_cV O 2 (c_x_minutes (μ := (mc μ 7 a7_129)) hI hJ hn hC i3_102 i4_129 (show i3_102 < tn (μ 0 10) by omega) (show i4_129 < tn (μ 0 10) by omega)) XR.o10 rfl (lw_V q1434 q1436 qs24 q110 q1437) rfl hd_X5_minutes rfl (by rw [RF]; rfl) (by rw [RL]; rfl) ⟨Nat.zero_le _, Nat.zero_le _⟩ rfl rfl dX5_leads_172 ?_
                        refine x_top (v' := x_minutes (μ 1) (μ 4) i3_102 i4_129) (by rw [show (mc μ 7 a7_129) 1 = μ 1 from (mc_n (by decide)), show (mc μ 7 a7_129) 4 = μ 4 from (mc_n (by decide))]) ?_
                        refine x_iadd O dX5_leads_175 ?_
                        refine x_cS O 2 (c_j_max (μ 1 (353 + 6 * (tn (μ 4 i4_129)))) ((a7_129 (8 * i2_90 + i3_102)) + (x_minutes (μ 1) (μ 4) i3_102 i4_129))) (lw_S q1443 q558 q116 q559) hd_J7_max rfl (by rw [RF]; rfl) (by rw [RL]; rfl) ⟨Nat.zero_le _, Nat.zero_le _⟩ rfl rfl dX5_leads_176 ?_
                        refine x_top (v' := j_max (μ 1 (353 + 6 * (tn (μ 4 i4_129)))) ((a7_129 (8 * i2_90 + i3_102)) + (x_minutes (μ 1) (μ 4) i3_102 i4_129))) rfl ?_
                        refine x_istore O [(5, .int (j_max (μ 1 (353 + 6 * (tn (μ 4 i4_129)))) ((a7_129 (8 * i2_90 + i3_102)) + (x_minutes (μ 1) (μ 4) i3_102 i4_129)))), (4, .int (nI i4_129)), (3, .int (nI i3_102)), (2, .int (nI i2_90)), (0, .ref (adr 10))] dX5_leads_179 rfl rfl ?_
                        refine x_iload O 0 dX5_leads_181 rfl ?_
                        refine x_aload_n O 4 dX5_leads_183 rfl rfl ?_
                        refine x_iload O 1 dX5_leads_184 rfl ?_
                        refine x_anyq (r_V O 1 (c_x_at (μ := (mc μ 7 a7_129)) hI i4_129 (by omega) (hC i4_129 (by omega))) XR.o10 rfl (lw_V q1429 q1431 qs23 q110 q1432) rfl hd_X5_at rfl (by rw [RF]; rfl) (by rw [RL]; rfl) ⟨Nat.zero_le _, Nat.zero_le _⟩ rfl rfl dX5_leads_186) (fun q8 (hq9 : κe q8 = some (fEnt (μ 1) (tn (μ 4 i4_129)))) => ?_)
                        refine x_get O k_X5_73_22 (fE0 (hC i4_129 (by omega)).2.2 ((XR.hr (μ := (mc μ 7 a7_129)) hI (mc_n (by decide)) : HR G κe adr _ _ 1000 (μ 1) (XR G κe κ adr (mc μ 7 a7_129) ρ)).fr hq9)) (v := .int (μ 1 (354 + 6 * (tn (μ 4 i4_129))))) rfl dX5_leads_189 ?_
                        refine x_icmpgt O 228 dX5_leads_192 (by decide) (fun c192 => ?_) (fun c192 => ?_)
                        · refine x_sub [1, 2, 3, 4] (L' := [(4, .int (nI i4_129)), (3, .int (nI i3_102)), (2, .int (nI i2_90)), (0, .ref (adr 10))]) rfl ?_
                          exact J16 a7_129 (by first | (rw [if_neg c145, if_pos c192]; done) | simp only [if_neg c145, if_pos c192])
                        · refine x_aload_n O 4 dX5_leads_195 rfl rfl ?_
                          refine x_get O k_X5_20_5 XR.o10 (v := .ref (adr 7)) rfl dX5_leads_196 ?_
                          refine x_iload_n O 3 dX5_leads_199 rfl rfl ?_
                          refine x_iconst O (nI 1) dX5_leads_200 (by decide) ?_
                          refine x_iload O 1 dX5_leads_201 rfl ?_
                          refine x_ishl O dX5_leads_203 ?_
                          refine x_top (v' := nI (2 ^ i4_129)) (shl1 (by omega)) ?_
                          refine x_ior O dX5_leads_204 ?_
                          refine x_top (v' := nI (i2_90 ||| 2 ^ i4_129)) (or_N (by omega) (by have := pow7 (a := i4_129) (by omega); omega)) ?_
                          refine x_ear1 O (by have := or8 (a := i2_90) (b := i4_129) (by omega) (by omega); omega) dX5_leads_205 ?_
                          refine x_iload O 1 dX5_leads_206 rfl ?_
                          refine x_aload_n O 4 dX5_leads_208 rfl rfl ?_
                          refine x_get O k_X5_20_5 XR.o10 (v := .ref (adr 7)) rfl dX5_leads_209 ?_
                          refine x_iload_n O 3 dX5_leads_212 rfl rfl ?_
                          refine x_iconst O (nI 1) dX5_leads_213 (by decide) ?_
                          refine x_iload O 1 dX5_leads_214 rfl ?_
                          refine x_ishl O dX5_leads_216 ?_
                          refine x_top (v' := nI (2 ^ i4_129)) (shl1 (by omega)) ?_
                          refine x_ior O dX5_leads_217 ?_
                          refine x_top (v' := nI (i2_90 ||| 2 ^ i4_129)) (or_N (by omega) (by have := pow7 (a := i4_129) (by omega); omega)) ?_
                          refine x_ear1 O (by have := or8 (a := i2_90) (b := i4_129) (by omega) (by omega); omega) dX5_leads_218 ?_
                          refine x_iload O 1 dX5_leads_219 rfl ?_
                          refine x_ear2 O (by have := or8 (a := i2_90) (b := i4_129) (by omega) (by omega); omega) (by omega) dX5_leads_221 ?_
                          refine x_top (v' := a7_129 (8 * (i2_90 ||| 2 ^ i4_129) + i4_129)) (congrFun mc_s (8 * (i2_90 ||| 2 ^ i4_129) + i4_129)) ?_
                          refine x_iload O 0 dX5_leads_222 rfl ?_
                          refine x_cS O 2 (c_j_min (a7_129 (8 * (i2_90 ||| 2 ^ i4_129) + i4_129)) (j_max (μ 1 (353 + 6 * (tn (μ 4 i4_129)))) ((a7_129 (8 * i2_90 + i3_102)) + (x_minutes (μ 1) (μ 4) i3_102 i4_129)))) (lw_S q1444 q760 q116 q761) hd_J7_min rfl (by rw [RF]; rfl) (by rw [RL]; rfl) ⟨Nat.zero_le _, Nat.zero_le _⟩ rfl rfl dX5_leads_224 ?_
                          refine x_top (v' := j_min (a7_129 (8 * (i2_90 ||| 2 ^ i4_129) + i4_129)) (j_max (μ 1 (353 + 6 * (tn (μ 4 i4_129)))) ((a7_129 (8 * i2_90 + i3_102)) + (x_minutes (μ 1) (μ 4) i3_102 i4_129)))) rfl ?_
                          refine x_ear3 O (by have := or8 (a := i2_90) (b := i4_129) (by omega) (by omega); omega) (by omega) dX5_leads_227 (μ' := (mc μ 7 (ups a7_129 (8 * (i2_90 ||| 2 ^ i4_129) + i4_129) (j_min (a7_129 (8 * (i2_90 ||| 2 ^ i4_129) + i4_129)) (j_max (μ 1 (353 + 6 * (tn (μ 4 i4_129)))) ((a7_129 (8 * i2_90 + i3_102)) + (x_minutes (μ 1) (μ 4) i3_102 i4_129))))))) wc_s ?_
                          refine x_sub [1, 2, 3, 4] rfl ?_
                          exact J16 (ups a7_129 (8 * (i2_90 ||| 2 ^ i4_129) + i4_129) (j_min (a7_129 (8 * (i2_90 ||| 2 ^ i4_129) + i4_129)) (j_max (μ 1 (353 + 6 * (tn (μ 4 i4_129)))) ((a7_129 (8 * i2_90 + i3_102)) + (x_minutes (μ 1) (μ 4) i3_102 i4_129))))) (by first | (rw [if_neg c145, if_neg c192]; done) | simp only [if_neg c145, if_neg c192])
                      · refine x_goto O 228 dX5_leads_148 (by decide) ?_
                        exact J16 a7_129 (by rw [if_pos c145])
                refine LOOP129 (tn (μ 0 10)) 0 a7_102 rfl (by omega) (fun y0 hy_129 => ?_)
                subst hy_129
                exact J14 ((fr (fun i s => x_leads_b129 (μ 1) (μ 4) (μ 7) (μ 0 10) i2_90 i3_102 i s) (tn (μ 0 10)) 0 a7_102)) (by rw [if_neg c120])
              · refine x_goto O 234 dX5_leads_123 (by decide) ?_
                exact J14 a7_102 (by rw [if_pos c120])
        refine LOOP102 (tn (μ 0 10)) 0 a7_90 rfl (by omega) (fun y0 hy_102 => ?_)
        subst hy_102
        refine x_iincN O 0 [(2, .int (nI (i2_90 + 1))), (0, .ref (adr 10))] dX5_leads_240 rfl rfl rfl ?_
        refine x_goto O 90 dX5_leads_243 (by decide) ?_
        obtain ⟨c2_, rfl⟩ : ∃ z, cc_ = z + 1 := ⟨cc_ - 1, by omega⟩
        have hs_ : (fun i s => x_leads_b90 (μ 1) (μ 4) (μ 7) (μ 0 10) i s) i2_90 a7_90 = (fr (fun i s => x_leads_b102 (μ 1) (μ 4) (μ 7) (μ 0 10) i2_90 i s) (tn (μ 0 10)) 0 a7_90) := by show x_leads_b90 (μ 1) (μ 4) (μ 7) (μ 0 10) i2_90 a7_90 = _; unfold x_leads_b90; rfl
        exact IH_ c2_ (by omega) _ _ (by omega) (by omega) (fun y0 hy_ => K_ y0 (hy_.trans (fr_step hs_).symm))
  refine LOOP90 (2 ^ tn (μ 0 10) - 1) 1 ((fr (fun i s => x_leads_b46 (μ 1) (μ 4) (μ 7) (μ 0 10) first i s) (tn (μ 0 10)) 0 (fr (fun i s => x_leads_b2 (μ 1) (μ 4) (μ 7) (μ 0 10) i s) (2 ^ tn (μ 0 10)) 0 (μ 7)))) rfl (by omega) (fun y0 hy_90 => ?_)
  subst hy_90
  exact x_vretQ O hQ rfl dX5_leads_246 (fun h m => ⟨rfl, by rw [hrs0]; exact m.eq rfl⟩)

def x_end_b5 (C7 : Nat → Int32) (F10 : Int32) (set : Nat) (i3_5 : Nat) (v2_5 : Int32) : Int32 :=
  j_min v2_5 (C7 (8 * set + i3_5))
def x_end (C7 : Nat → Int32) (F10 : Int32) (set : Nat) : Int32 :=
  (fr (fun i s => x_end_b5 C7 F10 set i s) (tn F10) 0 (1000000))
set_option maxHeartbeats 1000000 in
set_option maxRecDepth 100000 in
theorem c_x_end {G : UG} {κe κ : Hp} {adr : Nat → Nat} {μ : Mu} {ρ : List Nat} (hn : nn (μ 0 10) 8) (set : Nat) (hs : set < 256) : Con G yX5_end cX5_end 4 (some .int) 1 21 0 0 [.ref (adr 10), .int (nI set)] (XR G κe κ adr μ ρ) (fun vr_ h' => vr_ = some (.int (x_end (μ 7) (μ 0 10) set)) ∧ XR G κe κ adr μ ρ h') nX := by
  refine con_of2 (plainFor_of_name (by decide)) rfl ?_
  intro F R Q RF RL RC RS hQ O hnh hnm
  obtain ⟨res, hres⟩ : ∃ z, z = (x_end (μ 7) (μ 0 10) set) := ⟨_, rfl⟩
  rw [← hres] at hQ
  unfold x_end at hres
  have hnb := hn.2
  refine x_eq (L' := [(0, .ref (adr 10)), (1, .int (nI set))]) ?_ rfl rfl rfl
  refine x_ldc O q1428 dX5_end_0 ?_
  refine x_istore_n O [(2, .int ((1000000))), (0, .ref (adr 10)), (1, .int (nI set))] dX5_end_2 rfl rfl rfl ?_
  refine x_iconst O (nI 0) dX5_end_3 (by decide) ?_
  refine x_istore_n O [(3, .int (nI 0)), (2, .int ((1000000))), (0, .ref (adr 10)), (1, .int (nI set))] dX5_end_4 rfl rfl rfl ?_
  have LOOP5 : ∀ (cc_ : Nat) (i3_5 : Nat) (v2_5 : Int32), cc_ = tn (μ 0 10) - i3_5 → i3_5 < 2147483648 → (∀ (y0 : Int32), y0 = fr (fun i s => x_end_b5 (μ 7) (μ 0 10) set i s) cc_ i3_5 v2_5 → X G F R Q 4 32 [(2, .int y0), (0, .ref (adr 10))] [] (XR G κe κ adr μ ρ) 0 0) → X G F R Q 4 5 [(3, .int (nI i3_5)), (2, .int v2_5), (0, .ref (adr 10)), (1, .int (nI set))] [] (XR G κe κ adr μ ρ) 0 0 := by
    intro cc_
    induction cc_ using Nat.strongRecOn with
    | ind cc_ IH_ =>
      intro i3_5 v2_5 hc_ hb_  K_
      refine x_iload_n O 0 dX5_end_5 rfl rfl ?_
      refine x_aload_n O 2 dX5_end_6 rfl rfl ?_
      refine x_get O k_X5_27_5 XR.o10 (v := .int (μ 0 10)) rfl dX5_end_7 ?_
      refine x_top (v' := nI (tn (μ 0 10))) (hn.1) ?_
      refine x_icmpgeN O 32 (by omega) (by omega) dX5_end_10 (by decide) (fun c10 => ?_) (fun c10 => ?_)
      · refine x_sub [1, 2] (L' := [(2, .int v2_5), (0, .ref (adr 10))]) rfl ?_
        obtain rfl : cc_ = 0 := by omega
        exact K_ _ rfl
      · refine x_iload_n O 1 dX5_end_13 rfl rfl ?_
        refine x_aload_n O 2 dX5_end_14 rfl rfl ?_
        refine x_get O k_X5_20_5 XR.o10 (v := .ref (adr 7)) rfl dX5_end_15 ?_
        refine x_iload_n O 3 dX5_end_18 rfl rfl ?_
        refine x_ear1 O (by omega) dX5_end_19 ?_
        refine x_iload_n O 0 dX5_end_20 rfl rfl ?_
        refine x_ear2 O (by omega) (by omega) dX5_end_21 ?_
        refine x_top (v' := μ 7 (8 * set + i3_5)) rfl ?_
        refine x_cS O 2 (c_j_min v2_5 (μ 7 (8 * set + i3_5))) (lw_S q1444 q760 q116 q761) hd_J7_min rfl (by rw [RF]; rfl) (by rw [RL]; rfl) ⟨Nat.zero_le _, Nat.zero_le _⟩ rfl rfl dX5_end_22 ?_
        refine x_top (v' := j_min v2_5 (μ 7 (8 * set + i3_5))) rfl ?_
        refine x_istore_n O [(2, .int (j_min v2_5 (μ 7 (8 * set + i3_5)))), (3, .int (nI i3_5)), (0, .ref (adr 10)), (1, .int (nI set))] dX5_end_25 rfl rfl rfl ?_
        refine x_iincN O 1 [(3, .int (nI (i3_5 + 1))), (2, .int (j_min v2_5 (μ 7 (8 * set + i3_5)))), (0, .ref (adr 10)), (1, .int (nI set))] dX5_end_26 rfl rfl rfl ?_
        refine x_goto O 5 dX5_end_29 (by decide) ?_
        obtain ⟨c2_, rfl⟩ : ∃ z, cc_ = z + 1 := ⟨cc_ - 1, by omega⟩
        have hs_ : (fun i s => x_end_b5 (μ 7) (μ 0 10) set i s) i3_5 v2_5 = j_min v2_5 (μ 7 (8 * set + i3_5)) := by show x_end_b5 (μ 7) (μ 0 10) set i3_5 v2_5 = _; unfold x_end_b5; rfl
        exact IH_ c2_ (by omega) _ _ (by omega) (by omega) (fun y0 hy_ => K_ y0 (hy_.trans (fr_step hs_).symm))
  refine LOOP5 (tn (μ 0 10)) 0 ((1000000)) rfl (by omega) (fun y0 hy_5 => ?_)
  subst hy_5
  refine x_iload_n O 0 dX5_end_32 rfl rfl ?_
  exact x_iretQ O hQ rfl dX5_end_33 (fun h m => ⟨by rw [hres], m⟩)

def x_hands_b34 (W : Nat → Int32) (C4 : Nat → Int32) (C6 : Nat → Int32) (C7 : Nat → Int32) (F10 : Int32) (i1_14 : Nat) (iw_34 : Nat) (v2_34 : Nat) (a6_34 : (Nat → Int32)) : (Nat × (Nat → Int32)) ⊕ (Nat × (Nat → Int32)) :=
  (if v2_34 = 0 then .inr (v2_34, a6_34) else .inl (tn ((nI (v2_34 - 1)) &&& (nI i1_14)), (if ((1000000)) ≤ (x_end (x_leads_c7 W C4 C7 F10 ((-1))) F10 v2_34) then a6_34 else ups a6_34 i1_14 (j_min (a6_34 i1_14) ((a6_34 (tn ((nI i1_14) &&& ((nI v2_34) ^^^ ((-1)))))) + (nI 1))))))
def x_hands_b14 (W : Nat → Int32) (C4 : Nat → Int32) (C6 : Nat → Int32) (C7 : Nat → Int32) (F10 : Int32)  (i1_14 : Nat) (a6_14 : (Nat → Int32)) : (Nat → Int32) :=
  (frb (fun i s => x_hands_b34 W C4 C6 C7 F10 i1_14 i s.1 s.2) (i1_14 + 1) 0 (i1_14, ups a6_14 i1_14 ((1000000)))).2
def x_hands (W : Nat → Int32) (C4 : Nat → Int32) (C6 : Nat → Int32) (C7 : Nat → Int32) (F10 : Int32)  : Int32 :=
  ((fr (fun i s => x_hands_b14 W C4 C6 C7 F10 i s) (2 ^ tn F10 - 1) 1 (ups C6 0 (nI 0)))) (2 ^ tn F10 - 1)
def x_hands_c6 (W : Nat → Int32) (C4 : Nat → Int32) (C6 : Nat → Int32) (C7 : Nat → Int32) (F10 : Int32)  : Nat → Int32 :=
  (fr (fun i s => x_hands_b14 W C4 C6 C7 F10 i s) (2 ^ tn F10 - 1) 1 (ups C6 0 (nI 0)))
def x_hands_c7 (W : Nat → Int32) (C4 : Nat → Int32) (C6 : Nat → Int32) (C7 : Nat → Int32) (F10 : Int32)  : Nat → Int32 :=
  x_leads_c7 W C4 C7 F10 ((-1))
set_option maxHeartbeats 1000000 in
set_option maxRecDepth 100000 in
theorem c_x_hands {G : UG} {κe κ : Hp} {adr : Nat → Nat} {μ : Mu} {ρ : List Nat} (hI : MI (μ 1)) (hJ : MJ (μ 1)) (hn : nn (μ 0 10) 8) (hC : ∀ k, k < tn (μ 0 10) → μ 4 k = nI (tn (μ 4 k)) ∧ tn (μ 4 k) < tn (μ 1 3) ∧ μ 1 (349 + 6 * tn (μ 4 k)) = 0)   : Con G yX5_hands cX5_hands 3 (some .int) 4 91 0 0 [.ref (adr 10)] (XR G κe κ adr μ ρ) (fun vr_ h' => vr_ = some (.int (x_hands (μ 1) (μ 4) (μ 6) (μ 7) (μ 0 10))) ∧ XR G κe κ adr (mc (mc μ 6 (x_hands_c6 (μ 1) (μ 4) (μ 6) (μ 7) (μ 0 10))) 7 (x_hands_c7 (μ 1) (μ 4) (μ 6) (μ 7) (μ 0 10))) ρ h') nX := by
  refine con_of2 (plainFor_of_name (by decide)) rfl ?_
  intro F R Q RF RL RC RS hQ O hnh hnm
  obtain ⟨res, hres⟩ : ∃ z, z = (x_hands (μ 1) (μ 4) (μ 6) (μ 7) (μ 0 10)) := ⟨_, rfl⟩
  rw [← hres] at hQ
  unfold x_hands at hres
  obtain ⟨rs0, hrs0⟩ : ∃ z, z = (x_hands_c6 (μ 1) (μ 4) (μ 6) (μ 7) (μ 0 10)) := ⟨_, rfl⟩
  rw [← hrs0] at hQ
  unfold x_hands_c6 at hrs0
  obtain ⟨rs1, hrs1⟩ : ∃ z, z = (x_hands_c7 (μ 1) (μ 4) (μ 6) (μ 7) (μ 0 10)) := ⟨_, rfl⟩
  rw [← hrs1] at hQ
  unfold x_hands_c7 at hrs1
  have hnb := hn.2
  have hb3 := (hI 3 (by decide)).2
  have hb3b : tn (μ 1 3) ≤ 120 := hb3
  have hp := pow8 hnb
  have hp1 := pow_1 (tn (μ 0 10))
  refine x_eq (L' := [(0, .ref (adr 10))]) ?_ rfl rfl rfl
  refine x_aload_n O 0 dX5_hands_0 rfl rfl ?_
  refine x_iconst O ((-1)) dX5_hands_1 (by decide) ?_
  refine x_cV O 1 (c_x_leads (μ := μ) hI hJ hn hC ((-1))) XR.o10 rfl (lw_V q1424 q1425 q1426 q110 q1427) rfl hd_X5_leads rfl (by rw [RF]; rfl) (by rw [RL]; rfl) ⟨Nat.zero_le _, Nat.zero_le _⟩ rfl rfl dX5_hands_2 ?_
  refine x_weak (Ω' := XR G κe κ adr (mc μ 7 (x_leads_c7 (μ 1) (μ 4) (μ 7) (μ 0 10) ((-1)))) ρ) (fun _ m => m.eq rfl) ?_
  refine x_aload_n O 0 dX5_hands_5 rfl rfl ?_
  refine x_get O k_X5_15_5 XR.o10 (v := .ref (adr 6)) rfl dX5_hands_6 ?_
  refine x_iconst O (nI 0) dX5_hands_9 (by decide) ?_
  refine x_iconst O (nI 0) dX5_hands_10 (by decide) ?_
  refine x_xst6 O (by omega) dX5_hands_11 (μ' := (mc (mc μ 6 (ups (μ 6) 0 (nI 0))) 7 (x_leads_c7 (μ 1) (μ 4) (μ 7) (μ 0 10) ((-1))))) ((wc_n (by decide)).trans (congrArg (fun m_ => mc m_ 7 _) (w_new (f := μ 6) (by rfl)))) ?_
  refine x_iconst O (nI 1) dX5_hands_12 (by decide) ?_
  refine x_istore_n O [(1, .int (nI 1)), (0, .ref (adr 10))] dX5_hands_13 rfl rfl rfl ?_
  have LOOP14 : ∀ (cc_ : Nat) (i1_14 : Nat) (a6_14 : (Nat → Int32)), cc_ = 2 ^ tn (μ 0 10) - i1_14 → i1_14 < 2147483648 → (∀ (y0 : (Nat → Int32)), y0 = fr (fun i s => x_hands_b14 (μ 1) (μ 4) (μ 6) (μ 7) (μ 0 10) i s) cc_ i1_14 a6_14 → X G F R Q 3 90 [(0, .ref (adr 10))] [] (XR G κe κ adr (mc (mc μ 6 y0) 7 (x_leads_c7 (μ 1) (μ 4) (μ 7) (μ 0 10) ((-1)))) ρ) 0 0) → X G F R Q 3 14 [(1, .int (nI i1_14)), (0, .ref (adr 10))] [] (XR G κe κ adr (mc (mc μ 6 a6_14) 7 (x_leads_c7 (μ 1) (μ 4) (μ 7) (μ 0 10) ((-1)))) ρ) 0 0 := by
    intro cc_
    induction cc_ using Nat.strongRecOn with
    | ind cc_ IH_ =>
      intro i1_14 a6_14 hc_ hb_  K_
      refine x_iload_n O 0 dX5_hands_14 rfl rfl ?_
      refine x_iconst O (nI 1) dX5_hands_15 (by decide) ?_
      refine x_aload_n O 1 dX5_hands_16 rfl rfl ?_
      refine x_get O k_X5_27_5 XR.o10 (v := .int ((mc (mc μ 6 a6_14) 7 (x_leads_c7 (μ 1) (μ 4) (μ 7) (μ 0 10) ((-1)))) 0 10)) rfl dX5_hands_17 ?_
      refine x_top (v' := nI (tn (μ 0 10))) ((congrFun (mc_n (by decide)) 10).trans ((congrFun (mc_n (by decide)) 10).trans (hn.1))) ?_
      refine x_ishl O dX5_hands_20 ?_
      refine x_top (v' := nI (2 ^ tn (μ 0 10))) (shl1 hnb) ?_
      refine x_icmpgeN O 90 (by omega) (by omega) dX5_hands_21 (by decide) (fun c21 => ?_) (fun c21 => ?_)
      · refine x_sub [1] (L' := [(0, .ref (adr 10))]) rfl ?_
        obtain rfl : cc_ = 0 := by omega
        exact K_ _ rfl
      · refine x_aload_n O 1 dX5_hands_24 rfl rfl ?_
        refine x_get O k_X5_15_5 XR.o10 (v := .ref (adr 6)) rfl dX5_hands_25 ?_
        refine x_iload_n O 0 dX5_hands_28 rfl rfl ?_
        refine x_ldc O q1428 dX5_hands_29 ?_
        refine x_xst6 O (by omega) dX5_hands_31 (μ' := (mc (mc μ 6 (ups a6_14 i1_14 ((1000000)))) 7 (x_leads_c7 (μ 1) (μ 4) (μ 7) (μ 0 10) ((-1))))) ((wc_n (by decide)).trans (congrArg (fun m_ => mc m_ 7 _) wc_s)) ?_
        refine x_iload_n O 0 dX5_hands_32 rfl rfl ?_
        refine x_istore_n O [(2, .int (nI i1_14)), (1, .int (nI i1_14)), (0, .ref (adr 10))] dX5_hands_33 rfl rfl rfl ?_
        have LOOP34 : ∀ (cc_ : Nat) (iw_34 : Nat) (v2_34 : Nat) (a6_34 : (Nat → Int32)), v2_34 < cc_ → True → (v2_34 ≤ i1_14) → (∀ (y0 : Nat) (y1 : (Nat → Int32)), (y0, y1) = frb (fun i s => x_hands_b34 (μ 1) (μ 4) (μ 6) (μ 7) (μ 0 10) i1_14 i s.1 s.2) cc_ iw_34 (v2_34, a6_34) → X G F R Q 3 84 [(1, .int (nI i1_14)), (0, .ref (adr 10))] [] (XR G κe κ adr (mc (mc μ 6 y1) 7 (x_leads_c7 (μ 1) (μ 4) (μ 7) (μ 0 10) ((-1)))) ρ) 0 0) → X G F R Q 3 34 [(2, .int (nI v2_34)), (1, .int (nI i1_14)), (0, .ref (adr 10))] [] (XR G κe κ adr (mc (mc μ 6 a6_34) 7 (x_leads_c7 (μ 1) (μ 4) (μ 7) (μ 0 10) ((-1)))) ρ) 0 0 := by
          intro cc_
          induction cc_ using Nat.strongRecOn with
          | ind cc_ IH_ =>
            intro iw_34 v2_34 a6_34 hc_ hb_ hs_ K_
            refine x_iload_n O 0 dX5_hands_34 rfl rfl ?_
            refine x_ifleN O 84 (by omega) dX5_hands_35 (by decide) (fun c35 => ?_) (fun c35 => ?_)
            · refine x_sub [1, 2] (L' := [(1, .int (nI i1_14)), (0, .ref (adr 10))]) rfl ?_
              obtain ⟨c2_, rfl⟩ : ∃ z, cc_ = z + 1 := ⟨cc_ - 1, by omega⟩
              have hs_ : (fun i s => x_hands_b34 (μ 1) (μ 4) (μ 6) (μ 7) (μ 0 10) i1_14 i s.1 s.2) iw_34 (v2_34, a6_34) = .inr (v2_34, a6_34) := by show x_hands_b34 (μ 1) (μ 4) (μ 6) (μ 7) (μ 0 10) i1_14 iw_34 v2_34 a6_34 = _; unfold x_hands_b34; rw [if_pos c35]
              exact K_ _ _ (frb_stop hs_).symm
            · refine x_aload_n O 2 dX5_hands_38 rfl rfl ?_
              refine x_iload_n O 0 dX5_hands_39 rfl rfl ?_
              refine x_cV O 1 (c_x_end (μ := (mc (mc μ 6 a6_34) 7 (x_leads_c7 (μ 1) (μ 4) (μ 7) (μ 0 10) ((-1))))) hn v2_34 (by omega)) XR.o10 rfl (lw_V q1445 q1446 q1447 q110 q1448) rfl hd_X5_end rfl (by rw [RF]; rfl) (by rw [RL]; rfl) ⟨Nat.zero_le _, Nat.zero_le _⟩ rfl rfl dX5_hands_40 ?_
              refine x_top (v' := x_end (x_leads_c7 (μ 1) (μ 4) (μ 7) (μ 0 10) ((-1))) (μ 0 10) v2_34) (by rw [show (mc (mc μ 6 a6_34) 7 (x_leads_c7 (μ 1) (μ 4) (μ 7) (μ 0 10) ((-1)))) 7 = x_leads_c7 (μ 1) (μ 4) (μ 7) (μ 0 10) ((-1)) from mc_s, show (mc (mc μ 6 a6_34) 7 (x_leads_c7 (μ 1) (μ 4) (μ 7) (μ 0 10) ((-1)))) 0 10 = μ 0 10 from ((congrFun (mc_n (by decide)) 10).trans (congrFun (mc_n (by decide)) 10))]) ?_
              refine x_ldc O q1428 dX5_hands_43 ?_
              have J2 : ∀ (y1 : Nat → Int32), y1 = (if ((1000000)) ≤ (x_end (x_leads_c7 (μ 1) (μ 4) (μ 7) (μ 0 10) ((-1))) (μ 0 10) v2_34) then a6_34 else ups a6_34 i1_14 (j_min (a6_34 i1_14) ((a6_34 (tn ((nI i1_14) &&& ((nI v2_34) ^^^ ((-1)))))) + (nI 1)))) → X G F R Q 3 75 [(2, .int (nI v2_34)), (1, .int (nI i1_14)), (0, .ref (adr 10))] [] (XR G κe κ adr (mc (mc μ 6 y1) 7 (x_leads_c7 (μ 1) (μ 4) (μ 7) (μ 0 10) ((-1)))) ρ) 0 0 := by
                intro y1 e3
                subst e3
                refine x_iload_n O 0 dX5_hands_75 rfl rfl ?_
                refine x_iconst O (nI 1) dX5_hands_76 (by decide) ?_
                refine x_isubN O (by omega) dX5_hands_77 ?_
                refine x_iload_n O 1 dX5_hands_78 rfl rfl ?_
                refine x_iand O dX5_hands_79 ?_
                refine x_top (v' := nI (tn ((nI (v2_34 - 1)) &&& (nI i1_14)))) ((and_nn (by omega) _).1) ?_
                refine x_istore_n O [(2, .int (nI (tn ((nI (v2_34 - 1)) &&& (nI i1_14))))), (1, .int (nI i1_14)), (0, .ref (adr 10))] dX5_hands_80 rfl rfl rfl ?_
                refine x_goto O 34 dX5_hands_81 (by decide) ?_
                obtain ⟨c2_, rfl⟩ : ∃ z, cc_ = z + 1 := ⟨cc_ - 1, by omega⟩
                have hs_ : (fun i s => x_hands_b34 (μ 1) (μ 4) (μ 6) (μ 7) (μ 0 10) i1_14 i s.1 s.2) iw_34 (v2_34, a6_34) = .inl (tn ((nI (v2_34 - 1)) &&& (nI i1_14)), (if ((1000000)) ≤ (x_end (x_leads_c7 (μ 1) (μ 4) (μ 7) (μ 0 10) ((-1))) (μ 0 10) v2_34) then a6_34 else ups a6_34 i1_14 (j_min (a6_34 i1_14) ((a6_34 (tn ((nI i1_14) &&& ((nI v2_34) ^^^ ((-1)))))) + (nI 1))))) := by show x_hands_b34 (μ 1) (μ 4) (μ 6) (μ 7) (μ 0 10) i1_14 iw_34 v2_34 a6_34 = _; unfold x_hands_b34; rw [if_neg c35]
                exact IH_ c2_ (by omega) _ _ _ (by have := (and_nn (a := v2_34 - 1) (by omega) (nI i1_14)).2; omega) trivial (by have := (and_nn (a := v2_34 - 1) (by omega) (nI i1_14)).2; omega) (fun y0 y1 hy_ => K_ y0 y1 (hy_.trans (frb_step hs_).symm))
              refine x_icmpge O 75 dX5_hands_45 (by decide) (fun c45 => ?_) (fun c45 => ?_)
              · exact J2 a6_34 (by rw [if_pos c45])
              · refine x_aload_n O 2 dX5_hands_48 rfl rfl ?_
                refine x_get O k_X5_15_5 XR.o10 (v := .ref (adr 6)) rfl dX5_hands_49 ?_
                refine x_iload_n O 1 dX5_hands_52 rfl rfl ?_
                refine x_aload_n O 2 dX5_hands_53 rfl rfl ?_
                refine x_get O k_X5_15_5 XR.o10 (v := .ref (adr 6)) rfl dX5_hands_54 ?_
                refine x_iload_n O 1 dX5_hands_57 rfl rfl ?_
                refine x_ialdN O XR.c6 (by omega) rfl dX5_hands_58 ?_
                refine x_top (v' := a6_34 i1_14) ((congrFun (mc_n (by decide)) i1_14).trans (congrFun mc_s i1_14)) ?_
                refine x_aload_n O 2 dX5_hands_59 rfl rfl ?_
                refine x_get O k_X5_15_5 XR.o10 (v := .ref (adr 6)) rfl dX5_hands_60 ?_
                refine x_iload_n O 1 dX5_hands_63 rfl rfl ?_
                refine x_iload_n O 0 dX5_hands_64 rfl rfl ?_
                refine x_iconst O ((-1)) dX5_hands_65 (by decide) ?_
                refine x_ixor O dX5_hands_66 ?_
                refine x_iand O dX5_hands_67 ?_
                refine x_top (v' := nI (tn ((nI i1_14) &&& ((nI v2_34) ^^^ ((-1)))))) ((and_nn (by omega) _).1) ?_
                refine x_ialdN O XR.c6 (Nat.lt_of_le_of_lt (and_nn (by omega) _).2 (by omega)) rfl dX5_hands_68 ?_
                refine x_top (v' := a6_34 (tn ((nI i1_14) &&& ((nI v2_34) ^^^ ((-1)))))) ((congrFun (mc_n (by decide)) (tn ((nI i1_14) &&& ((nI v2_34) ^^^ ((-1)))))).trans (congrFun mc_s (tn ((nI i1_14) &&& ((nI v2_34) ^^^ ((-1))))))) ?_
                refine x_iconst O (nI 1) dX5_hands_69 (by decide) ?_
                refine x_iadd O dX5_hands_70 ?_
                refine x_cS O 2 (c_j_min (a6_34 i1_14) ((a6_34 (tn ((nI i1_14) &&& ((nI v2_34) ^^^ ((-1)))))) + (nI 1))) (lw_S q1444 q760 q116 q761) hd_J7_min rfl (by rw [RF]; rfl) (by rw [RL]; rfl) ⟨Nat.zero_le _, Nat.zero_le _⟩ rfl rfl dX5_hands_71 ?_
                refine x_top (v' := j_min (a6_34 i1_14) ((a6_34 (tn ((nI i1_14) &&& ((nI v2_34) ^^^ ((-1)))))) + (nI 1))) rfl ?_
                refine x_xst6 O (by omega) dX5_hands_74 (μ' := (mc (mc μ 6 (ups a6_34 i1_14 (j_min (a6_34 i1_14) ((a6_34 (tn ((nI i1_14) &&& ((nI v2_34) ^^^ ((-1)))))) + (nI 1))))) 7 (x_leads_c7 (μ 1) (μ 4) (μ 7) (μ 0 10) ((-1))))) ((wc_n (by decide)).trans (congrArg (fun m_ => mc m_ 7 _) wc_s)) ?_
                exact J2 (ups a6_34 i1_14 (j_min (a6_34 i1_14) ((a6_34 (tn ((nI i1_14) &&& ((nI v2_34) ^^^ ((-1)))))) + (nI 1)))) (by rw [if_neg c45])
        refine LOOP34 (i1_14 + 1) 0 i1_14 (ups a6_14 i1_14 ((1000000))) (by omega) trivial (by omega) (fun y0 y1 hy_34 => ?_)
        obtain rfl : y0 = (frb (fun i s => x_hands_b34 (μ 1) (μ 4) (μ 6) (μ 7) (μ 0 10) i1_14 i s.1 s.2) (i1_14 + 1) 0 (i1_14, ups a6_14 i1_14 ((1000000)))).1 := congrArg (fun z => z.1) hy_34
        obtain rfl : y1 = (frb (fun i s => x_hands_b34 (μ 1) (μ 4) (μ 6) (μ 7) (μ 0 10) i1_14 i s.1 s.2) (i1_14 + 1) 0 (i1_14, ups a6_14 i1_14 ((1000000)))).2 := congrArg (fun z => z.2) hy_34
        refine x_iincN O 0 [(1, .int (nI (i1_14 + 1))), (0, .ref (adr 10))] dX5_hands_84 rfl rfl rfl ?_
        refine x_goto O 14 dX5_hands_87 (by decide) ?_
        obtain ⟨c2_, rfl⟩ : ∃ z, cc_ = z + 1 := ⟨cc_ - 1, by omega⟩
        have hs_ : (fun i s => x_hands_b14 (μ 1) (μ 4) (μ 6) (μ 7) (μ 0 10) i s) i1_14 a6_14 = (frb (fun i s => x_hands_b34 (μ 1) (μ 4) (μ 6) (μ 7) (μ 0 10) i1_14 i s.1 s.2) (i1_14 + 1) 0 (i1_14, ups a6_14 i1_14 ((1000000)))).2 := by show x_hands_b14 (μ 1) (μ 4) (μ 6) (μ 7) (μ 0 10) i1_14 a6_14 = _; unfold x_hands_b14; rfl
        exact IH_ c2_ (by omega) _ _ (by omega) (by omega) (fun y0 hy_ => K_ y0 (hy_.trans (fr_step hs_).symm))
  refine LOOP14 (2 ^ tn (μ 0 10) - 1) 1 (ups (μ 6) 0 (nI 0)) rfl (by omega) (fun y0 hy_14 => ?_)
  subst hy_14
  refine x_aload_n O 0 dX5_hands_90 rfl rfl ?_
  refine x_get O k_X5_15_5 XR.o10 (v := .ref (adr 6)) rfl dX5_hands_91 ?_
  refine x_iconst O (nI 1) dX5_hands_94 (by decide) ?_
  refine x_aload_n O 0 dX5_hands_95 rfl rfl ?_
  refine x_get O k_X5_27_5 XR.o10 (v := .int ((mc (mc μ 6 ((fr (fun i s => x_hands_b14 (μ 1) (μ 4) (μ 6) (μ 7) (μ 0 10) i s) (2 ^ tn (μ 0 10) - 1) 1 (ups (μ 6) 0 (nI 0))))) 7 (x_leads_c7 (μ 1) (μ 4) (μ 7) (μ 0 10) ((-1)))) 0 10)) rfl dX5_hands_96 ?_
  refine x_top (v' := nI (tn (μ 0 10))) ((congrFun (mc_n (by decide)) 10).trans ((congrFun (mc_n (by decide)) 10).trans (hn.1))) ?_
  refine x_ishl O dX5_hands_99 ?_
  refine x_top (v' := nI (2 ^ tn (μ 0 10))) (shl1 hnb) ?_
  refine x_iconst O (nI 1) dX5_hands_100 (by decide) ?_
  refine x_isubN O (by omega) dX5_hands_101 ?_
  refine x_ialdN O XR.c6 (by omega) rfl dX5_hands_102 ?_
  refine x_top (v' := ((fr (fun i s => x_hands_b14 (μ 1) (μ 4) (μ 6) (μ 7) (μ 0 10) i s) (2 ^ tn (μ 0 10) - 1) 1 (ups (μ 6) 0 (nI 0)))) (2 ^ tn (μ 0 10) - 1)) ((congrFun (mc_n (by decide)) (2 ^ tn (μ 0 10) - 1)).trans (congrFun mc_s (2 ^ tn (μ 0 10) - 1))) ?_
  exact x_iretQ O hQ rfl dX5_hands_103 (fun h m => ⟨by rw [hres], by rw [hrs0, hrs1]; exact m.eq rfl⟩)

def x_tlast (W : Nat → Int32) (C4 : Nat → Int32) (C7 : Nat → Int32) (F10 : Int32)  : Int32 :=
  (if (tn F10) = 0 then (-1) else (if (x_end (x_leads_c7 W C4 C7 F10 ((-1))) F10 (2 ^ tn F10 - 1)) = ((1000000)) then (-1) else x_end (x_leads_c7 W C4 C7 F10 ((-1))) F10 (2 ^ tn F10 - 1)))
def x_tlast_c7 (W : Nat → Int32) (C4 : Nat → Int32) (C7 : Nat → Int32) (F10 : Int32)  : Nat → Int32 :=
  (if (tn F10) = 0 then C7 else x_leads_c7 W C4 C7 F10 ((-1)))
set_option maxHeartbeats 1000000 in
set_option maxRecDepth 100000 in
theorem c_x_tlast {G : UG} {κe κ : Hp} {adr : Nat → Nat} {μ : Mu} {ρ : List Nat} (hI : MI (μ 1)) (hJ : MJ (μ 1)) (hn : nn (μ 0 10) 8) (hC : ∀ k, k < tn (μ 0 10) → μ 4 k = nI (tn (μ 4 k)) ∧ tn (μ 4 k) < tn (μ 1 3) ∧ μ 1 (349 + 6 * tn (μ 4 k)) = 0)   : Con G yX5_last cX5_last 2 (some .int) 4 91 0 0 [.ref (adr 10)] (XR G κe κ adr μ ρ) (fun vr_ h' => vr_ = some (.int (x_tlast (μ 1) (μ 4) (μ 7) (μ 0 10))) ∧ XR G κe κ adr (mc μ 7 (x_tlast_c7 (μ 1) (μ 4) (μ 7) (μ 0 10))) ρ h') nX := by
  refine con_of2 (plainFor_of_name (by decide)) rfl ?_
  intro F R Q RF RL RC RS hQ O hnh hnm
  obtain ⟨res, hres⟩ : ∃ z, z = (x_tlast (μ 1) (μ 4) (μ 7) (μ 0 10)) := ⟨_, rfl⟩
  rw [← hres] at hQ
  unfold x_tlast at hres
  obtain ⟨rs0, hrs0⟩ : ∃ z, z = (x_tlast_c7 (μ 1) (μ 4) (μ 7) (μ 0 10)) := ⟨_, rfl⟩
  rw [← hrs0] at hQ
  unfold x_tlast_c7 at hrs0
  have hnb := hn.2
  have hb3 := (hI 3 (by decide)).2
  have hb3b : tn (μ 1 3) ≤ 120 := hb3
  have hp := pow8 hnb
  have hp1 := pow_1 (tn (μ 0 10))
  refine x_eq (L' := [(0, .ref (adr 10))]) ?_ rfl rfl rfl
  refine x_aload_n O 0 dX5_last_0 rfl rfl ?_
  refine x_get O k_X5_27_5 XR.o10 (v := .int (μ 0 10)) rfl dX5_last_1 ?_
  refine x_top (v' := nI (tn (μ 0 10))) (hn.1) ?_
  refine x_ifneN O 9 (by omega) dX5_last_4 (by decide) (fun c4 => ?_) (fun c4 => ?_)
  · have hr2 := hres.trans (if_neg c4)
    have hr3 := hrs0.trans (if_neg c4)
    refine x_aload_n O 0 dX5_last_9 rfl rfl ?_
    refine x_iconst O ((-1)) dX5_last_10 (by decide) ?_
    refine x_cV O 1 (c_x_leads (μ := μ) hI hJ hn hC ((-1))) XR.o10 rfl (lw_V q1424 q1425 q1426 q110 q1427) rfl hd_X5_leads rfl (by rw [RF]; rfl) (by rw [RL]; rfl) ⟨Nat.zero_le _, Nat.zero_le _⟩ rfl rfl dX5_last_11 ?_
    refine x_weak (Ω' := XR G κe κ adr (mc μ 7 (x_leads_c7 (μ 1) (μ 4) (μ 7) (μ 0 10) ((-1)))) ρ) (fun _ m => m.eq rfl) ?_
    refine x_aload_n O 0 dX5_last_14 rfl rfl ?_
    refine x_iconst O (nI 1) dX5_last_15 (by decide) ?_
    refine x_aload_n O 0 dX5_last_16 rfl rfl ?_
    refine x_get O k_X5_27_5 XR.o10 (v := .int ((mc μ 7 (x_leads_c7 (μ 1) (μ 4) (μ 7) (μ 0 10) ((-1)))) 0 10)) rfl dX5_last_17 ?_
    refine x_top (v' := nI (tn (μ 0 10))) ((congrFun (mc_n (by decide)) 10).trans (hn.1)) ?_
    refine x_ishl O dX5_last_20 ?_
    refine x_top (v' := nI (2 ^ tn (μ 0 10))) (shl1 hnb) ?_
    refine x_iconst O (nI 1) dX5_last_21 (by decide) ?_
    refine x_isubN O (by omega) dX5_last_22 ?_
    refine x_cV O 1 (c_x_end (μ := (mc μ 7 (x_leads_c7 (μ 1) (μ 4) (μ 7) (μ 0 10) ((-1))))) hn (2 ^ tn (μ 0 10) - 1) (by omega)) XR.o10 rfl (lw_V q1445 q1446 q1447 q110 q1448) rfl hd_X5_end rfl (by rw [RF]; rfl) (by rw [RL]; rfl) ⟨Nat.zero_le _, Nat.zero_le _⟩ rfl rfl dX5_last_23 ?_
    refine x_top (v' := x_end (x_leads_c7 (μ 1) (μ 4) (μ 7) (μ 0 10) ((-1))) (μ 0 10) (2 ^ tn (μ 0 10) - 1)) (by rw [show (mc μ 7 (x_leads_c7 (μ 1) (μ 4) (μ 7) (μ 0 10) ((-1)))) 7 = x_leads_c7 (μ 1) (μ 4) (μ 7) (μ 0 10) ((-1)) from mc_s, show (mc μ 7 (x_leads_c7 (μ 1) (μ 4) (μ 7) (μ 0 10) ((-1)))) 0 10 = μ 0 10 from (congrFun (mc_n (by decide)) 10)]) ?_
    refine x_istore_n O [(1, .int (x_end (x_leads_c7 (μ 1) (μ 4) (μ 7) (μ 0 10) ((-1))) (μ 0 10) (2 ^ tn (μ 0 10) - 1))), (0, .ref (adr 10))] dX5_last_26 rfl rfl rfl ?_
    refine x_iload_n O 0 dX5_last_27 rfl rfl ?_
    refine x_ldc O q1428 dX5_last_28 ?_
    have J4 : ∀ (y1 : Int32), y1 = (if (x_end (x_leads_c7 (μ 1) (μ 4) (μ 7) (μ 0 10) ((-1))) (μ 0 10) (2 ^ tn (μ 0 10) - 1)) = ((1000000)) then (-1) else x_end (x_leads_c7 (μ 1) (μ 4) (μ 7) (μ 0 10) ((-1))) (μ 0 10) (2 ^ tn (μ 0 10) - 1)) → X G F R Q 2 38 [(0, .ref (adr 10))] [.int y1] (XR G κe κ adr (mc μ 7 (x_leads_c7 (μ 1) (μ 4) (μ 7) (μ 0 10) ((-1)))) ρ) 0 0 := by
      intro y1 e5
      subst e5
      exact x_iretQ O hQ rfl dX5_last_38 (fun h m => ⟨by rw [hr2], by rw [hr3]; exact m.eq rfl⟩)
    refine x_icmpne O 37 dX5_last_30 (by decide) (fun c30 => ?_) (fun c30 => ?_)
    · refine x_iload_n O 0 dX5_last_37 rfl rfl ?_
      refine x_sub [1] rfl ?_
      exact J4 (x_end (x_leads_c7 (μ 1) (μ 4) (μ 7) (μ 0 10) ((-1))) (μ 0 10) (2 ^ tn (μ 0 10) - 1)) (by rw [if_neg c30])
    · refine x_sub [1] (L' := [(0, .ref (adr 10))]) rfl ?_
      refine x_iconst O ((-1)) dX5_last_33 (by decide) ?_
      refine x_goto O 38 dX5_last_34 (by decide) ?_
      exact J4 ((-1)) (by rw [if_pos c30])
  · have hr6 := hres.trans (if_pos c4)
    have hr7 := hrs0.trans (if_pos c4)
    refine x_iconst O ((-1)) dX5_last_7 (by decide) ?_
    exact x_iretQ O hQ rfl dX5_last_8 (fun h m => ⟨by rw [hr6], by rw [hr7]; exact m.eq (mc_id (c := 7) (f := μ 7) (by rfl)).symm⟩)

def x_tfirst_b7 (W : Nat → Int32) (C4 : Nat → Int32) (C7 : Nat → Int32) (F10 : Int32)  (i2_7 : Nat) (a7_7 : (Nat → Int32)) : ((Nat → Int32)) ⊕ (Int32 × (Nat → Int32)) :=
  (if (x_tlast W C4 C7 F10) = ((-1)) then .inr ((-1), a7_7) else (if (x_end (x_leads_c7 W C4 a7_7 F10 (nI i2_7)) F10 (2 ^ tn F10 - 1)) = (x_tlast W C4 C7 F10) then .inr (C4 i2_7, x_leads_c7 W C4 a7_7 F10 (nI i2_7)) else .inl (x_leads_c7 W C4 a7_7 F10 (nI i2_7))))
def x_tfirst (W : Nat → Int32) (C4 : Nat → Int32) (C7 : Nat → Int32) (F10 : Int32)  : Int32 :=
  (match (fre (fun i s => x_tfirst_b7 W C4 C7 F10 i s) (tn F10) 0 (x_tlast_c7 W C4 C7 F10)) with | .inl y_7 => (-1) | .inr v => v.1)
def x_tfirst_c7 (W : Nat → Int32) (C4 : Nat → Int32) (C7 : Nat → Int32) (F10 : Int32)  : Nat → Int32 :=
  (match (fre (fun i s => x_tfirst_b7 W C4 C7 F10 i s) (tn F10) 0 (x_tlast_c7 W C4 C7 F10)) with | .inl y_7 => y_7 | .inr v => v.2)
set_option maxHeartbeats 1000000 in
set_option maxRecDepth 100000 in
theorem c_x_tfirst {G : UG} {κe κ : Hp} {adr : Nat → Nat} {μ : Mu} {ρ : List Nat} (hI : MI (μ 1)) (hJ : MJ (μ 1)) (hn : nn (μ 0 10) 8) (hC : ∀ k, k < tn (μ 0 10) → μ 4 k = nI (tn (μ 4 k)) ∧ tn (μ 4 k) < tn (μ 1 3) ∧ μ 1 (349 + 6 * tn (μ 4 k)) = 0)   : Con G yX5_first cX5_first 3 (some .int) 5 112 0 0 [.ref (adr 10)] (XR G κe κ adr μ ρ) (fun vr_ h' => vr_ = some (.int (x_tfirst (μ 1) (μ 4) (μ 7) (μ 0 10))) ∧ XR G κe κ adr (mc μ 7 (x_tfirst_c7 (μ 1) (μ 4) (μ 7) (μ 0 10))) ρ h') nX := by
  refine con_of2 (plainFor_of_name (by decide)) rfl ?_
  intro F R Q RF RL RC RS hQ O hnh hnm
  obtain ⟨res, hres⟩ : ∃ z, z = (x_tfirst (μ 1) (μ 4) (μ 7) (μ 0 10)) := ⟨_, rfl⟩
  rw [← hres] at hQ
  unfold x_tfirst at hres
  obtain ⟨rs0, hrs0⟩ : ∃ z, z = (x_tfirst_c7 (μ 1) (μ 4) (μ 7) (μ 0 10)) := ⟨_, rfl⟩
  rw [← hrs0] at hQ
  unfold x_tfirst_c7 at hrs0
  have hnb := hn.2
  have hb3 := (hI 3 (by decide)).2
  have hb3b : tn (μ 1 3) ≤ 120 := hb3
  have hp := pow8 hnb
  have hp1 := pow_1 (tn (μ 0 10))
  refine x_eq (L' := [(0, .ref (adr 10))]) ?_ rfl rfl rfl
  refine x_aload_n O 0 dX5_first_0 rfl rfl ?_
  refine x_cV O 0 (c_x_tlast (μ := μ) hI hJ hn hC) XR.o10 rfl (lw_V q1457 q1450 q1451 q110 q1452) rfl hd_X5_last rfl (by rw [RF]; rfl) (by rw [RL]; rfl) ⟨Nat.zero_le _, Nat.zero_le _⟩ rfl rfl dX5_first_1 ?_
  refine x_top (v' := x_tlast (μ 1) (μ 4) (μ 7) (μ 0 10)) rfl ?_
  refine x_weak (Ω' := XR G κe κ adr (mc μ 7 (x_tlast_c7 (μ 1) (μ 4) (μ 7) (μ 0 10))) ρ) (fun _ m => m.eq rfl) ?_
  refine x_istore_n O [(1, .int (x_tlast (μ 1) (μ 4) (μ 7) (μ 0 10))), (0, .ref (adr 10))] dX5_first_4 rfl rfl rfl ?_
  refine x_iconst O (nI 0) dX5_first_5 (by decide) ?_
  refine x_istore_n O [(2, .int (nI 0)), (1, .int (x_tlast (μ 1) (μ 4) (μ 7) (μ 0 10))), (0, .ref (adr 10))] dX5_first_6 rfl rfl rfl ?_
  have LOOP7 : ∀ (cc_ : Nat) (i2_7 : Nat) (a7_7 : (Nat → Int32)), cc_ = tn (μ 0 10) - i2_7 → i2_7 < 2147483648 → (∀ (y0 : (Nat → Int32)), fre (fun i s => x_tfirst_b7 (μ 1) (μ 4) (μ 7) (μ 0 10) i s) cc_ i2_7 a7_7 = .inl y0 → X G F R Q 3 54 [(0, .ref (adr 10))] [] (XR G κe κ adr (mc μ 7 y0) ρ) 0 0) → (∀ v_ : Int32 × (Nat → Int32), fre (fun i s => x_tfirst_b7 (μ 1) (μ 4) (μ 7) (μ 0 10) i s) cc_ i2_7 a7_7 = .inr v_ → res = v_.1 ∧ rs0 = v_.2) → X G F R Q 3 7 [(2, .int (nI i2_7)), (1, .int (x_tlast (μ 1) (μ 4) (μ 7) (μ 0 10))), (0, .ref (adr 10))] [] (XR G κe κ adr (mc μ 7 a7_7) ρ) 0 0 := by
    intro cc_
    induction cc_ using Nat.strongRecOn with
    | ind cc_ IH_ =>
      intro i2_7 a7_7 hc_ hb_  K_ K2_
      refine x_iload_n O 0 dX5_first_7 rfl rfl ?_
      refine x_aload_n O 2 dX5_first_8 rfl rfl ?_
      refine x_get O k_X5_27_5 XR.o10 (v := .int ((mc μ 7 a7_7) 0 10)) rfl dX5_first_9 ?_
      refine x_top (v' := nI (tn (μ 0 10))) ((congrFun (mc_n (by decide)) 10).trans (hn.1)) ?_
      refine x_icmpgeN O 54 (by omega) (by omega) dX5_first_12 (by decide) (fun c12 => ?_) (fun c12 => ?_)
      · refine x_sub [2] (L' := [(0, .ref (adr 10))]) rfl ?_
        obtain rfl : cc_ = 0 := by omega
        exact K_ _ rfl
      · refine x_iload_n O 1 dX5_first_15 rfl rfl ?_
        refine x_iconst O ((-1)) dX5_first_16 (by decide) ?_
        refine x_icmpeq O 54 dX5_first_17 (by decide) (fun c17 => ?_) (fun c17 => ?_)
        · refine x_sub [2] (L' := [(0, .ref (adr 10))]) rfl ?_
          refine x_iconst O ((-1)) dX5_first_54 (by decide) ?_
          obtain ⟨c2_, rfl⟩ : ∃ z, cc_ = z + 1 := ⟨cc_ - 1, by omega⟩
          have hs_ : (fun i s => x_tfirst_b7 (μ 1) (μ 4) (μ 7) (μ 0 10) i s) i2_7 a7_7 = .inr ((-1), a7_7) := by show x_tfirst_b7 (μ 1) (μ 4) (μ 7) (μ 0 10) i2_7 a7_7 = _; unfold x_tfirst_b7; rw [if_pos c17]
          obtain ⟨hk1, hk2⟩ := K2_ _ (frx_stop hs_)
          exact x_iretQ O hQ rfl dX5_first_55 (fun h m => ⟨by rw [hk1], by rw [hk2]; exact m.eq rfl⟩)
        · refine x_aload_n O 2 dX5_first_20 rfl rfl ?_
          refine x_iload_n O 0 dX5_first_21 rfl rfl ?_
          refine x_cV O 1 (c_x_leads (μ := (mc μ 7 a7_7)) hI hJ hn hC (nI i2_7)) XR.o10 rfl (lw_V q1424 q1425 q1426 q110 q1427) rfl hd_X5_leads rfl (by rw [RF]; rfl) (by rw [RL]; rfl) ⟨Nat.zero_le _, Nat.zero_le _⟩ rfl rfl dX5_first_22 ?_
          refine x_weak (Ω' := XR G κe κ adr (mc μ 7 (x_leads_c7 (μ 1) (μ 4) a7_7 (μ 0 10) (nI i2_7))) ρ) (fun _ m => by rw [show (mc μ 7 a7_7) 1 = μ 1 from (mc_n (by decide)), show (mc μ 7 a7_7) 4 = μ 4 from (mc_n (by decide)), show (mc μ 7 a7_7) 7 = a7_7 from mc_s, show (mc μ 7 a7_7) 0 10 = μ 0 10 from (congrFun (mc_n (by decide)) 10)] at m; exact m.eq cc_s) ?_
          refine x_aload_n O 2 dX5_first_25 rfl rfl ?_
          refine x_iconst O (nI 1) dX5_first_26 (by decide) ?_
          refine x_aload_n O 2 dX5_first_27 rfl rfl ?_
          refine x_get O k_X5_27_5 XR.o10 (v := .int ((mc μ 7 (x_leads_c7 (μ 1) (μ 4) a7_7 (μ 0 10) (nI i2_7))) 0 10)) rfl dX5_first_28 ?_
          refine x_top (v' := nI (tn (μ 0 10))) ((congrFun (mc_n (by decide)) 10).trans (hn.1)) ?_
          refine x_ishl O dX5_first_31 ?_
          refine x_top (v' := nI (2 ^ tn (μ 0 10))) (shl1 hnb) ?_
          refine x_iconst O (nI 1) dX5_first_32 (by decide) ?_
          refine x_isubN O (by omega) dX5_first_33 ?_
          refine x_cV O 1 (c_x_end (μ := (mc μ 7 (x_leads_c7 (μ 1) (μ 4) a7_7 (μ 0 10) (nI i2_7)))) hn (2 ^ tn (μ 0 10) - 1) (by omega)) XR.o10 rfl (lw_V q1445 q1446 q1447 q110 q1448) rfl hd_X5_end rfl (by rw [RF]; rfl) (by rw [RL]; rfl) ⟨Nat.zero_le _, Nat.zero_le _⟩ rfl rfl dX5_first_34 ?_
          refine x_top (v' := x_end (x_leads_c7 (μ 1) (μ 4) a7_7 (μ 0 10) (nI i2_7)) (μ 0 10) (2 ^ tn (μ 0 10) - 1)) (by rw [show (mc μ 7 (x_leads_c7 (μ 1) (μ 4) a7_7 (μ 0 10) (nI i2_7))) 7 = x_leads_c7 (μ 1) (μ 4) a7_7 (μ 0 10) (nI i2_7) from mc_s, show (mc μ 7 (x_leads_c7 (μ 1) (μ 4) a7_7 (μ 0 10) (nI i2_7))) 0 10 = μ 0 10 from (congrFun (mc_n (by decide)) 10)]) ?_
          refine x_iload_n O 1 dX5_first_37 rfl rfl ?_
          refine x_icmpne O 48 dX5_first_38 (by decide) (fun c38 => ?_) (fun c38 => ?_)
          · refine x_iincN O 0 [(2, .int (nI (i2_7 + 1))), (1, .int (x_tlast (μ 1) (μ 4) (μ 7) (μ 0 10))), (0, .ref (adr 10))] dX5_first_48 rfl rfl rfl ?_
            refine x_goto O 7 dX5_first_51 (by decide) ?_
            obtain ⟨c2_, rfl⟩ : ∃ z, cc_ = z + 1 := ⟨cc_ - 1, by omega⟩
            have hs_ : (fun i s => x_tfirst_b7 (μ 1) (μ 4) (μ 7) (μ 0 10) i s) i2_7 a7_7 = .inl (x_leads_c7 (μ 1) (μ 4) a7_7 (μ 0 10) (nI i2_7)) := by show x_tfirst_b7 (μ 1) (μ 4) (μ 7) (μ 0 10) i2_7 a7_7 = _; unfold x_tfirst_b7; rw [if_neg c17, if_neg c38]
            exact IH_ c2_ (by omega) _ _ (by omega) (by omega) (fun y0 hy_ => K_ y0 ((frx_step hs_).trans hy_)) (fun v_ hv_ => K2_ v_ ((frx_step hs_).trans hv_))
          · refine x_sub [0, 2] (L' := [(2, .int (nI i2_7)), (0, .ref (adr 10))]) rfl ?_
            refine x_aload_n O 1 dX5_first_41 rfl rfl ?_
            refine x_get O k_X5_9_5 XR.o10 (v := .ref (adr 4)) rfl dX5_first_42 ?_
            refine x_iload_n O 0 dX5_first_45 rfl rfl ?_
            refine x_ialdN O XR.c4 (by omega) rfl dX5_first_46 ?_
            refine x_top (v' := μ 4 i2_7) (congrFun (mc_n (by decide)) i2_7) ?_
            obtain ⟨c2_, rfl⟩ : ∃ z, cc_ = z + 1 := ⟨cc_ - 1, by omega⟩
            have hs_ : (fun i s => x_tfirst_b7 (μ 1) (μ 4) (μ 7) (μ 0 10) i s) i2_7 a7_7 = .inr (μ 4 i2_7, x_leads_c7 (μ 1) (μ 4) a7_7 (μ 0 10) (nI i2_7)) := by show x_tfirst_b7 (μ 1) (μ 4) (μ 7) (μ 0 10) i2_7 a7_7 = _; unfold x_tfirst_b7; rw [if_neg c17, if_pos c38]
            obtain ⟨hk3, hk4⟩ := K2_ _ (frx_stop hs_)
            exact x_iretQ O hQ rfl dX5_first_47 (fun h m => ⟨by rw [hk3], by rw [hk4]; exact m.eq rfl⟩)
  refine LOOP7 (tn (μ 0 10)) 0 (x_tlast_c7 (μ 1) (μ 4) (μ 7) (μ 0 10)) rfl (by omega) (fun y0 hy_7 => ?_) (fun v_ hv_ => ⟨by rw [hres, hv_], by rw [hrs0, hv_]⟩)
  obtain ⟨y_7, hyy_7⟩ : ∃ z : (Nat → Int32), z = y0 := ⟨_, rfl⟩
  rw [hy_7] at hres
  rw [hy_7] at hrs0
  rw [← hyy_7] at hres hrs0
  subst hyy_7
  refine x_iconst O ((-1)) dX5_first_54 (by decide) ?_
  exact x_iretQ O hQ rfl dX5_first_55 (fun h m => ⟨by rw [hres], by rw [hrs0]; exact m.eq rfl⟩)

