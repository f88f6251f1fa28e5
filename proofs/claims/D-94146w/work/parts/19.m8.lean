theorem mv_1 {W : Nat → Int32} {p : Nat} {flees : Bool} {own cell b : Int32} (hI : MI W) (h : 0 ≤ (if flees = true then m_nearestTo W p true own else b)) (c : flees = true) : 0 ≤ m_nearestTo W p true cell := by
  rw [if_pos c] at h
  exact Int32.not_lt.mp fun z => Int32.not_lt.mpr h ((near_ex hI).mp z)
theorem mv_2 {flees : Bool} {a b : Int32} (h : 0 ≤ (if flees = true then a else b)) (c : ¬ flees = true) : 0 ≤ b := by
  rw [if_neg c] at h; exact h

def m_moves_b45 (W : Nat → Int32) (p : Nat) (flees : Bool) (i7_45 : Nat) (v6_45 : Int32) (v5_45 : Int32) : Int32 × Int32 :=
  ((if (g_far (nI i7_45) (m_of W p 1)) ≤ (nI 1) then (if v5_45 < 0 then (if flees = true then g_far (nI i7_45) (m_of W (tn (m_nearestTo W p true (nI i7_45))) 1) else -(g_far (nI i7_45) (m_of W (tn (m_nearestTo W p false (m_of W p 1))) 1))) else (if v6_45 < ((if flees = true then g_far (nI i7_45) (m_of W (tn (m_nearestTo W p true (nI i7_45))) 1) else -(g_far (nI i7_45) (m_of W (tn (m_nearestTo W p false (m_of W p 1))) 1)))) then (if flees = true then g_far (nI i7_45) (m_of W (tn (m_nearestTo W p true (nI i7_45))) 1) else -(g_far (nI i7_45) (m_of W (tn (m_nearestTo W p false (m_of W p 1))) 1))) else v6_45)) else v6_45), (if (g_far (nI i7_45) (m_of W p 1)) ≤ (nI 1) then (if v5_45 < 0 then nI i7_45 else (if v6_45 < ((if flees = true then g_far (nI i7_45) (m_of W (tn (m_nearestTo W p true (nI i7_45))) 1) else -(g_far (nI i7_45) (m_of W (tn (m_nearestTo W p false (m_of W p 1))) 1)))) then nI i7_45 else v5_45)) else v5_45))
def m_moves_c1 (W : Nat → Int32) (p : Nat) (flees : Bool) : Nat → Int32 :=
  (if 0 ≤ ((if flees = true then m_nearestTo W p true (m_of W p 1) else m_nearestTo W p false (m_of W p 1))) then ups W (301 + 6 * p + 1) ((fr (fun i s => m_moves_b45 W p flees i s.1 s.2) 256 0 (nI 0, (-1))).2) else W)
set_option maxHeartbeats 1000000 in
set_option maxRecDepth 100000 in
theorem c_m_moves {G : UG} {adr : Nat → Nat} {h0 : Hp} {μ : Mu} (hJ : MJ (μ 1)) (p : Nat) (flees : Bool) (hp : p < 8) : Con G yX6_moves cX6_moves 9 none 3 69 0 0 [.ref (adr 0), .int (nI p), .int (b2i flees)] (MS G adr h0 μ) (fun vr_ h' => vr_ = none ∧ MS G adr h0 (mc μ 1 (m_moves_c1 (μ 1) p flees)) h') nX := by
  refine con_of2 (plainFor_of_name (by decide)) rfl ?_
  intro F R Q RF RL RC RS hQ O hnh hnm
  obtain ⟨rs0, hrs0⟩ : ∃ z, z = m_moves_c1 (μ 1) p flees := ⟨_, rfl⟩
  rw [← hrs0] at hQ
  unfold m_moves_c1 at hrs0
  have hI := hJ.1
  refine x_eq (L' := [(0, .ref (adr 0)), (1, .int (nI p)), (2, .int (b2i flees))]) ?_ rfl rfl rfl
  refine x_aload_n O 0 dX6_moves_0 rfl rfl ?_
  refine x_iload_n O 1 dX6_moves_1 rfl rfl ?_
  refine x_iconst O (nI 1) dX6_moves_2 (by decide) ?_
  refine x_cV O 2 (c_m_of (μ := μ) p 1 (by omega) (by omega)) MS.obj uc6 (lw_V q1968 q1970 qs60 q111 q1971) rfl hd_X6_of rfl (by rw [RF]; rfl) (by rw [RL]; rfl) ⟨Nat.zero_le _, Nat.zero_le _⟩ rfl rfl dX6_moves_3 ?_
  refine x_top (v' := m_of (μ 1) p 1) rfl ?_
  refine x_istore_n O [(3, .int (m_of (μ 1) p 1)), (0, .ref (adr 0)), (1, .int (nI p)), (2, .int (b2i flees))] dX6_moves_6 rfl rfl rfl ?_
  refine x_aload_n O 1 dX6_moves_7 rfl rfl ?_
  refine x_iload_n O 2 dX6_moves_8 rfl rfl ?_
  refine x_iconst O (nI 0) dX6_moves_9 (by decide) ?_
  refine x_iload_n O 0 dX6_moves_10 rfl rfl ?_
  refine x_eqS (st' := [.int (m_of (μ 1) p 1), .int (b2i false), .int (nI p), .ref (adr 0)]) (by rw [show b2i false = nI 0 by decide] <;> rfl) ?_
  refine x_cV O 3 (c_m_nearestTo (μ := μ) hI p false (m_of (μ 1) p 1) (by omega)) MS.obj uc6 (lw_V q2012 q2014 qs68 q111 q2015) rfl hd_X6_nearestTo rfl (by rw [RF]; rfl) (by rw [RL]; rfl) ⟨Nat.zero_le _, Nat.zero_le _⟩ rfl rfl dX6_moves_11 ?_
  refine x_top (v' := m_nearestTo (μ 1) p false (m_of (μ 1) p 1)) rfl ?_
  refine x_istore O [(4, .int (m_nearestTo (μ 1) p false (m_of (μ 1) p 1))), (3, .int (m_of (μ 1) p 1)), (0, .ref (adr 0)), (1, .int (nI p)), (2, .int (b2i flees))] dX6_moves_14 rfl rfl ?_
  refine x_iload_n O 4 dX6_moves_16 rfl rfl ?_
  have J5 : ∀ (y1 : Int32), y1 = (if flees = true then m_nearestTo (μ 1) p true (m_of (μ 1) p 1) else m_nearestTo (μ 1) p false (m_of (μ 1) p 1)) → X G F R Q 9 32 [(4, .int (m_nearestTo (μ 1) p false (m_of (μ 1) p 1))), (3, .int (m_of (μ 1) p 1)), (0, .ref (adr 0)), (1, .int (nI p)), (2, .int (b2i flees))] [.int y1] (MS G adr h0 μ) 0 0 := by
    intro y1 e6
    subst e6
    refine x_ifge O 36 dX6_moves_32 (by decide) (fun c32 => ?_) (fun c32 => ?_)
    · have hr7 := hrs0.trans (if_pos c32)
      refine x_iconst O ((-1)) dX6_moves_36 (by decide) ?_
      refine x_istore O [(5, .int ((-1))), (4, .int (m_nearestTo (μ 1) p false (m_of (μ 1) p 1))), (3, .int (m_of (μ 1) p 1)), (0, .ref (adr 0)), (1, .int (nI p)), (2, .int (b2i flees))] dX6_moves_37 rfl rfl ?_
      refine x_iconst O (nI 0) dX6_moves_39 (by decide) ?_
      refine x_istore O [(6, .int (nI 0)), (5, .int ((-1))), (4, .int (m_nearestTo (μ 1) p false (m_of (μ 1) p 1))), (3, .int (m_of (μ 1) p 1)), (0, .ref (adr 0)), (1, .int (nI p)), (2, .int (b2i flees))] dX6_moves_40 rfl rfl ?_
      refine x_iconst O (nI 0) dX6_moves_42 (by decide) ?_
      refine x_istore O [(7, .int (nI 0)), (6, .int (nI 0)), (5, .int ((-1))), (4, .int (m_nearestTo (μ 1) p false (m_of (μ 1) p 1))), (3, .int (m_of (μ 1) p 1)), (0, .ref (adr 0)), (1, .int (nI p)), (2, .int (b2i flees))] dX6_moves_43 rfl rfl ?_
      have LOOP45 : ∀ (cc_ : Nat) (i7_45 : Nat) (v6_45 : Int32) (v5_45 : Int32), cc_ = 256 - i7_45 → i7_45 < 2147483648 → (∀ (y0 : Int32) (y1 : Int32), (y0, y1) = fr (fun i s => m_moves_b45 (μ 1) p flees i s.1 s.2) cc_ i7_45 (v6_45, v5_45) → X G F R Q 9 135 [(5, .int y1), (0, .ref (adr 0)), (1, .int (nI p))] [] (MS G adr h0 μ) 0 0) → X G F R Q 9 45 [(7, .int (nI i7_45)), (6, .int v6_45), (5, .int v5_45), (4, .int (m_nearestTo (μ 1) p false (m_of (μ 1) p 1))), (3, .int (m_of (μ 1) p 1)), (0, .ref (adr 0)), (1, .int (nI p)), (2, .int (b2i flees))] [] (MS G adr h0 μ) 0 0 := by
        intro cc_
        induction cc_ using Nat.strongRecOn with
        | ind cc_ IH_ =>
          intro i7_45 v6_45 v5_45 hc_ hb_  K_
          refine x_iload O 0 dX6_moves_45 rfl ?_
          refine x_sipush O (nI 256) dX6_moves_47 (by decide) ?_
          refine x_icmpgeN O 135 (by omega) (by omega) dX6_moves_50 (by decide) (fun c50 => ?_) (fun c50 => ?_)
          · refine x_sub [2, 5, 6] (L' := [(5, .int v5_45), (0, .ref (adr 0)), (1, .int (nI p))]) rfl ?_
            obtain rfl : cc_ = 0 := by omega
            exact K_ _ _ rfl
          · refine x_iload O 0 dX6_moves_53 rfl ?_
            refine x_iload_n O 4 dX6_moves_55 rfl rfl ?_
            refine x_cS O 2 (c_g_far (nI i7_45) (m_of (μ 1) p 1)) (lw_S q1795 q1796 q111 q1797) hd_X6_far rfl (by rw [RF]; rfl) (by rw [RL]; rfl) ⟨Nat.zero_le _, Nat.zero_le _⟩ rfl rfl dX6_moves_56 ?_
            refine x_top (v' := g_far (nI i7_45) (m_of (μ 1) p 1)) rfl ?_
            refine x_iconst O (nI 1) dX6_moves_59 (by decide) ?_
            have J8 : ∀ (y3 : Int32) (y4 : Int32), y3 = (if (g_far (nI i7_45) (m_of (μ 1) p 1)) ≤ (nI 1) then (if v5_45 < 0 then (if flees = true then g_far (nI i7_45) (m_of (μ 1) (tn (m_nearestTo (μ 1) p true (nI i7_45))) 1) else -(g_far (nI i7_45) (m_of (μ 1) (tn (m_nearestTo (μ 1) p false (m_of (μ 1) p 1))) 1))) else (if v6_45 < ((if flees = true then g_far (nI i7_45) (m_of (μ 1) (tn (m_nearestTo (μ 1) p true (nI i7_45))) 1) else -(g_far (nI i7_45) (m_of (μ 1) (tn (m_nearestTo (μ 1) p false (m_of (μ 1) p 1))) 1)))) then (if flees = true then g_far (nI i7_45) (m_of (μ 1) (tn (m_nearestTo (μ 1) p true (nI i7_45))) 1) else -(g_far (nI i7_45) (m_of (μ 1) (tn (m_nearestTo (μ 1) p false (m_of (μ 1) p 1))) 1))) else v6_45)) else v6_45) → y4 = (if (g_far (nI i7_45) (m_of (μ 1) p 1)) ≤ (nI 1) then (if v5_45 < 0 then nI i7_45 else (if v6_45 < ((if flees = true then g_far (nI i7_45) (m_of (μ 1) (tn (m_nearestTo (μ 1) p true (nI i7_45))) 1) else -(g_far (nI i7_45) (m_of (μ 1) (tn (m_nearestTo (μ 1) p false (m_of (μ 1) p 1))) 1)))) then nI i7_45 else v5_45)) else v5_45) → X G F R Q 9 129 [(6, .int y3), (5, .int y4), (7, .int (nI i7_45)), (4, .int (m_nearestTo (μ 1) p false (m_of (μ 1) p 1))), (3, .int (m_of (μ 1) p 1)), (0, .ref (adr 0)), (1, .int (nI p)), (2, .int (b2i flees))] [] (MS G adr h0 μ) 0 0 := by
              intro y3 y4 e9 e10
              subst e9; subst e10
              refine x_iincN O 2 [(7, .int (nI (i7_45 + 1))), (6, .int ((if (g_far (nI i7_45) (m_of (μ 1) p 1)) ≤ (nI 1) then (if v5_45 < 0 then (if flees = true then g_far (nI i7_45) (m_of (μ 1) (tn (m_nearestTo (μ 1) p true (nI i7_45))) 1) else -(g_far (nI i7_45) (m_of (μ 1) (tn (m_nearestTo (μ 1) p false (m_of (μ 1) p 1))) 1))) else (if v6_45 < ((if flees = true then g_far (nI i7_45) (m_of (μ 1) (tn (m_nearestTo (μ 1) p true (nI i7_45))) 1) else -(g_far (nI i7_45) (m_of (μ 1) (tn (m_nearestTo (μ 1) p false (m_of (μ 1) p 1))) 1)))) then (if flees = true then g_far (nI i7_45) (m_of (μ 1) (tn (m_nearestTo (μ 1) p true (nI i7_45))) 1) else -(g_far (nI i7_45) (m_of (μ 1) (tn (m_nearestTo (μ 1) p false (m_of (μ 1) p 1))) 1))) else v6_45)) else v6_45))), (5, .int ((if (g_far (nI i7_45) (m_of (μ 1) p 1)) ≤ (nI 1) then (if v5_45 < 0 then nI i7_45 else (if v6_45 < ((if flees = true then g_far (nI i7_45) (m_of (μ 1) (tn (m_nearestTo (μ 1) p true (nI i7_45))) 1) else -(g_far (nI i7_45) (m_of (μ 1) (tn (m_nearestTo (μ 1) p false (m_of (μ 1) p 1))) 1)))) then nI i7_45 else v5_45)) else v5_45))), (4, .int (m_nearestTo (μ 1) p false (m_of (μ 1) p 1))), (3, .int (m_of (μ 1) p 1)), (0, .ref (adr 0)), (1, .int (nI p)), (2, .int (b2i flees))] dX6_moves_129 rfl rfl rfl ?_
              refine x_goto O 45 dX6_moves_132 (by decide) ?_
              obtain ⟨c2_, rfl⟩ : ∃ z, cc_ = z + 1 := ⟨cc_ - 1, by omega⟩
              have hs_ : (fun i s => m_moves_b45 (μ 1) p flees i s.1 s.2) i7_45 (v6_45, v5_45) = ((if (g_far (nI i7_45) (m_of (μ 1) p 1)) ≤ (nI 1) then (if v5_45 < 0 then (if flees = true then g_far (nI i7_45) (m_of (μ 1) (tn (m_nearestTo (μ 1) p true (nI i7_45))) 1) else -(g_far (nI i7_45) (m_of (μ 1) (tn (m_nearestTo (μ 1) p false (m_of (μ 1) p 1))) 1))) else (if v6_45 < ((if flees = true then g_far (nI i7_45) (m_of (μ 1) (tn (m_nearestTo (μ 1) p true (nI i7_45))) 1) else -(g_far (nI i7_45) (m_of (μ 1) (tn (m_nearestTo (μ 1) p false (m_of (μ 1) p 1))) 1)))) then (if flees = true then g_far (nI i7_45) (m_of (μ 1) (tn (m_nearestTo (μ 1) p true (nI i7_45))) 1) else -(g_far (nI i7_45) (m_of (μ 1) (tn (m_nearestTo (μ 1) p false (m_of (μ 1) p 1))) 1))) else v6_45)) else v6_45), (if (g_far (nI i7_45) (m_of (μ 1) p 1)) ≤ (nI 1) then (if v5_45 < 0 then nI i7_45 else (if v6_45 < ((if flees = true then g_far (nI i7_45) (m_of (μ 1) (tn (m_nearestTo (μ 1) p true (nI i7_45))) 1) else -(g_far (nI i7_45) (m_of (μ 1) (tn (m_nearestTo (μ 1) p false (m_of (μ 1) p 1))) 1)))) then nI i7_45 else v5_45)) else v5_45)) := by show m_moves_b45 (μ 1) p flees i7_45 v6_45 v5_45 = _; unfold m_moves_b45; rfl
              exact IH_ c2_ (by omega) _ _ _ (by omega) (by omega) (fun y0 y1 hy_ => K_ y0 y1 (hy_.trans (fr_step hs_).symm))
            refine x_icmple O 66 dX6_moves_60 (by decide) (fun c60 => ?_) (fun c60 => ?_)
            · refine x_iload_n O 7 dX6_moves_66 rfl rfl ?_
              have J11 : ∀ (y2 : Int32), y2 = (if flees = true then g_far (nI i7_45) (m_of (μ 1) (tn (m_nearestTo (μ 1) p true (nI i7_45))) 1) else -(g_far (nI i7_45) (m_of (μ 1) (tn (m_nearestTo (μ 1) p false (m_of (μ 1) p 1))) 1))) → X G F R Q 9 104 [(7, .int (nI i7_45)), (6, .int v6_45), (5, .int v5_45), (4, .int (m_nearestTo (μ 1) p false (m_of (μ 1) p 1))), (3, .int (m_of (μ 1) p 1)), (0, .ref (adr 0)), (1, .int (nI p)), (2, .int (b2i flees))] [.int y2] (MS G adr h0 μ) 0 0 := by
                intro y2 e12
                subst e12
                refine x_istore O [(8, .int ((if flees = true then g_far (nI i7_45) (m_of (μ 1) (tn (m_nearestTo (μ 1) p true (nI i7_45))) 1) else -(g_far (nI i7_45) (m_of (μ 1) (tn (m_nearestTo (μ 1) p false (m_of (μ 1) p 1))) 1))))), (7, .int (nI i7_45)), (6, .int v6_45), (5, .int v5_45), (4, .int (m_nearestTo (μ 1) p false (m_of (μ 1) p 1))), (3, .int (m_of (μ 1) p 1)), (0, .ref (adr 0)), (1, .int (nI p)), (2, .int (b2i flees))] dX6_moves_104 rfl rfl ?_
                refine x_iload O 3 dX6_moves_106 rfl ?_
                refine x_iflt O 121 dX6_moves_108 (by decide) (fun c108 => ?_) (fun c108 => ?_)
                · refine x_sub [0, 1, 4, 5, 6, 7, 8] (L' := [(8, .int ((if flees = true then g_far (nI i7_45) (m_of (μ 1) (tn (m_nearestTo (μ 1) p true (nI i7_45))) 1) else -(g_far (nI i7_45) (m_of (μ 1) (tn (m_nearestTo (μ 1) p false (m_of (μ 1) p 1))) 1))))), (7, .int (nI i7_45)), (4, .int (m_nearestTo (μ 1) p false (m_of (μ 1) p 1))), (3, .int (m_of (μ 1) p 1)), (0, .ref (adr 0)), (1, .int (nI p)), (2, .int (b2i flees))]) rfl ?_
                  refine x_iload O 1 dX6_moves_121 rfl ?_
                  refine x_istore O [(5, .int (nI i7_45)), (8, .int ((if flees = true then g_far (nI i7_45) (m_of (μ 1) (tn (m_nearestTo (μ 1) p true (nI i7_45))) 1) else -(g_far (nI i7_45) (m_of (μ 1) (tn (m_nearestTo (μ 1) p false (m_of (μ 1) p 1))) 1))))), (7, .int (nI i7_45)), (4, .int (m_nearestTo (μ 1) p false (m_of (μ 1) p 1))), (3, .int (m_of (μ 1) p 1)), (0, .ref (adr 0)), (1, .int (nI p)), (2, .int (b2i flees))] dX6_moves_123 rfl rfl ?_
                  refine x_iload O 1 dX6_moves_125 rfl ?_
                  refine x_istore O [(6, .int ((if flees = true then g_far (nI i7_45) (m_of (μ 1) (tn (m_nearestTo (μ 1) p true (nI i7_45))) 1) else -(g_far (nI i7_45) (m_of (μ 1) (tn (m_nearestTo (μ 1) p false (m_of (μ 1) p 1))) 1))))), (5, .int (nI i7_45)), (8, .int ((if flees = true then g_far (nI i7_45) (m_of (μ 1) (tn (m_nearestTo (μ 1) p true (nI i7_45))) 1) else -(g_far (nI i7_45) (m_of (μ 1) (tn (m_nearestTo (μ 1) p false (m_of (μ 1) p 1))) 1))))), (7, .int (nI i7_45)), (4, .int (m_nearestTo (μ 1) p false (m_of (μ 1) p 1))), (3, .int (m_of (μ 1) p 1)), (0, .ref (adr 0)), (1, .int (nI p)), (2, .int (b2i flees))] dX6_moves_127 rfl rfl ?_
                  refine x_sub [0, 1, 3, 4, 5, 6, 7, 8] (L' := [(6, .int ((if flees = true then g_far (nI i7_45) (m_of (μ 1) (tn (m_nearestTo (μ 1) p true (nI i7_45))) 1) else -(g_far (nI i7_45) (m_of (μ 1) (tn (m_nearestTo (μ 1) p false (m_of (μ 1) p 1))) 1))))), (5, .int (nI i7_45)), (7, .int (nI i7_45)), (4, .int (m_nearestTo (μ 1) p false (m_of (μ 1) p 1))), (3, .int (m_of (μ 1) p 1)), (0, .ref (adr 0)), (1, .int (nI p)), (2, .int (b2i flees))]) rfl ?_
                  exact J8 ((if flees = true then g_far (nI i7_45) (m_of (μ 1) (tn (m_nearestTo (μ 1) p true (nI i7_45))) 1) else -(g_far (nI i7_45) (m_of (μ 1) (tn (m_nearestTo (μ 1) p false (m_of (μ 1) p 1))) 1)))) (nI i7_45) (by first | (rw [if_pos c60, if_pos c108]; done) | simp only [if_pos c60, if_pos c108]) (by first | (rw [if_pos c60, if_pos c108]; done) | simp only [if_pos c60, if_pos c108])
                · refine x_iload O 0 dX6_moves_111 rfl ?_
                  refine x_iload O 2 dX6_moves_113 rfl ?_
                  refine x_icmpgt O 121 dX6_moves_115 (by decide) (fun c115 => ?_) (fun c115 => ?_)
                  · refine x_sub [0, 1, 4, 5, 6, 7, 8] (L' := [(8, .int ((if flees = true then g_far (nI i7_45) (m_of (μ 1) (tn (m_nearestTo (μ 1) p true (nI i7_45))) 1) else -(g_far (nI i7_45) (m_of (μ 1) (tn (m_nearestTo (μ 1) p false (m_of (μ 1) p 1))) 1))))), (7, .int (nI i7_45)), (4, .int (m_nearestTo (μ 1) p false (m_of (μ 1) p 1))), (3, .int (m_of (μ 1) p 1)), (0, .ref (adr 0)), (1, .int (nI p)), (2, .int (b2i flees))]) rfl ?_
                    refine x_iload O 1 dX6_moves_121 rfl ?_
                    refine x_istore O [(5, .int (nI i7_45)), (8, .int ((if flees = true then g_far (nI i7_45) (m_of (μ 1) (tn (m_nearestTo (μ 1) p true (nI i7_45))) 1) else -(g_far (nI i7_45) (m_of (μ 1) (tn (m_nearestTo (μ 1) p false (m_of (μ 1) p 1))) 1))))), (7, .int (nI i7_45)), (4, .int (m_nearestTo (μ 1) p false (m_of (μ 1) p 1))), (3, .int (m_of (μ 1) p 1)), (0, .ref (adr 0)), (1, .int (nI p)), (2, .int (b2i flees))] dX6_moves_123 rfl rfl ?_
                    refine x_iload O 1 dX6_moves_125 rfl ?_
                    refine x_istore O [(6, .int ((if flees = true then g_far (nI i7_45) (m_of (μ 1) (tn (m_nearestTo (μ 1) p true (nI i7_45))) 1) else -(g_far (nI i7_45) (m_of (μ 1) (tn (m_nearestTo (μ 1) p false (m_of (μ 1) p 1))) 1))))), (5, .int (nI i7_45)), (8, .int ((if flees = true then g_far (nI i7_45) (m_of (μ 1) (tn (m_nearestTo (μ 1) p true (nI i7_45))) 1) else -(g_far (nI i7_45) (m_of (μ 1) (tn (m_nearestTo (μ 1) p false (m_of (μ 1) p 1))) 1))))), (7, .int (nI i7_45)), (4, .int (m_nearestTo (μ 1) p false (m_of (μ 1) p 1))), (3, .int (m_of (μ 1) p 1)), (0, .ref (adr 0)), (1, .int (nI p)), (2, .int (b2i flees))] dX6_moves_127 rfl rfl ?_
                    refine x_sub [0, 1, 3, 4, 5, 6, 7, 8] (L' := [(6, .int ((if flees = true then g_far (nI i7_45) (m_of (μ 1) (tn (m_nearestTo (μ 1) p true (nI i7_45))) 1) else -(g_far (nI i7_45) (m_of (μ 1) (tn (m_nearestTo (μ 1) p false (m_of (μ 1) p 1))) 1))))), (5, .int (nI i7_45)), (7, .int (nI i7_45)), (4, .int (m_nearestTo (μ 1) p false (m_of (μ 1) p 1))), (3, .int (m_of (μ 1) p 1)), (0, .ref (adr 0)), (1, .int (nI p)), (2, .int (b2i flees))]) rfl ?_
                    exact J8 ((if flees = true then g_far (nI i7_45) (m_of (μ 1) (tn (m_nearestTo (μ 1) p true (nI i7_45))) 1) else -(g_far (nI i7_45) (m_of (μ 1) (tn (m_nearestTo (μ 1) p false (m_of (μ 1) p 1))) 1)))) (nI i7_45) (by first | (rw [if_pos c60, if_neg c108, if_pos c115]; done) | simp only [if_pos c60, if_neg c108, if_pos c115]) (by first | (rw [if_pos c60, if_neg c108, if_pos c115]; done) | simp only [if_pos c60, if_neg c108, if_pos c115])
                  · refine x_sub [1, 2, 3, 4, 5, 6, 7, 8] (L' := [(7, .int (nI i7_45)), (6, .int v6_45), (5, .int v5_45), (4, .int (m_nearestTo (μ 1) p false (m_of (μ 1) p 1))), (3, .int (m_of (μ 1) p 1)), (0, .ref (adr 0)), (1, .int (nI p)), (2, .int (b2i flees))]) rfl ?_
                    refine x_goto O 129 dX6_moves_118 (by decide) ?_
                    refine x_sub [1, 2, 0, 3, 4, 5, 6, 7] rfl ?_
                    exact J8 v6_45 v5_45 (by first | (rw [if_pos c60, if_neg c108, if_neg c115]; done) | simp only [if_pos c60, if_neg c108, if_neg c115]) (by first | (rw [if_pos c60, if_neg c108, if_neg c115]; done) | simp only [if_pos c60, if_neg c108, if_neg c115])
              refine x_ifeqB O 91 dX6_moves_67 (by decide) (fun c67 => ?_) (fun c67 => ?_)
              · refine x_iload O 0 dX6_moves_91 rfl ?_
                refine x_aload_n O 5 dX6_moves_93 rfl rfl ?_
                refine x_iload O 3 dX6_moves_94 rfl ?_
                refine x_top (v' := nI (tn (m_nearestTo (μ 1) p false (m_of (μ 1) p 1)))) ((gO_nn' (near_gO hI) (mv_2 c32 c67)).1) ?_
                refine x_iconst O (nI 1) dX6_moves_96 (by decide) ?_
                refine x_cV O 2 (c_m_of (μ := μ) (tn (m_nearestTo (μ 1) p false (m_of (μ 1) p 1))) 1 (by have := (gO_nn' (near_gO hI) (mv_2 c32 c67)).2; omega) (by omega)) MS.obj uc6 (lw_V q1968 q1970 qs60 q111 q1971) rfl hd_X6_of rfl (by rw [RF]; rfl) (by rw [RL]; rfl) ⟨Nat.zero_le _, Nat.zero_le _⟩ rfl rfl dX6_moves_97 ?_
                refine x_top (v' := m_of (μ 1) (tn (m_nearestTo (μ 1) p false (m_of (μ 1) p 1))) 1) rfl ?_
                refine x_cS O 2 (c_g_far (nI i7_45) (m_of (μ 1) (tn (m_nearestTo (μ 1) p false (m_of (μ 1) p 1))) 1)) (lw_S q1795 q1796 q111 q1797) hd_X6_far rfl (by rw [RF]; rfl) (by rw [RL]; rfl) ⟨Nat.zero_le _, Nat.zero_le _⟩ rfl rfl dX6_moves_100 ?_
                refine x_top (v' := g_far (nI i7_45) (m_of (μ 1) (tn (m_nearestTo (μ 1) p false (m_of (μ 1) p 1))) 1)) rfl ?_
                refine x_ineg O dX6_moves_103 ?_
                exact J11 (-(g_far (nI i7_45) (m_of (μ 1) (tn (m_nearestTo (μ 1) p false (m_of (μ 1) p 1))) 1))) (by rw [if_neg c67])
              · refine x_iload O 0 dX6_moves_70 rfl ?_
                refine x_aload_n O 5 dX6_moves_72 rfl rfl ?_
                refine x_aload_n O 5 dX6_moves_73 rfl rfl ?_
                refine x_iload_n O 6 dX6_moves_74 rfl rfl ?_
                refine x_iconst O (nI 1) dX6_moves_75 (by decide) ?_
                refine x_iload O 0 dX6_moves_76 rfl ?_
                refine x_eqS (st' := [.int (nI i7_45), .int (b2i true), .int (nI p), .ref (adr 0), .ref (adr 0), .int (nI i7_45)]) (by rw [show b2i true = nI 1 by decide] <;> rfl) ?_
                refine x_cV O 3 (c_m_nearestTo (μ := μ) hI p true (nI i7_45) (by omega)) MS.obj uc6 (lw_V q2012 q2014 qs68 q111 q2015) rfl hd_X6_nearestTo rfl (by rw [RF]; rfl) (by rw [RL]; rfl) ⟨Nat.zero_le _, Nat.zero_le _⟩ rfl rfl dX6_moves_78 ?_
                refine x_top (v' := m_nearestTo (μ 1) p true (nI i7_45)) rfl ?_
                refine x_top (v' := nI (tn (m_nearestTo (μ 1) p true (nI i7_45)))) ((gO_nn' (near_gO hI) (mv_1 hI c32 c67)).1) ?_
                refine x_iconst O (nI 1) dX6_moves_81 (by decide) ?_
                refine x_cV O 2 (c_m_of (μ := μ) (tn (m_nearestTo (μ 1) p true (nI i7_45))) 1 (by have := (gO_nn' (near_gO (p := p) (foes := true) (cell := nI i7_45) hI) (mv_1 hI c32 c67)).2; omega) (by omega)) MS.obj uc6 (lw_V q1968 q1970 qs60 q111 q1971) rfl hd_X6_of rfl (by rw [RF]; rfl) (by rw [RL]; rfl) ⟨Nat.zero_le _, Nat.zero_le _⟩ rfl rfl dX6_moves_82 ?_
                refine x_top (v' := m_of (μ 1) (tn (m_nearestTo (μ 1) p true (nI i7_45))) 1) rfl ?_
                refine x_cS O 2 (c_g_far (nI i7_45) (m_of (μ 1) (tn (m_nearestTo (μ 1) p true (nI i7_45))) 1)) (lw_S q1795 q1796 q111 q1797) hd_X6_far rfl (by rw [RF]; rfl) (by rw [RL]; rfl) ⟨Nat.zero_le _, Nat.zero_le _⟩ rfl rfl dX6_moves_85 ?_
                refine x_top (v' := g_far (nI i7_45) (m_of (μ 1) (tn (m_nearestTo (μ 1) p true (nI i7_45))) 1)) rfl ?_
                refine x_goto O 104 dX6_moves_88 (by decide) ?_
                exact J11 (g_far (nI i7_45) (m_of (μ 1) (tn (m_nearestTo (μ 1) p true (nI i7_45))) 1)) (by rw [if_pos c67])
            · refine x_goto O 129 dX6_moves_63 (by decide) ?_
              refine x_sub [1, 2, 0, 3, 4, 5, 6, 7] rfl ?_
              exact J8 v6_45 v5_45 (by rw [if_neg c60]) (by rw [if_neg c60])
      refine LOOP45 256 0 (nI 0) ((-1)) rfl (by omega) (fun y0 y1 hy_45 => ?_)
      obtain rfl : y0 = (fr (fun i s => m_moves_b45 (μ 1) p flees i s.1 s.2) 256 0 (nI 0, (-1))).1 := congrArg (fun z => z.1) hy_45
      obtain rfl : y1 = (fr (fun i s => m_moves_b45 (μ 1) p flees i s.1 s.2) 256 0 (nI 0, (-1))).2 := congrArg (fun z => z.2) hy_45
      refine x_aload_n O 1 dX6_moves_135 rfl rfl ?_
      refine x_iload_n O 2 dX6_moves_136 rfl rfl ?_
      refine x_iconst O (nI 1) dX6_moves_137 (by decide) ?_
      refine x_iload O 0 dX6_moves_138 rfl ?_
      refine x_cV O 3 (c_m_sets (μ := μ) p 1 ((fr (fun i s => m_moves_b45 (μ 1) p flees i s.1 s.2) 256 0 (nI 0, (-1))).2) (by omega) (by omega)) MS.obj uc6 (lw_V q1972 q1974 qs61 q111 q1975) rfl hd_X6_sets rfl (by rw [RF]; rfl) (by rw [RL]; rfl) ⟨Nat.zero_le _, Nat.zero_le _⟩ rfl rfl dX6_moves_140 ?_
      refine x_weak (Ω' := MS G adr h0 (mc μ 1 (ups (μ 1) (301 + 6 * p + 1) ((fr (fun i s => m_moves_b45 (μ 1) p flees i s.1 s.2) 256 0 (nI 0, (-1))).2)))) (fun _ m => m.eq (w_new (f := μ 1) (by rfl))) ?_
      exact x_vretQ O hQ rfl dX6_moves_143 (fun h m => ⟨rfl, by rw [hr7]; exact m.eq rfl⟩)
    · have hr13 := hrs0.trans (if_neg c32)
      refine x_sub [2] (L' := [(0, .ref (adr 0))]) rfl ?_
      exact x_vretQ O hQ rfl dX6_moves_35 (fun h m => ⟨rfl, by rw [hr13]; exact m.eq (mc_id (c := 1) (f := μ 1) (by rfl)).symm⟩)
  refine x_ifeqB O 30 dX6_moves_17 (by decide) (fun c17 => ?_) (fun c17 => ?_)
  · refine x_iload O 0 dX6_moves_30 rfl ?_
    exact J5 (m_nearestTo (μ 1) p false (m_of (μ 1) p 1)) (by rw [if_neg c17])
  · refine x_aload_n O 2 dX6_moves_20 rfl rfl ?_
    refine x_iload_n O 3 dX6_moves_21 rfl rfl ?_
    refine x_iconst O (nI 1) dX6_moves_22 (by decide) ?_
    refine x_iload_n O 1 dX6_moves_23 rfl rfl ?_
    refine x_eqS (st' := [.int (m_of (μ 1) p 1), .int (b2i true), .int (nI p), .ref (adr 0)]) (by rw [show b2i true = nI 1 by decide] <;> rfl) ?_
    refine x_cV O 3 (c_m_nearestTo (μ := μ) hI p true (m_of (μ 1) p 1) (by omega)) MS.obj uc6 (lw_V q2012 q2014 qs68 q111 q2015) rfl hd_X6_nearestTo rfl (by rw [RF]; rfl) (by rw [RL]; rfl) ⟨Nat.zero_le _, Nat.zero_le _⟩ rfl rfl dX6_moves_24 ?_
    refine x_top (v' := m_nearestTo (μ 1) p true (m_of (μ 1) p 1)) rfl ?_
    refine x_goto O 32 dX6_moves_27 (by decide) ?_
    exact J5 (m_nearestTo (μ 1) p true (m_of (μ 1) p 1)) (by rw [if_pos c17])

def m_holdsLine_b20 (W : Nat → Int32) (C5 : Nat → Int32) (C6 : Nat → Int32) (F15 : Int32) (F16 : Int32) (F17 : Int32) (t : Nat) (i5_20 : Nat) (v3_20 : Nat) (a6_20 : (Nat → Int32)) : Nat × (Nat → Int32) :=
  ((if 10 < tn (W (m_textAt t + 31 + 2 * i5_20)) then (if tn (W (m_textAt t + 31 + 2 * i5_20)) = 15 then v3_20 else v3_20 - 1) else v3_20 + 1), (if 10 < tn (W (m_textAt t + 31 + 2 * i5_20)) then (if tn (W (m_textAt t + 31 + 2 * i5_20)) = 15 then ups a6_20 (v3_20 - 1) ((nI 1) - (a6_20 (v3_20 - 1))) else ups a6_20 (v3_20 - 1 - 1) ((if tn (W (m_textAt t + 31 + 2 * i5_20)) = 12 then (a6_20 (v3_20 - 1 - 1)) + (a6_20 (v3_20 - 1)) else (if tn (W (m_textAt t + 31 + 2 * i5_20)) = 11 then (a6_20 (v3_20 - 1 - 1)) * (a6_20 (v3_20 - 1)) else (if (if tn (W (m_textAt t + 31 + 2 * i5_20)) = 13 then (if (a6_20 (v3_20 - 1)) ≤ (a6_20 (v3_20 - 1 - 1)) then false else true) else (if tn (W (m_textAt t + 31 + 2 * i5_20)) = 14 then (if (a6_20 (v3_20 - 1 - 1)) ≤ (a6_20 (v3_20 - 1)) then false else true) else (if tn (W (m_textAt t + 31 + 2 * i5_20)) = 16 then (if ((a6_20 (v3_20 - 1 - 1)) + (a6_20 (v3_20 - 1))) = (nI 2) then true else false) else (if ((a6_20 (v3_20 - 1 - 1)) + (a6_20 (v3_20 - 1))) ≤ 0 then false else true)))) = true then nI 1 else nI 0))))) else ups a6_20 v3_20 ((if tn (W (m_textAt t + 31 + 2 * i5_20)) = 10 then W (m_textAt t + 31 + 2 * i5_20 + 1) else (if 7 ≤ tn (W (m_textAt t + 31 + 2 * i5_20)) then (if ((if tn (W (m_textAt t + 31 + 2 * i5_20)) = 7 then F15 else (if tn (W (m_textAt t + 31 + 2 * i5_20)) = 8 then F16 else (if F17 < (W (m_textAt t + 31 + 2 * i5_20 + 1)) then nI 0 else nI 1)))) = 0 then nI 0 else nI 1) else C5 (tn (W (m_textAt t + 31 + 2 * i5_20))))))))
def m_holdsLine (W : Nat → Int32) (C5 : Nat → Int32) (C6 : Nat → Int32) (F15 : Int32) (F16 : Int32) (F17 : Int32) (t : Nat) (n : Nat) : Bool :=
  (if (nI ((fr (fun i s => m_holdsLine_b20 W C5 C6 F15 F16 F17 t i s.1 s.2) (tn (W (m_lineAt t n + 2)) - (tn (W (m_lineAt t n + 1)))) (tn (W (m_lineAt t n + 1))) (0, C6)).1)) = 0 then true else (if (((fr (fun i s => m_holdsLine_b20 W C5 C6 F15 F16 F17 t i s.1 s.2) (tn (W (m_lineAt t n + 2)) - (tn (W (m_lineAt t n + 1)))) (tn (W (m_lineAt t n + 1))) (0, C6)).2) 0) = (nI 1) then true else false))
def m_holdsLine_c6 (W : Nat → Int32) (C5 : Nat → Int32) (C6 : Nat → Int32) (F15 : Int32) (F16 : Int32) (F17 : Int32) (t : Nat) (n : Nat) : Nat → Int32 :=
  (fr (fun i s => m_holdsLine_b20 W C5 C6 F15 F16 F17 t i s.1 s.2) (tn (W (m_lineAt t n + 2)) - (tn (W (m_lineAt t n + 1)))) (tn (W (m_lineAt t n + 1))) (0, C6)).2
set_option maxHeartbeats 1000000 in
set_option maxRecDepth 100000 in
theorem c_m_holdsLine {G : UG} {adr : Nat → Nat} {h0 : Hp} {μ : Mu}  (t : Nat) (n : Nat) (hL : LW (μ 1) t n) (ht : t < 9) (hn : n < 10) : Con G yX6_holdsLine cX6_holdsLine 11 (some .boolean) 2 41 0 0 [.ref (adr 0), .int (nI t), .int (nI n)] (MS G adr h0 μ) (fun vr_ h' => vr_ = some (.int (b2i (m_holdsLine (μ 1) (μ 5) (μ 6) (μ 0 15) (μ 0 16) (μ 0 17) t n))) ∧ MS G adr h0 (mc μ 6 (m_holdsLine_c6 (μ 1) (μ 5) (μ 6) (μ 0 15) (μ 0 16) (μ 0 17) t n)) h') nX := by
  refine con_of2 (plainFor_of_name (by decide)) rfl ?_
  intro F R Q RF RL RC RS hQ O hnh hnm
  obtain ⟨res, hres⟩ : ∃ z, z = (m_holdsLine (μ 1) (μ 5) (μ 6) (μ 0 15) (μ 0 16) (μ 0 17) t n) := ⟨_, rfl⟩
  rw [← hres] at hQ
  unfold m_holdsLine at hres
  obtain ⟨rs0, hrs0⟩ : ∃ z, z = m_holdsLine_c6 (μ 1) (μ 5) (μ 6) (μ 0 15) (μ 0 16) (μ 0 17) t n := ⟨_, rfl⟩
  rw [← hrs0] at hQ
  unfold m_holdsLine_c6 at hrs0
  obtain ⟨hb0, he0, D, hD0, hD⟩ := hL
  have hla : m_lineAt t n + 40 < 9476 := by unfold m_lineAt m_textAt; omega
  have hta : m_textAt t = 1166 + 831 * t := rfl
  have hb0b := hb0.2
  have he0b := he0.2
  refine x_eq (L' := [(0, .ref (adr 0)), (1, .int (nI t)), (2, .int (nI n))]) ?_ rfl rfl rfl
  refine x_iconst O (nI 0) dX6_holdsLine_0 (by decide) ?_
  refine x_istore_n O [(3, .int (nI 0)), (0, .ref (adr 0)), (1, .int (nI t)), (2, .int (nI n))] dX6_holdsLine_1 rfl rfl rfl ?_
  refine x_iload_n O 2 dX6_holdsLine_2 rfl rfl ?_
  refine x_iload_n O 3 dX6_holdsLine_3 rfl rfl ?_
  refine x_cS O 2 (c_m_lineAt t n) (lw_S q1842 q1843 q111 q1844) hd_X6_lineAt rfl (by rw [RF]; rfl) (by rw [RL]; rfl) ⟨Nat.zero_le _, Nat.zero_le _⟩ rfl rfl dX6_holdsLine_4 ?_
  refine x_top (v' := nI (m_lineAt t n)) rfl ?_
  refine x_istore O [(4, .int (nI (m_lineAt t n))), (3, .int (nI 0)), (0, .ref (adr 0)), (1, .int (nI t)), (2, .int (nI n))] dX6_holdsLine_7 rfl rfl ?_
  refine x_sub [0, 1, 2, 3] (L' := [(4, .int (nI (m_lineAt t n))), (3, .int (nI 0)), (0, .ref (adr 0)), (1, .int (nI t))]) rfl ?_
  refine x_aload_n O 2 dX6_holdsLine_9 rfl rfl ?_
  refine x_mget O k_X6_13_6 (mg_1 _ _) dX6_holdsLine_10 ?_
  refine x_iload O 0 dX6_holdsLine_13 rfl ?_
  refine x_iconst O (nI 1) dX6_holdsLine_15 (by decide) ?_
  refine x_iaddN O dX6_holdsLine_16 ?_
  refine x_ialdN O MS.c1 (by omega) rfl dX6_holdsLine_17 ?_
  refine x_top (v' := μ 1 (m_lineAt t n + 1)) rfl ?_
  refine x_top (v' := nI (tn (μ 1 (m_lineAt t n + 1)))) (hb0.1) ?_
  refine x_istore O [(5, .int (nI (tn (μ 1 (m_lineAt t n + 1))))), (4, .int (nI (m_lineAt t n))), (3, .int (nI 0)), (0, .ref (adr 0)), (1, .int (nI t))] dX6_holdsLine_18 rfl rfl ?_
  have LOOP20 : ∀ (cc_ : Nat) (i5_20 : Nat) (v3_20 : Nat) (a6_20 : (Nat → Int32)), cc_ = tn (μ 1 (m_lineAt t n + 2)) - i5_20 → i5_20 < 2147483648 → (v3_20 = D i5_20) → (tn (μ 1 (m_lineAt t n + 1)) ≤ i5_20) → (∀ (y0 : Nat) (y1 : (Nat → Int32)), (y0, y1) = fr (fun i s => m_holdsLine_b20 (μ 1) (μ 5) (μ 6) (μ 0 15) (μ 0 16) (μ 0 17) t i s.1 s.2) cc_ i5_20 (v3_20, a6_20) → X G F R Q 11 362 [(3, .int (nI y0)), (0, .ref (adr 0))] [] (MS G adr h0 ((mc μ 6 y1))) 0 0) → X G F R Q 11 20 [(5, .int (nI i5_20)), (4, .int (nI (m_lineAt t n))), (3, .int (nI v3_20)), (0, .ref (adr 0)), (1, .int (nI t))] [] (MS G adr h0 ((mc μ 6 a6_20))) 0 0 := by
    intro cc_
    induction cc_ using Nat.strongRecOn with
    | ind cc_ IH_ =>
      intro i5_20 v3_20 a6_20 hc_ hb_ ht_ hbi_ K_
      refine x_iload O 0 dX6_holdsLine_20 rfl ?_
      refine x_aload_n O 3 dX6_holdsLine_22 rfl rfl ?_
      refine x_mget O k_X6_13_6 (mg_1 _ _) dX6_holdsLine_23 ?_
      refine x_iload O 1 dX6_holdsLine_26 rfl ?_
      refine x_iconst O (nI 2) dX6_holdsLine_28 (by decide) ?_
      refine x_iaddN O dX6_holdsLine_29 ?_
      refine x_ialdN O MS.c1 (by omega) rfl dX6_holdsLine_30 ?_
      refine x_top (v' := μ 1 (m_lineAt t n + 2)) (congrFun (mc_n (by decide)) (m_lineAt t n + 2)) ?_
      refine x_top (v' := nI (tn (μ 1 (m_lineAt t n + 2)))) (he0.1) ?_
      refine x_icmpgeN O 362 (by omega) (by omega) dX6_holdsLine_31 (by decide) (fun c31 => ?_) (fun c31 => ?_)
      · refine x_sub [2, 3] (L' := [(3, .int (nI v3_20)), (0, .ref (adr 0))]) rfl ?_
        obtain rfl : cc_ = 0 := by omega
        exact K_ _ _ rfl
      · obtain ⟨hs1, hs2, hs3, hs4, hs5⟩ := hD i5_20 hbi_ (by omega)
        refine x_aload_n O 3 dX6_holdsLine_34 rfl rfl ?_
        refine x_mget O k_X6_13_6 (mg_1 _ _) dX6_holdsLine_35 ?_
        refine x_iload_n O 4 dX6_holdsLine_38 rfl rfl ?_
        refine x_cS O 1 (c_m_textAt t) (lw_S q1845 q1846 q111 q1847) hd_X6_textAt rfl (by rw [RF]; rfl) (by rw [RL]; rfl) ⟨Nat.zero_le _, Nat.zero_le _⟩ rfl rfl dX6_holdsLine_39 ?_
        refine x_top (v' := nI (m_textAt t)) rfl ?_
        refine x_bipush O (nI 31) dX6_holdsLine_42 (by decide) ?_
        refine x_iaddN O dX6_holdsLine_44 ?_
        refine x_iconst O (nI 2) dX6_holdsLine_45 (by decide) ?_
        refine x_iload O 0 dX6_holdsLine_46 rfl ?_
        refine x_imulN O dX6_holdsLine_48 ?_
        refine x_iaddN O dX6_holdsLine_49 ?_
        refine x_ialdN O MS.c1 (by omega) rfl dX6_holdsLine_50 ?_
        refine x_top (v' := μ 1 (m_textAt t + 31 + 2 * i5_20)) (congrFun (mc_n (by decide)) (m_textAt t + 31 + 2 * i5_20)) ?_
        refine x_top (v' := nI (tn (μ 1 (m_textAt t + 31 + 2 * i5_20)))) (hs1.1) ?_
        refine x_istore O [(6, .int (nI (tn (μ 1 (m_textAt t + 31 + 2 * i5_20))))), (5, .int (nI i5_20)), (4, .int (nI (m_lineAt t n))), (3, .int (nI v3_20)), (0, .ref (adr 0)), (1, .int (nI t))] dX6_holdsLine_51 rfl rfl ?_
        have hs1b := hs1.2
        refine x_aload_n O 4 dX6_holdsLine_53 rfl rfl ?_
        refine x_mget O k_X6_13_6 (mg_1 _ _) dX6_holdsLine_54 ?_
        refine x_iload_n O 5 dX6_holdsLine_57 rfl rfl ?_
        refine x_cS O 1 (c_m_textAt t) (lw_S q1845 q1846 q111 q1847) hd_X6_textAt rfl (by rw [RF]; rfl) (by rw [RL]; rfl) ⟨Nat.zero_le _, Nat.zero_le _⟩ rfl rfl dX6_holdsLine_58 ?_
        refine x_top (v' := nI (m_textAt t)) rfl ?_
        refine x_bipush O (nI 31) dX6_holdsLine_61 (by decide) ?_
        refine x_iaddN O dX6_holdsLine_63 ?_
        refine x_iconst O (nI 2) dX6_holdsLine_64 (by decide) ?_
        refine x_iload O 1 dX6_holdsLine_65 rfl ?_
        refine x_imulN O dX6_holdsLine_67 ?_
        refine x_iaddN O dX6_holdsLine_68 ?_
        refine x_iconst O (nI 1) dX6_holdsLine_69 (by decide) ?_
        refine x_iaddN O dX6_holdsLine_70 ?_
        refine x_ialdN O MS.c1 (by omega) rfl dX6_holdsLine_71 ?_
        refine x_top (v' := μ 1 (m_textAt t + 31 + 2 * i5_20 + 1)) (congrFun (mc_n (by decide)) (m_textAt t + 31 + 2 * i5_20 + 1)) ?_
        refine x_istore O [(7, .int (μ 1 (m_textAt t + 31 + 2 * i5_20 + 1))), (6, .int (nI (tn (μ 1 (m_textAt t + 31 + 2 * i5_20))))), (5, .int (nI i5_20)), (4, .int (nI (m_lineAt t n))), (3, .int (nI v3_20)), (0, .ref (adr 0)), (1, .int (nI t))] dX6_holdsLine_72 rfl rfl ?_
        refine x_iload O 1 dX6_holdsLine_74 rfl ?_
        refine x_bipush O (nI 10) dX6_holdsLine_76 (by decide) ?_
        have J8 : ∀ (y5 : Nat) (y6 : Nat → Int32), y5 = (if 10 < tn (μ 1 (m_textAt t + 31 + 2 * i5_20)) then (if tn (μ 1 (m_textAt t + 31 + 2 * i5_20)) = 15 then v3_20 else v3_20 - 1) else v3_20 + 1) → y6 = (if 10 < tn (μ 1 (m_textAt t + 31 + 2 * i5_20)) then (if tn (μ 1 (m_textAt t + 31 + 2 * i5_20)) = 15 then ups a6_20 (v3_20 - 1) ((nI 1) - (a6_20 (v3_20 - 1))) else ups a6_20 (v3_20 - 1 - 1) ((if tn (μ 1 (m_textAt t + 31 + 2 * i5_20)) = 12 then (a6_20 (v3_20 - 1 - 1)) + (a6_20 (v3_20 - 1)) else (if tn (μ 1 (m_textAt t + 31 + 2 * i5_20)) = 11 then (a6_20 (v3_20 - 1 - 1)) * (a6_20 (v3_20 - 1)) else (if (if tn (μ 1 (m_textAt t + 31 + 2 * i5_20)) = 13 then (if (a6_20 (v3_20 - 1)) ≤ (a6_20 (v3_20 - 1 - 1)) then false else true) else (if tn (μ 1 (m_textAt t + 31 + 2 * i5_20)) = 14 then (if (a6_20 (v3_20 - 1 - 1)) ≤ (a6_20 (v3_20 - 1)) then false else true) else (if tn (μ 1 (m_textAt t + 31 + 2 * i5_20)) = 16 then (if ((a6_20 (v3_20 - 1 - 1)) + (a6_20 (v3_20 - 1))) = (nI 2) then true else false) else (if ((a6_20 (v3_20 - 1 - 1)) + (a6_20 (v3_20 - 1))) ≤ 0 then false else true)))) = true then nI 1 else nI 0))))) else ups a6_20 v3_20 ((if tn (μ 1 (m_textAt t + 31 + 2 * i5_20)) = 10 then μ 1 (m_textAt t + 31 + 2 * i5_20 + 1) else (if 7 ≤ tn (μ 1 (m_textAt t + 31 + 2 * i5_20)) then (if ((if tn (μ 1 (m_textAt t + 31 + 2 * i5_20)) = 7 then μ 0 15 else (if tn (μ 1 (m_textAt t + 31 + 2 * i5_20)) = 8 then μ 0 16 else (if (μ 0 17) < (μ 1 (m_textAt t + 31 + 2 * i5_20 + 1)) then nI 0 else nI 1)))) = 0 then nI 0 else nI 1) else μ 5 (tn (μ 1 (m_textAt t + 31 + 2 * i5_20))))))) → X G F R Q 11 356 [(3, .int (nI y5)), (5, .int (nI i5_20)), (4, .int (nI (m_lineAt t n))), (0, .ref (adr 0)), (1, .int (nI t))] [] (MS G adr h0 ((mc μ 6 y6))) 0 0 := by
          intro y5 y6 e9 e10
          subst e9; subst e10
          refine x_iincN O 1 [(5, .int (nI (i5_20 + 1))), (3, .int (nI ((if 10 < tn (μ 1 (m_textAt t + 31 + 2 * i5_20)) then (if tn (μ 1 (m_textAt t + 31 + 2 * i5_20)) = 15 then v3_20 else v3_20 - 1) else v3_20 + 1)))), (4, .int (nI (m_lineAt t n))), (0, .ref (adr 0)), (1, .int (nI t))] dX6_holdsLine_356 rfl rfl rfl ?_
          refine x_goto O 20 dX6_holdsLine_359 (by decide) ?_
          obtain ⟨c2_, rfl⟩ : ∃ z, cc_ = z + 1 := ⟨cc_ - 1, by omega⟩
          refine x_sub [0, 2, 1, 3, 4] rfl ?_
          have hs_ : (fun i s => m_holdsLine_b20 (μ 1) (μ 5) (μ 6) (μ 0 15) (μ 0 16) (μ 0 17) t i s.1 s.2) i5_20 (v3_20, a6_20) = ((if 10 < tn (μ 1 (m_textAt t + 31 + 2 * i5_20)) then (if tn (μ 1 (m_textAt t + 31 + 2 * i5_20)) = 15 then v3_20 else v3_20 - 1) else v3_20 + 1), (if 10 < tn (μ 1 (m_textAt t + 31 + 2 * i5_20)) then (if tn (μ 1 (m_textAt t + 31 + 2 * i5_20)) = 15 then ups a6_20 (v3_20 - 1) ((nI 1) - (a6_20 (v3_20 - 1))) else ups a6_20 (v3_20 - 1 - 1) ((if tn (μ 1 (m_textAt t + 31 + 2 * i5_20)) = 12 then (a6_20 (v3_20 - 1 - 1)) + (a6_20 (v3_20 - 1)) else (if tn (μ 1 (m_textAt t + 31 + 2 * i5_20)) = 11 then (a6_20 (v3_20 - 1 - 1)) * (a6_20 (v3_20 - 1)) else (if (if tn (μ 1 (m_textAt t + 31 + 2 * i5_20)) = 13 then (if (a6_20 (v3_20 - 1)) ≤ (a6_20 (v3_20 - 1 - 1)) then false else true) else (if tn (μ 1 (m_textAt t + 31 + 2 * i5_20)) = 14 then (if (a6_20 (v3_20 - 1 - 1)) ≤ (a6_20 (v3_20 - 1)) then false else true) else (if tn (μ 1 (m_textAt t + 31 + 2 * i5_20)) = 16 then (if ((a6_20 (v3_20 - 1 - 1)) + (a6_20 (v3_20 - 1))) = (nI 2) then true else false) else (if ((a6_20 (v3_20 - 1 - 1)) + (a6_20 (v3_20 - 1))) ≤ 0 then false else true)))) = true then nI 1 else nI 0))))) else ups a6_20 v3_20 ((if tn (μ 1 (m_textAt t + 31 + 2 * i5_20)) = 10 then μ 1 (m_textAt t + 31 + 2 * i5_20 + 1) else (if 7 ≤ tn (μ 1 (m_textAt t + 31 + 2 * i5_20)) then (if ((if tn (μ 1 (m_textAt t + 31 + 2 * i5_20)) = 7 then μ 0 15 else (if tn (μ 1 (m_textAt t + 31 + 2 * i5_20)) = 8 then μ 0 16 else (if (μ 0 17) < (μ 1 (m_textAt t + 31 + 2 * i5_20 + 1)) then nI 0 else nI 1)))) = 0 then nI 0 else nI 1) else μ 5 (tn (μ 1 (m_textAt t + 31 + 2 * i5_20)))))))) := by show m_holdsLine_b20 (μ 1) (μ 5) (μ 6) (μ 0 15) (μ 0 16) (μ 0 17) t i5_20 v3_20 a6_20 = _; unfold m_holdsLine_b20; rfl
          exact IH_ c2_ (by omega) _ _ _ (by omega) (by omega) (by (repeat' split) <;> first | (have := hs2 (by omega); omega) | (have := hs3 (by omega); omega) | (have := hs4 (by omega) (by omega); omega)) (by omega) (fun y0 y1 hy_ => K_ y0 y1 (hy_.trans (fr_step hs_).symm))
        refine x_icmpgtN O 176 (by omega) (by omega) dX6_holdsLine_78 (by decide) (fun c78 => ?_) (fun c78 => ?_)
        · refine x_sub [1, 2, 3, 4, 5, 6] (L' := [(6, .int (nI (tn (μ 1 (m_textAt t + 31 + 2 * i5_20))))), (5, .int (nI i5_20)), (4, .int (nI (m_lineAt t n))), (3, .int (nI v3_20)), (0, .ref (adr 0)), (1, .int (nI t))]) rfl ?_
          refine x_iload O 0 dX6_holdsLine_176 rfl ?_
          refine x_bipush O (nI 15) dX6_holdsLine_178 (by decide) ?_
          refine x_icmpneN O 204 (by omega) (by omega) dX6_holdsLine_180 (by decide) (fun c180 => ?_) (fun c180 => ?_)
          · refine x_iinc O 3 (nI (v3_20 - 1)) [(3, .int (nI (v3_20 - 1))), (6, .int (nI (tn (μ 1 (m_textAt t + 31 + 2 * i5_20))))), (5, .int (nI i5_20)), (4, .int (nI (m_lineAt t n))), (0, .ref (adr 0)), (1, .int (nI t))] dX6_holdsLine_204 rfl (decI (by have := hs4 c78 c180; omega)) rfl rfl ?_
            refine x_aload_n O 4 dX6_holdsLine_207 rfl rfl ?_
            refine x_mget O k_X6_33_6 (mg_18 _ _) dX6_holdsLine_208 ?_
            refine x_iload_n O 0 dX6_holdsLine_211 rfl rfl ?_
            refine x_iconst O (nI 1) dX6_holdsLine_212 (by decide) ?_
            refine x_isubN O (by have := hs4 c78 c180; omega) dX6_holdsLine_213 ?_
            refine x_ialdN O MS.c6 (by have := hs4 c78 c180; omega) rfl dX6_holdsLine_214 ?_
            refine x_top (v' := a6_20 (v3_20 - 1 - 1)) (congrFun mc_s (v3_20 - 1 - 1)) ?_
            refine x_istore O [(8, .int (a6_20 (v3_20 - 1 - 1))), (3, .int (nI (v3_20 - 1))), (6, .int (nI (tn (μ 1 (m_textAt t + 31 + 2 * i5_20))))), (5, .int (nI i5_20)), (4, .int (nI (m_lineAt t n))), (0, .ref (adr 0)), (1, .int (nI t))] dX6_holdsLine_215 rfl rfl ?_
            refine x_aload_n O 5 dX6_holdsLine_217 rfl rfl ?_
            refine x_mget O k_X6_33_6 (mg_18 _ _) dX6_holdsLine_218 ?_
            refine x_iload_n O 1 dX6_holdsLine_221 rfl rfl ?_
            refine x_ialdN O MS.c6 (by have := hs4 c78 c180; omega) rfl dX6_holdsLine_222 ?_
            refine x_top (v' := a6_20 (v3_20 - 1)) (congrFun mc_s (v3_20 - 1)) ?_
            refine x_istore O [(9, .int (a6_20 (v3_20 - 1))), (8, .int (a6_20 (v3_20 - 1 - 1))), (3, .int (nI (v3_20 - 1))), (6, .int (nI (tn (μ 1 (m_textAt t + 31 + 2 * i5_20))))), (5, .int (nI i5_20)), (4, .int (nI (m_lineAt t n))), (0, .ref (adr 0)), (1, .int (nI t))] dX6_holdsLine_223 rfl rfl ?_
            refine x_iload O 3 dX6_holdsLine_225 rfl ?_
            refine x_bipush O (nI 13) dX6_holdsLine_227 (by decide) ?_
            have J11 : ∀ (y1 : Bool), y1 = (if tn (μ 1 (m_textAt t + 31 + 2 * i5_20)) = 13 then (if (a6_20 (v3_20 - 1)) ≤ (a6_20 (v3_20 - 1 - 1)) then false else true) else (if tn (μ 1 (m_textAt t + 31 + 2 * i5_20)) = 14 then (if (a6_20 (v3_20 - 1 - 1)) ≤ (a6_20 (v3_20 - 1)) then false else true) else (if tn (μ 1 (m_textAt t + 31 + 2 * i5_20)) = 16 then (if ((a6_20 (v3_20 - 1 - 1)) + (a6_20 (v3_20 - 1))) = (nI 2) then true else false) else (if ((a6_20 (v3_20 - 1 - 1)) + (a6_20 (v3_20 - 1))) ≤ 0 then false else true)))) → X G F R Q 11 306 [(9, .int (a6_20 (v3_20 - 1))), (8, .int (a6_20 (v3_20 - 1 - 1))), (3, .int (nI (v3_20 - 1))), (6, .int (nI (tn (μ 1 (m_textAt t + 31 + 2 * i5_20))))), (5, .int (nI i5_20)), (4, .int (nI (m_lineAt t n))), (0, .ref (adr 0)), (1, .int (nI t))] [.int (b2i y1)] (MS G adr h0 ((mc μ 6 a6_20))) 0 0 := by
              intro y1 e12
              subst e12
              refine x_istore O [(10, .int (b2i ((if tn (μ 1 (m_textAt t + 31 + 2 * i5_20)) = 13 then (if (a6_20 (v3_20 - 1)) ≤ (a6_20 (v3_20 - 1 - 1)) then false else true) else (if tn (μ 1 (m_textAt t + 31 + 2 * i5_20)) = 14 then (if (a6_20 (v3_20 - 1 - 1)) ≤ (a6_20 (v3_20 - 1)) then false else true) else (if tn (μ 1 (m_textAt t + 31 + 2 * i5_20)) = 16 then (if ((a6_20 (v3_20 - 1 - 1)) + (a6_20 (v3_20 - 1))) = (nI 2) then true else false) else (if ((a6_20 (v3_20 - 1 - 1)) + (a6_20 (v3_20 - 1))) ≤ 0 then false else true))))))), (9, .int (a6_20 (v3_20 - 1))), (8, .int (a6_20 (v3_20 - 1 - 1))), (3, .int (nI (v3_20 - 1))), (6, .int (nI (tn (μ 1 (m_textAt t + 31 + 2 * i5_20))))), (5, .int (nI i5_20)), (4, .int (nI (m_lineAt t n))), (0, .ref (adr 0)), (1, .int (nI t))] dX6_holdsLine_306 rfl rfl ?_
              refine x_aload_n O 7 dX6_holdsLine_308 rfl rfl ?_
              refine x_mget O k_X6_33_6 (mg_18 _ _) dX6_holdsLine_309 ?_
              refine x_iload_n O 3 dX6_holdsLine_312 rfl rfl ?_
              refine x_iconst O (nI 1) dX6_holdsLine_313 (by decide) ?_
              refine x_isubN O (by have := hs4 c78 c180; omega) dX6_holdsLine_314 ?_
              refine x_iload O 4 dX6_holdsLine_315 rfl ?_
              refine x_bipush O (nI 12) dX6_holdsLine_317 (by decide) ?_
              have J13 : ∀ (y2 : Int32), y2 = (if tn (μ 1 (m_textAt t + 31 + 2 * i5_20)) = 12 then (a6_20 (v3_20 - 1 - 1)) + (a6_20 (v3_20 - 1)) else (if tn (μ 1 (m_textAt t + 31 + 2 * i5_20)) = 11 then (a6_20 (v3_20 - 1 - 1)) * (a6_20 (v3_20 - 1)) else (if (if tn (μ 1 (m_textAt t + 31 + 2 * i5_20)) = 13 then (if (a6_20 (v3_20 - 1)) ≤ (a6_20 (v3_20 - 1 - 1)) then false else true) else (if tn (μ 1 (m_textAt t + 31 + 2 * i5_20)) = 14 then (if (a6_20 (v3_20 - 1 - 1)) ≤ (a6_20 (v3_20 - 1)) then false else true) else (if tn (μ 1 (m_textAt t + 31 + 2 * i5_20)) = 16 then (if ((a6_20 (v3_20 - 1 - 1)) + (a6_20 (v3_20 - 1))) = (nI 2) then true else false) else (if ((a6_20 (v3_20 - 1 - 1)) + (a6_20 (v3_20 - 1))) ≤ 0 then false else true)))) = true then nI 1 else nI 0))) → X G F R Q 11 355 [(3, .int (nI (v3_20 - 1))), (5, .int (nI i5_20)), (4, .int (nI (m_lineAt t n))), (0, .ref (adr 0)), (1, .int (nI t))] [.int y2, .int (nI (v3_20 - 1 - 1)), .ref (adr 6)] (MS G adr h0 ((mc μ 6 a6_20))) 0 0 := by
                intro y2 e14
                subst e14
                refine x_mastQ O 5 MS.c6 rfl rfl rfl (by have := hs4 c78 c180; omega) rfl dX6_holdsLine_355 (μ' := (mc μ 6 (ups a6_20 (v3_20 - 1 - 1) ((if tn (μ 1 (m_textAt t + 31 + 2 * i5_20)) = 12 then (a6_20 (v3_20 - 1 - 1)) + (a6_20 (v3_20 - 1)) else (if tn (μ 1 (m_textAt t + 31 + 2 * i5_20)) = 11 then (a6_20 (v3_20 - 1 - 1)) * (a6_20 (v3_20 - 1)) else (if (if tn (μ 1 (m_textAt t + 31 + 2 * i5_20)) = 13 then (if (a6_20 (v3_20 - 1)) ≤ (a6_20 (v3_20 - 1 - 1)) then false else true) else (if tn (μ 1 (m_textAt t + 31 + 2 * i5_20)) = 14 then (if (a6_20 (v3_20 - 1 - 1)) ≤ (a6_20 (v3_20 - 1)) then false else true) else (if tn (μ 1 (m_textAt t + 31 + 2 * i5_20)) = 16 then (if ((a6_20 (v3_20 - 1 - 1)) + (a6_20 (v3_20 - 1))) = (nI 2) then true else false) else (if ((a6_20 (v3_20 - 1 - 1)) + (a6_20 (v3_20 - 1))) ≤ 0 then false else true)))) = true then nI 1 else nI 0))))))) wc_s ?_
                exact J8 (v3_20 - 1) (ups a6_20 (v3_20 - 1 - 1) ((if tn (μ 1 (m_textAt t + 31 + 2 * i5_20)) = 12 then (a6_20 (v3_20 - 1 - 1)) + (a6_20 (v3_20 - 1)) else (if tn (μ 1 (m_textAt t + 31 + 2 * i5_20)) = 11 then (a6_20 (v3_20 - 1 - 1)) * (a6_20 (v3_20 - 1)) else (if (if tn (μ 1 (m_textAt t + 31 + 2 * i5_20)) = 13 then (if (a6_20 (v3_20 - 1)) ≤ (a6_20 (v3_20 - 1 - 1)) then false else true) else (if tn (μ 1 (m_textAt t + 31 + 2 * i5_20)) = 14 then (if (a6_20 (v3_20 - 1 - 1)) ≤ (a6_20 (v3_20 - 1)) then false else true) else (if tn (μ 1 (m_textAt t + 31 + 2 * i5_20)) = 16 then (if ((a6_20 (v3_20 - 1 - 1)) + (a6_20 (v3_20 - 1))) = (nI 2) then true else false) else (if ((a6_20 (v3_20 - 1 - 1)) + (a6_20 (v3_20 - 1))) ≤ 0 then false else true)))) = true then nI 1 else nI 0))))) (by first | (rw [if_pos c78, if_neg c180]; done) | simp only [if_pos c78, if_neg c180]) (by first | (rw [if_pos c78, if_neg c180]; done) | simp only [if_pos c78, if_neg c180])
              refine x_icmpneN O 330 (by omega) (by omega) dX6_holdsLine_319 (by decide) (fun c319 => ?_) (fun c319 => ?_)
              · refine x_iload O 4 dX6_holdsLine_330 rfl ?_
                refine x_bipush O (nI 11) dX6_holdsLine_332 (by decide) ?_
                refine x_icmpneN O 345 (by omega) (by omega) dX6_holdsLine_334 (by decide) (fun c334 => ?_) (fun c334 => ?_)
                · refine x_sub [0, 3, 5, 6, 7, 8] (L' := [(10, .int (b2i ((if tn (μ 1 (m_textAt t + 31 + 2 * i5_20)) = 13 then (if (a6_20 (v3_20 - 1)) ≤ (a6_20 (v3_20 - 1 - 1)) then false else true) else (if tn (μ 1 (m_textAt t + 31 + 2 * i5_20)) = 14 then (if (a6_20 (v3_20 - 1 - 1)) ≤ (a6_20 (v3_20 - 1)) then false else true) else (if tn (μ 1 (m_textAt t + 31 + 2 * i5_20)) = 16 then (if ((a6_20 (v3_20 - 1 - 1)) + (a6_20 (v3_20 - 1))) = (nI 2) then true else false) else (if ((a6_20 (v3_20 - 1 - 1)) + (a6_20 (v3_20 - 1))) ≤ 0 then false else true))))))), (3, .int (nI (v3_20 - 1))), (5, .int (nI i5_20)), (4, .int (nI (m_lineAt t n))), (0, .ref (adr 0)), (1, .int (nI t))]) rfl ?_
                  refine x_iload O 0 dX6_holdsLine_345 rfl ?_
                  refine x_ifeqB O 354 dX6_holdsLine_347 (by decide) (fun c347 => ?_) (fun c347 => ?_)
                  · refine x_sub [1, 2, 3, 4, 5] (L' := [(3, .int (nI (v3_20 - 1))), (5, .int (nI i5_20)), (4, .int (nI (m_lineAt t n))), (0, .ref (adr 0)), (1, .int (nI t))]) rfl ?_
                    refine x_iconst O (nI 0) dX6_holdsLine_354 (by decide) ?_
                    exact J13 (nI 0) (by first | (rw [if_neg c319, if_neg c334, if_neg c347]; done) | simp only [if_neg c319, if_neg c334, if_neg c347])
                  · refine x_sub [1, 2, 3, 4, 5] (L' := [(3, .int (nI (v3_20 - 1))), (5, .int (nI i5_20)), (4, .int (nI (m_lineAt t n))), (0, .ref (adr 0)), (1, .int (nI t))]) rfl ?_
                    refine x_iconst O (nI 1) dX6_holdsLine_350 (by decide) ?_
                    refine x_goto O 355 dX6_holdsLine_351 (by decide) ?_
                    exact J13 (nI 1) (by first | (rw [if_neg c319, if_neg c334, if_pos c347]; done) | simp only [if_neg c319, if_neg c334, if_pos c347])
                · refine x_sub [1, 2, 3, 5, 6, 7, 8] (L' := [(9, .int (a6_20 (v3_20 - 1))), (8, .int (a6_20 (v3_20 - 1 - 1))), (3, .int (nI (v3_20 - 1))), (5, .int (nI i5_20)), (4, .int (nI (m_lineAt t n))), (0, .ref (adr 0)), (1, .int (nI t))]) rfl ?_
                  refine x_iload O 1 dX6_holdsLine_337 rfl ?_
                  refine x_iload O 0 dX6_holdsLine_339 rfl ?_
                  refine x_imul O dX6_holdsLine_341 ?_
                  refine x_goto O 355 dX6_holdsLine_342 (by decide) ?_
                  refine x_sub [2, 3, 4, 5, 6] (L' := [(3, .int (nI (v3_20 - 1))), (5, .int (nI i5_20)), (4, .int (nI (m_lineAt t n))), (0, .ref (adr 0)), (1, .int (nI t))]) rfl ?_
                  exact J13 ((a6_20 (v3_20 - 1 - 1)) * (a6_20 (v3_20 - 1))) (by first | (rw [if_neg c319, if_pos c334]; done) | simp only [if_neg c319, if_pos c334])
              · refine x_sub [1, 2, 3, 5, 6, 7, 8] (L' := [(9, .int (a6_20 (v3_20 - 1))), (8, .int (a6_20 (v3_20 - 1 - 1))), (3, .int (nI (v3_20 - 1))), (5, .int (nI i5_20)), (4, .int (nI (m_lineAt t n))), (0, .ref (adr 0)), (1, .int (nI t))]) rfl ?_
                refine x_iload O 1 dX6_holdsLine_322 rfl ?_
                refine x_iload O 0 dX6_holdsLine_324 rfl ?_
                refine x_iadd O dX6_holdsLine_326 ?_
                refine x_goto O 355 dX6_holdsLine_327 (by decide) ?_
                refine x_sub [2, 3, 4, 5, 6] (L' := [(3, .int (nI (v3_20 - 1))), (5, .int (nI i5_20)), (4, .int (nI (m_lineAt t n))), (0, .ref (adr 0)), (1, .int (nI t))]) rfl ?_
                exact J13 ((a6_20 (v3_20 - 1 - 1)) + (a6_20 (v3_20 - 1))) (by rw [if_pos c319])
            refine x_icmpneN O 247 (by omega) (by omega) dX6_holdsLine_229 (by decide) (fun c229 => ?_) (fun c229 => ?_)
            · refine x_iload O 3 dX6_holdsLine_247 rfl ?_
              refine x_bipush O (nI 14) dX6_holdsLine_249 (by decide) ?_
              refine x_icmpneN O 269 (by omega) (by omega) dX6_holdsLine_251 (by decide) (fun c251 => ?_) (fun c251 => ?_)
              · refine x_iload O 3 dX6_holdsLine_269 rfl ?_
                refine x_bipush O (nI 16) dX6_holdsLine_271 (by decide) ?_
                refine x_icmpneN O 293 (by omega) (by omega) dX6_holdsLine_273 (by decide) (fun c273 => ?_) (fun c273 => ?_)
                · refine x_iload O 1 dX6_holdsLine_293 rfl ?_
                  refine x_iload O 0 dX6_holdsLine_295 rfl ?_
                  refine x_iadd O dX6_holdsLine_297 ?_
                  refine x_ifle O 305 dX6_holdsLine_298 (by decide) (fun c298 => ?_) (fun c298 => ?_)
                  · refine x_iconst O (nI 0) dX6_holdsLine_305 (by decide) ?_
                    refine x_top (v' := b2i false) (by decide) ?_
                    exact J11 false (by first | (rw [if_neg c229, if_neg c251, if_neg c273, if_pos c298]; done) | simp only [if_neg c229, if_neg c251, if_neg c273, if_pos c298])
                  · refine x_iconst O (nI 1) dX6_holdsLine_301 (by decide) ?_
                    refine x_goto O 306 dX6_holdsLine_302 (by decide) ?_
                    refine x_top (v' := b2i true) (by decide) ?_
                    exact J11 true (by first | (rw [if_neg c229, if_neg c251, if_neg c273, if_neg c298]; done) | simp only [if_neg c229, if_neg c251, if_neg c273, if_neg c298])
                · refine x_iload O 1 dX6_holdsLine_276 rfl ?_
                  refine x_iload O 0 dX6_holdsLine_278 rfl ?_
                  refine x_iadd O dX6_holdsLine_280 ?_
                  refine x_iconst O (nI 2) dX6_holdsLine_281 (by decide) ?_
                  refine x_icmpne O 289 dX6_holdsLine_282 (by decide) (fun c282 => ?_) (fun c282 => ?_)
                  · refine x_iconst O (nI 0) dX6_holdsLine_289 (by decide) ?_
                    refine x_goto O 306 dX6_holdsLine_290 (by decide) ?_
                    refine x_top (v' := b2i false) (by decide) ?_
                    exact J11 false (by first | (rw [if_neg c229, if_neg c251, if_pos c273, if_neg c282]; done) | simp only [if_neg c229, if_neg c251, if_pos c273, if_neg c282])
                  · refine x_iconst O (nI 1) dX6_holdsLine_285 (by decide) ?_
                    refine x_goto O 306 dX6_holdsLine_286 (by decide) ?_
                    refine x_top (v' := b2i true) (by decide) ?_
                    exact J11 true (by first | (rw [if_neg c229, if_neg c251, if_pos c273, if_pos c282]; done) | simp only [if_neg c229, if_neg c251, if_pos c273, if_pos c282])
              · refine x_iload O 1 dX6_holdsLine_254 rfl ?_
                refine x_iload O 0 dX6_holdsLine_256 rfl ?_
                refine x_icmple O 265 dX6_holdsLine_258 (by decide) (fun c258 => ?_) (fun c258 => ?_)
                · refine x_iconst O (nI 0) dX6_holdsLine_265 (by decide) ?_
                  refine x_goto O 306 dX6_holdsLine_266 (by decide) ?_
                  refine x_top (v' := b2i false) (by decide) ?_
                  exact J11 false (by first | (rw [if_neg c229, if_pos c251, if_pos c258]; done) | simp only [if_neg c229, if_pos c251, if_pos c258])
                · refine x_iconst O (nI 1) dX6_holdsLine_261 (by decide) ?_
                  refine x_goto O 306 dX6_holdsLine_262 (by decide) ?_
                  refine x_top (v' := b2i true) (by decide) ?_
                  exact J11 true (by first | (rw [if_neg c229, if_pos c251, if_neg c258]; done) | simp only [if_neg c229, if_pos c251, if_neg c258])
            · refine x_iload O 1 dX6_holdsLine_232 rfl ?_
              refine x_iload O 0 dX6_holdsLine_234 rfl ?_
              refine x_icmpge O 243 dX6_holdsLine_236 (by decide) (fun c236 => ?_) (fun c236 => ?_)
              · refine x_iconst O (nI 0) dX6_holdsLine_243 (by decide) ?_
                refine x_goto O 306 dX6_holdsLine_244 (by decide) ?_
                refine x_top (v' := b2i false) (by decide) ?_
                exact J11 false (by first | (rw [if_pos c229, if_pos c236]; done) | simp only [if_pos c229, if_pos c236])
              · refine x_iconst O (nI 1) dX6_holdsLine_239 (by decide) ?_
                refine x_goto O 306 dX6_holdsLine_240 (by decide) ?_
                refine x_top (v' := b2i true) (by decide) ?_
                exact J11 true (by first | (rw [if_pos c229, if_neg c236]; done) | simp only [if_pos c229, if_neg c236])
          · refine x_sub [1, 2, 3, 4, 5] (L' := [(5, .int (nI i5_20)), (4, .int (nI (m_lineAt t n))), (3, .int (nI v3_20)), (0, .ref (adr 0)), (1, .int (nI t))]) rfl ?_
            refine x_aload_n O 3 dX6_holdsLine_183 rfl rfl ?_
            refine x_mget O k_X6_33_6 (mg_18 _ _) dX6_holdsLine_184 ?_
            refine x_iload_n O 2 dX6_holdsLine_187 rfl rfl ?_
            refine x_iconst O (nI 1) dX6_holdsLine_188 (by decide) ?_
            refine x_isubN O (by have := hs3 c180; omega) dX6_holdsLine_189 ?_
            refine x_iconst O (nI 1) dX6_holdsLine_190 (by decide) ?_
            refine x_aload_n O 3 dX6_holdsLine_191 rfl rfl ?_
            refine x_mget O k_X6_33_6 (mg_18 _ _) dX6_holdsLine_192 ?_
            refine x_iload_n O 2 dX6_holdsLine_195 rfl rfl ?_
            refine x_iconst O (nI 1) dX6_holdsLine_196 (by decide) ?_
            refine x_isubN O (by have := hs3 c180; omega) dX6_holdsLine_197 ?_
            refine x_ialdN O MS.c6 (by have := hs3 c180; omega) rfl dX6_holdsLine_198 ?_
            refine x_top (v' := a6_20 (v3_20 - 1)) (congrFun mc_s (v3_20 - 1)) ?_
            refine x_isub O dX6_holdsLine_199 ?_
            refine x_mastQ O 5 MS.c6 rfl rfl rfl (by have := hs3 c180; omega) rfl dX6_holdsLine_200 (μ' := (mc μ 6 (ups a6_20 (v3_20 - 1) ((nI 1) - (a6_20 (v3_20 - 1)))))) wc_s ?_
            refine x_goto O 356 dX6_holdsLine_201 (by decide) ?_
            refine x_sub [2, 0, 1, 3, 4] rfl ?_
            exact J8 v3_20 (ups a6_20 (v3_20 - 1) ((nI 1) - (a6_20 (v3_20 - 1)))) (by first | (rw [if_pos c78, if_pos c180]; done) | simp only [if_pos c78, if_pos c180]) (by first | (rw [if_pos c78, if_pos c180]; done) | simp only [if_pos c78, if_pos c180])
        · refine x_iload O 1 dX6_holdsLine_81 rfl ?_
          refine x_bipush O (nI 7) dX6_holdsLine_83 (by decide) ?_
          have J15 : ∀ (y3 : Int32), y3 = (if tn (μ 1 (m_textAt t + 31 + 2 * i5_20)) = 7 then μ 0 15 else (if tn (μ 1 (m_textAt t + 31 + 2 * i5_20)) = 8 then μ 0 16 else (if (μ 0 17) < (μ 1 (m_textAt t + 31 + 2 * i5_20 + 1)) then nI 0 else nI 1))) → X G F R Q 11 123 [(7, .int (μ 1 (m_textAt t + 31 + 2 * i5_20 + 1))), (6, .int (nI (tn (μ 1 (m_textAt t + 31 + 2 * i5_20))))), (5, .int (nI i5_20)), (4, .int (nI (m_lineAt t n))), (3, .int (nI v3_20)), (0, .ref (adr 0)), (1, .int (nI t))] [.int y3] (MS G adr h0 ((mc μ 6 a6_20))) 0 0 := by
            intro y3 e16
            subst e16
            refine x_istore O [(8, .int ((if tn (μ 1 (m_textAt t + 31 + 2 * i5_20)) = 7 then μ 0 15 else (if tn (μ 1 (m_textAt t + 31 + 2 * i5_20)) = 8 then μ 0 16 else (if (μ 0 17) < (μ 1 (m_textAt t + 31 + 2 * i5_20 + 1)) then nI 0 else nI 1))))), (7, .int (μ 1 (m_textAt t + 31 + 2 * i5_20 + 1))), (6, .int (nI (tn (μ 1 (m_textAt t + 31 + 2 * i5_20))))), (5, .int (nI i5_20)), (4, .int (nI (m_lineAt t n))), (3, .int (nI v3_20)), (0, .ref (adr 0)), (1, .int (nI t))] dX6_holdsLine_123 rfl rfl ?_
            refine x_aload_n O 6 dX6_holdsLine_125 rfl rfl ?_
            refine x_mget O k_X6_33_6 (mg_18 _ _) dX6_holdsLine_126 ?_
            refine x_iload_n O 5 dX6_holdsLine_129 rfl rfl ?_
            refine x_iload O 2 dX6_holdsLine_130 rfl ?_
            refine x_bipush O (nI 10) dX6_holdsLine_132 (by decide) ?_
            have J17 : ∀ (y4 : Int32), y4 = (if tn (μ 1 (m_textAt t + 31 + 2 * i5_20)) = 10 then μ 1 (m_textAt t + 31 + 2 * i5_20 + 1) else (if 7 ≤ tn (μ 1 (m_textAt t + 31 + 2 * i5_20)) then (if ((if tn (μ 1 (m_textAt t + 31 + 2 * i5_20)) = 7 then μ 0 15 else (if tn (μ 1 (m_textAt t + 31 + 2 * i5_20)) = 8 then μ 0 16 else (if (μ 0 17) < (μ 1 (m_textAt t + 31 + 2 * i5_20 + 1)) then nI 0 else nI 1)))) = 0 then nI 0 else nI 1) else μ 5 (tn (μ 1 (m_textAt t + 31 + 2 * i5_20))))) → X G F R Q 11 169 [(5, .int (nI i5_20)), (4, .int (nI (m_lineAt t n))), (3, .int (nI v3_20)), (0, .ref (adr 0)), (1, .int (nI t))] [.int y4, .int (nI v3_20), .ref (adr 6)] (MS G adr h0 ((mc μ 6 a6_20))) 0 0 := by
              intro y4 e18
              subst e18
              refine x_mastQ O 5 MS.c6 rfl rfl rfl (by have := hs2 c78; omega) rfl dX6_holdsLine_169 (μ' := (mc μ 6 (ups a6_20 v3_20 ((if tn (μ 1 (m_textAt t + 31 + 2 * i5_20)) = 10 then μ 1 (m_textAt t + 31 + 2 * i5_20 + 1) else (if 7 ≤ tn (μ 1 (m_textAt t + 31 + 2 * i5_20)) then (if ((if tn (μ 1 (m_textAt t + 31 + 2 * i5_20)) = 7 then μ 0 15 else (if tn (μ 1 (m_textAt t + 31 + 2 * i5_20)) = 8 then μ 0 16 else (if (μ 0 17) < (μ 1 (m_textAt t + 31 + 2 * i5_20 + 1)) then nI 0 else nI 1)))) = 0 then nI 0 else nI 1) else μ 5 (tn (μ 1 (m_textAt t + 31 + 2 * i5_20))))))))) wc_s ?_
              refine x_iincN O 2 [(3, .int (nI (v3_20 + 1))), (5, .int (nI i5_20)), (4, .int (nI (m_lineAt t n))), (0, .ref (adr 0)), (1, .int (nI t))] dX6_holdsLine_170 rfl rfl rfl ?_
              refine x_goto O 356 dX6_holdsLine_173 (by decide) ?_
              exact J8 (v3_20 + 1) (ups a6_20 v3_20 ((if tn (μ 1 (m_textAt t + 31 + 2 * i5_20)) = 10 then μ 1 (m_textAt t + 31 + 2 * i5_20 + 1) else (if 7 ≤ tn (μ 1 (m_textAt t + 31 + 2 * i5_20)) then (if ((if tn (μ 1 (m_textAt t + 31 + 2 * i5_20)) = 7 then μ 0 15 else (if tn (μ 1 (m_textAt t + 31 + 2 * i5_20)) = 8 then μ 0 16 else (if (μ 0 17) < (μ 1 (m_textAt t + 31 + 2 * i5_20 + 1)) then nI 0 else nI 1)))) = 0 then nI 0 else nI 1) else μ 5 (tn (μ 1 (m_textAt t + 31 + 2 * i5_20))))))) (by rw [if_neg c78]) (by first | (rw [if_neg c78]; done) | simp only [if_neg c78])
            refine x_icmpneN O 142 (by omega) (by omega) dX6_holdsLine_134 (by decide) (fun c134 => ?_) (fun c134 => ?_)
            · refine x_sub [0, 2, 3, 4, 5, 6, 7] (L' := [(8, .int ((if tn (μ 1 (m_textAt t + 31 + 2 * i5_20)) = 7 then μ 0 15 else (if tn (μ 1 (m_textAt t + 31 + 2 * i5_20)) = 8 then μ 0 16 else (if (μ 0 17) < (μ 1 (m_textAt t + 31 + 2 * i5_20 + 1)) then nI 0 else nI 1))))), (6, .int (nI (tn (μ 1 (m_textAt t + 31 + 2 * i5_20))))), (5, .int (nI i5_20)), (4, .int (nI (m_lineAt t n))), (3, .int (nI v3_20)), (0, .ref (adr 0)), (1, .int (nI t))]) rfl ?_
              refine x_iload O 1 dX6_holdsLine_142 rfl ?_
              refine x_bipush O (nI 7) dX6_holdsLine_144 (by decide) ?_
              refine x_icmpgeN O 159 (by omega) (by omega) dX6_holdsLine_146 (by decide) (fun c146 => ?_) (fun c146 => ?_)
              · refine x_sub [0, 2, 3, 4, 5, 6] (L' := [(8, .int ((if tn (μ 1 (m_textAt t + 31 + 2 * i5_20)) = 7 then μ 0 15 else (if tn (μ 1 (m_textAt t + 31 + 2 * i5_20)) = 8 then μ 0 16 else (if (μ 0 17) < (μ 1 (m_textAt t + 31 + 2 * i5_20 + 1)) then nI 0 else nI 1))))), (5, .int (nI i5_20)), (4, .int (nI (m_lineAt t n))), (3, .int (nI v3_20)), (0, .ref (adr 0)), (1, .int (nI t))]) rfl ?_
                refine x_iload O 0 dX6_holdsLine_159 rfl ?_
                refine x_ifeq O 168 dX6_holdsLine_161 (by decide) (fun c161 => ?_) (fun c161 => ?_)
                · refine x_sub [1, 2, 3, 4, 5] (L' := [(5, .int (nI i5_20)), (4, .int (nI (m_lineAt t n))), (3, .int (nI v3_20)), (0, .ref (adr 0)), (1, .int (nI t))]) rfl ?_
                  refine x_iconst O (nI 0) dX6_holdsLine_168 (by decide) ?_
                  exact J17 (nI 0) (by first | (rw [if_neg c134, if_pos c146, if_pos c161]; done) | simp only [if_neg c134, if_pos c146, if_pos c161])
                · refine x_sub [1, 2, 3, 4, 5] (L' := [(5, .int (nI i5_20)), (4, .int (nI (m_lineAt t n))), (3, .int (nI v3_20)), (0, .ref (adr 0)), (1, .int (nI t))]) rfl ?_
                  refine x_iconst O (nI 1) dX6_holdsLine_164 (by decide) ?_
                  refine x_goto O 169 dX6_holdsLine_165 (by decide) ?_
                  exact J17 (nI 1) (by first | (rw [if_neg c134, if_pos c146, if_neg c161]; done) | simp only [if_neg c134, if_pos c146, if_neg c161])
              · refine x_sub [1, 2, 3, 4, 5, 6] (L' := [(6, .int (nI (tn (μ 1 (m_textAt t + 31 + 2 * i5_20))))), (5, .int (nI i5_20)), (4, .int (nI (m_lineAt t n))), (3, .int (nI v3_20)), (0, .ref (adr 0)), (1, .int (nI t))]) rfl ?_
                refine x_aload_n O 4 dX6_holdsLine_149 rfl rfl ?_
                refine x_mget O k_X6_30_6 (mg_14 _ _) dX6_holdsLine_150 ?_
                refine x_iload O 0 dX6_holdsLine_153 rfl ?_
                refine x_ialdN O MS.c5 (by omega) rfl dX6_holdsLine_155 ?_
                refine x_top (v' := μ 5 (tn (μ 1 (m_textAt t + 31 + 2 * i5_20)))) (congrFun (mc_n (by decide)) (tn (μ 1 (m_textAt t + 31 + 2 * i5_20)))) ?_
                refine x_goto O 169 dX6_holdsLine_156 (by decide) ?_
                refine x_sub [1, 2, 3, 4, 5] (L' := [(5, .int (nI i5_20)), (4, .int (nI (m_lineAt t n))), (3, .int (nI v3_20)), (0, .ref (adr 0)), (1, .int (nI t))]) rfl ?_
                exact J17 (μ 5 (tn (μ 1 (m_textAt t + 31 + 2 * i5_20)))) (by first | (rw [if_neg c134, if_neg c146]; done) | simp only [if_neg c134, if_neg c146])
            · refine x_sub [1, 3, 4, 5, 6, 7] (L' := [(7, .int (μ 1 (m_textAt t + 31 + 2 * i5_20 + 1))), (5, .int (nI i5_20)), (4, .int (nI (m_lineAt t n))), (3, .int (nI v3_20)), (0, .ref (adr 0)), (1, .int (nI t))]) rfl ?_
              refine x_iload O 0 dX6_holdsLine_137 rfl ?_
              refine x_goto O 169 dX6_holdsLine_139 (by decide) ?_
              refine x_sub [1, 2, 3, 4, 5] (L' := [(5, .int (nI i5_20)), (4, .int (nI (m_lineAt t n))), (3, .int (nI v3_20)), (0, .ref (adr 0)), (1, .int (nI t))]) rfl ?_
              exact J17 (μ 1 (m_textAt t + 31 + 2 * i5_20 + 1)) (by rw [if_pos c134])
          refine x_icmpneN O 95 (by omega) (by omega) dX6_holdsLine_85 (by decide) (fun c85 => ?_) (fun c85 => ?_)
          · refine x_iload O 1 dX6_holdsLine_95 rfl ?_
            refine x_bipush O (nI 8) dX6_holdsLine_97 (by decide) ?_
            refine x_icmpneN O 109 (by omega) (by omega) dX6_holdsLine_99 (by decide) (fun c99 => ?_) (fun c99 => ?_)
            · refine x_aload_n O 5 dX6_holdsLine_109 rfl rfl ?_
              refine x_mget O k_X6_270_6 (mg_17 _ _) dX6_holdsLine_110 ?_
              refine x_top (v' := μ 0 17) (congrFun (mc_n (by decide)) 17) ?_
              refine x_iload O 0 dX6_holdsLine_113 rfl ?_
              refine x_icmplt O 122 dX6_holdsLine_115 (by decide) (fun c115 => ?_) (fun c115 => ?_)
              · refine x_iconst O (nI 0) dX6_holdsLine_122 (by decide) ?_
                exact J15 (nI 0) (by first | (rw [if_neg c85, if_neg c99, if_pos c115]; done) | simp only [if_neg c85, if_neg c99, if_pos c115])
              · refine x_iconst O (nI 1) dX6_holdsLine_118 (by decide) ?_
                refine x_goto O 123 dX6_holdsLine_119 (by decide) ?_
                exact J15 (nI 1) (by first | (rw [if_neg c85, if_neg c99, if_neg c115]; done) | simp only [if_neg c85, if_neg c99, if_neg c115])
            · refine x_aload_n O 5 dX6_holdsLine_102 rfl rfl ?_
              refine x_mget O k_X6_267_6 (mg_16 _ _) dX6_holdsLine_103 ?_
              refine x_top (v' := μ 0 16) (congrFun (mc_n (by decide)) 16) ?_
              refine x_goto O 123 dX6_holdsLine_106 (by decide) ?_
              exact J15 (μ 0 16) (by first | (rw [if_neg c85, if_pos c99]; done) | simp only [if_neg c85, if_pos c99])
          · refine x_aload_n O 5 dX6_holdsLine_88 rfl rfl ?_
            refine x_mget O k_X6_264_6 (mg_15 _ _) dX6_holdsLine_89 ?_
            refine x_top (v' := μ 0 15) (congrFun (mc_n (by decide)) 15) ?_
            refine x_goto O 123 dX6_holdsLine_92 (by decide) ?_
            exact J15 (μ 0 15) (by rw [if_pos c85])
  refine x_weak (Ω' := MS G adr h0 ((mc μ 6 (μ 6)))) (fun _ m => m.eq (mc_id (c := 6) (f := μ 6) (by rfl)).symm) ?_
  refine LOOP20 (tn (μ 1 (m_lineAt t n + 2)) - (tn (μ 1 (m_lineAt t n + 1)))) (tn (μ 1 (m_lineAt t n + 1))) 0 (μ 6) rfl (by omega) hD0.symm (by omega) (fun y0 y1 hy_20 => ?_)
  obtain rfl : y0 = (fr (fun i s => m_holdsLine_b20 (μ 1) (μ 5) (μ 6) (μ 0 15) (μ 0 16) (μ 0 17) t i s.1 s.2) (tn (μ 1 (m_lineAt t n + 2)) - (tn (μ 1 (m_lineAt t n + 1)))) (tn (μ 1 (m_lineAt t n + 1))) (0, μ 6)).1 := congrArg (fun z => z.1) hy_20
  obtain rfl : y1 = (fr (fun i s => m_holdsLine_b20 (μ 1) (μ 5) (μ 6) (μ 0 15) (μ 0 16) (μ 0 17) t i s.1 s.2) (tn (μ 1 (m_lineAt t n + 2)) - (tn (μ 1 (m_lineAt t n + 1)))) (tn (μ 1 (m_lineAt t n + 1))) (0, μ 6)).2 := congrArg (fun z => z.2) hy_20
  refine x_iload_n O 0 dX6_holdsLine_362 rfl rfl ?_
  have J19 : ∀ (y7 : Bool), y7 = (if (nI ((fr (fun i s => m_holdsLine_b20 (μ 1) (μ 5) (μ 6) (μ 0 15) (μ 0 16) (μ 0 17) t i s.1 s.2) (tn (μ 1 (m_lineAt t n + 2)) - (tn (μ 1 (m_lineAt t n + 1)))) (tn (μ 1 (m_lineAt t n + 1))) (0, μ 6)).1)) = 0 then true else (if (((fr (fun i s => m_holdsLine_b20 (μ 1) (μ 5) (μ 6) (μ 0 15) (μ 0 16) (μ 0 17) t i s.1 s.2) (tn (μ 1 (m_lineAt t n + 2)) - (tn (μ 1 (m_lineAt t n + 1)))) (tn (μ 1 (m_lineAt t n + 1))) (0, μ 6)).2) 0) = (nI 1) then true else false)) → X G F R Q 11 381 [(0, .ref (adr 0))] [.int (b2i y7)] (MS G adr h0 ((mc μ 6 ((fr (fun i s => m_holdsLine_b20 (μ 1) (μ 5) (μ 6) (μ 0 15) (μ 0 16) (μ 0 17) t i s.1 s.2) (tn (μ 1 (m_lineAt t n + 2)) - (tn (μ 1 (m_lineAt t n + 1)))) (tn (μ 1 (m_lineAt t n + 1))) (0, μ 6)).2)))) 0 0 := by
    intro y7 e20
    subst e20
    exact x_zretQ O hQ rfl dX6_holdsLine_381 (fun h m => ⟨by rw [hres], by rw [hrs0]; exact m.eq rfl⟩)
  refine x_ifeq O 376 dX6_holdsLine_363 (by decide) (fun c363 => ?_) (fun c363 => ?_)
  · refine x_sub [1] (L' := [(0, .ref (adr 0))]) rfl ?_
    refine x_iconst O (nI 1) dX6_holdsLine_376 (by decide) ?_
    refine x_goto O 381 dX6_holdsLine_377 (by decide) ?_
    refine x_top (v' := b2i true) (by decide) ?_
    exact J19 true (by rw [if_pos c363])
  · refine x_sub [1] (L' := [(0, .ref (adr 0))]) rfl ?_
    refine x_aload_n O 0 dX6_holdsLine_366 rfl rfl ?_
    refine x_mget O k_X6_33_6 (mg_18 _ _) dX6_holdsLine_367 ?_
    refine x_iconst O (nI 0) dX6_holdsLine_370 (by decide) ?_
    refine x_ialdN O MS.c6 (by omega) rfl dX6_holdsLine_371 ?_
    refine x_top (v' := ((fr (fun i s => m_holdsLine_b20 (μ 1) (μ 5) (μ 6) (μ 0 15) (μ 0 16) (μ 0 17) t i s.1 s.2) (tn (μ 1 (m_lineAt t n + 2)) - (tn (μ 1 (m_lineAt t n + 1)))) (tn (μ 1 (m_lineAt t n + 1))) (0, μ 6)).2) 0) (congrFun mc_s 0) ?_
    refine x_iconst O (nI 1) dX6_holdsLine_372 (by decide) ?_
    refine x_icmpne O 380 dX6_holdsLine_373 (by decide) (fun c373 => ?_) (fun c373 => ?_)
    · refine x_iconst O (nI 0) dX6_holdsLine_380 (by decide) ?_
      refine x_top (v' := b2i false) (by decide) ?_
      exact J19 false (by first | (rw [if_neg c363, if_neg c373]; done) | simp only [if_neg c363, if_neg c373])
    · refine x_iconst O (nI 1) dX6_holdsLine_376 (by decide) ?_
      refine x_goto O 381 dX6_holdsLine_377 (by decide) ?_
      refine x_top (v' := b2i true) (by decide) ?_
      exact J19 true (by first | (rw [if_neg c363, if_pos c373]; done) | simp only [if_neg c363, if_pos c373])

def m_sortOf_b178 (W : Nat → Int32) (C5 : Nat → Int32) (C6 : Nat → Int32) (F15 : Int32) (F16 : Int32) (F17 : Int32) (p : Nat) (i4_178 : Nat) (a6_178 : (Nat → Int32)) : ((Nat → Int32)) ⊕ (Int32 × (Nat → Int32)) :=
  (if m_holdsLine W (ups (ups (ups (ups (ups (ups (ups C5 0 (nI (m_near W p true (nI 3)))) 1 (nI (m_near W p false (nI 2)))) 2 (m_of W p 2)) 3 (nI (tn (W 7)))) 4 (W (13 + tn (m_of W p 1)))) 5 (m_roundsOf W p)) 6 ((if 0 ≤ (m_nearestTo W p true (m_of W p 1)) then g_far (m_of W p 1) (m_of W (tn (m_nearestTo W p true (m_of W p 1))) 1) else nI 99))) a6_178 (b2i ((if (m_roundsOf W p) ≤ 0 then false else true))) (b2i ((if (nI (m_near W p false (nI 2))) = 0 then true else false))) F17 (tn (m_of W p 5)) i4_178 = true then .inr (W (m_lineAt (tn (m_of W p 5)) i4_178), m_holdsLine_c6 W (ups (ups (ups (ups (ups (ups (ups C5 0 (nI (m_near W p true (nI 3)))) 1 (nI (m_near W p false (nI 2)))) 2 (m_of W p 2)) 3 (nI (tn (W 7)))) 4 (W (13 + tn (m_of W p 1)))) 5 (m_roundsOf W p)) 6 ((if 0 ≤ (m_nearestTo W p true (m_of W p 1)) then g_far (m_of W p 1) (m_of W (tn (m_nearestTo W p true (m_of W p 1))) 1) else nI 99))) a6_178 (b2i ((if (m_roundsOf W p) ≤ 0 then false else true))) (b2i ((if (nI (m_near W p false (nI 2))) = 0 then true else false))) F17 (tn (m_of W p 5)) i4_178) else .inl (m_holdsLine_c6 W (ups (ups (ups (ups (ups (ups (ups C5 0 (nI (m_near W p true (nI 3)))) 1 (nI (m_near W p false (nI 2)))) 2 (m_of W p 2)) 3 (nI (tn (W 7)))) 4 (W (13 + tn (m_of W p 1)))) 5 (m_roundsOf W p)) 6 ((if 0 ≤ (m_nearestTo W p true (m_of W p 1)) then g_far (m_of W p 1) (m_of W (tn (m_nearestTo W p true (m_of W p 1))) 1) else nI 99))) a6_178 (b2i ((if (m_roundsOf W p) ≤ 0 then false else true))) (b2i ((if (nI (m_near W p false (nI 2))) = 0 then true else false))) F17 (tn (m_of W p 5)) i4_178))
def m_sortOf (W : Nat → Int32) (C5 : Nat → Int32) (C6 : Nat → Int32) (F15 : Int32) (F16 : Int32) (F17 : Int32) (p : Nat) : Int32 :=
  (if 0 ≤ (m_of W p 5) then (match (fre (fun i s => m_sortOf_b178 W C5 C6 F15 F16 F17 p i s) (tn (W (m_textAt (tn (m_of W p 5))))) 0 C6) with | .inl y_178 => nI 3 | .inr v => v.1) else nI 3)
def m_sortOf_f15 (W : Nat → Int32) (C5 : Nat → Int32) (C6 : Nat → Int32) (F15 : Int32) (F16 : Int32) (F17 : Int32) (p : Nat) : Int32 :=
  (if 0 ≤ (m_of W p 5) then b2i ((if (m_roundsOf W p) ≤ 0 then false else true)) else F15)
def m_sortOf_f16 (W : Nat → Int32) (C5 : Nat → Int32) (C6 : Nat → Int32) (F15 : Int32) (F16 : Int32) (F17 : Int32) (p : Nat) : Int32 :=
  (if 0 ≤ (m_of W p 5) then b2i ((if (nI (m_near W p false (nI 2))) = 0 then true else false)) else F16)
def m_sortOf_c5 (W : Nat → Int32) (C5 : Nat → Int32) (C6 : Nat → Int32) (F15 : Int32) (F16 : Int32) (F17 : Int32) (p : Nat) : Nat → Int32 :=
  (if 0 ≤ (m_of W p 5) then ups (ups (ups (ups (ups (ups (ups C5 0 (nI (m_near W p true (nI 3)))) 1 (nI (m_near W p false (nI 2)))) 2 (m_of W p 2)) 3 (nI (tn (W 7)))) 4 (W (13 + tn (m_of W p 1)))) 5 (m_roundsOf W p)) 6 ((if 0 ≤ (m_nearestTo W p true (m_of W p 1)) then g_far (m_of W p 1) (m_of W (tn (m_nearestTo W p true (m_of W p 1))) 1) else nI 99)) else C5)
def m_sortOf_c6 (W : Nat → Int32) (C5 : Nat → Int32) (C6 : Nat → Int32) (F15 : Int32) (F16 : Int32) (F17 : Int32) (p : Nat) : Nat → Int32 :=
  (if 0 ≤ (m_of W p 5) then (match (fre (fun i s => m_sortOf_b178 W C5 C6 F15 F16 F17 p i s) (tn (W (m_textAt (tn (m_of W p 5))))) 0 C6) with | .inl y_178 => y_178 | .inr v => v.2) else C6)
set_option maxHeartbeats 1000000 in
set_option maxRecDepth 100000 in
theorem c_m_sortOf {G : UG} {adr : Nat → Nat} {h0 : Hp} {μ : Mu} (hJ : MJ (μ 1)) (hT : TX (μ 1)) (p : Nat) (hp : p < 8) : Con G yX6_sortOf cX6_sortOf 5 (some .int) 3 71 0 0 [.ref (adr 0), .int (nI p)] (MS G adr h0 μ) (fun vr_ h' => vr_ = some (.int (m_sortOf (μ 1) (μ 5) (μ 6) (μ 0 15) (μ 0 16) (μ 0 17) p)) ∧ MS G adr h0 (mc (mc (mset (mset μ 0 15 (m_sortOf_f15 (μ 1) (μ 5) (μ 6) (μ 0 15) (μ 0 16) (μ 0 17) p)) 0 16 (m_sortOf_f16 (μ 1) (μ 5) (μ 6) (μ 0 15) (μ 0 16) (μ 0 17) p)) 5 (m_sortOf_c5 (μ 1) (μ 5) (μ 6) (μ 0 15) (μ 0 16) (μ 0 17) p)) 6 (m_sortOf_c6 (μ 1) (μ 5) (μ 6) (μ 0 15) (μ 0 16) (μ 0 17) p)) h') nX := by
  refine con_of2 (plainFor_of_name (by decide)) rfl ?_
  intro F R Q RF RL RC RS hQ O hnh hnm
  obtain ⟨res, hres⟩ : ∃ z, z = (m_sortOf (μ 1) (μ 5) (μ 6) (μ 0 15) (μ 0 16) (μ 0 17) p) := ⟨_, rfl⟩
  rw [← hres] at hQ
  unfold m_sortOf at hres
  obtain ⟨rs0, hrs0⟩ : ∃ z, z = m_sortOf_f15 (μ 1) (μ 5) (μ 6) (μ 0 15) (μ 0 16) (μ 0 17) p := ⟨_, rfl⟩
  rw [← hrs0] at hQ
  unfold m_sortOf_f15 at hrs0
  obtain ⟨rs1, hrs1⟩ : ∃ z, z = m_sortOf_f16 (μ 1) (μ 5) (μ 6) (μ 0 15) (μ 0 16) (μ 0 17) p := ⟨_, rfl⟩
  rw [← hrs1] at hQ
  unfold m_sortOf_f16 at hrs1
  obtain ⟨rs2, hrs2⟩ : ∃ z, z = m_sortOf_c5 (μ 1) (μ 5) (μ 6) (μ 0 15) (μ 0 16) (μ 0 17) p := ⟨_, rfl⟩
  rw [← hrs2] at hQ
  unfold m_sortOf_c5 at hrs2
  obtain ⟨rs3, hrs3⟩ : ∃ z, z = m_sortOf_c6 (μ 1) (μ 5) (μ 6) (μ 0 15) (μ 0 16) (μ 0 17) p := ⟨_, rfl⟩
  rw [← hrs3] at hQ
  unfold m_sortOf_c6 at hrs3
  have hI := hJ.1
  have hx := hJ.2.1 p hp
  have hx1 := hx.2.1.2
  refine x_eq (L' := [(0, .ref (adr 0)), (1, .int (nI p))]) ?_ rfl rfl rfl
  refine x_aload_n O 0 dX6_sortOf_0 rfl rfl ?_
  refine x_iload_n O 1 dX6_sortOf_1 rfl rfl ?_
  refine x_iconst O (nI 5) dX6_sortOf_2 (by decide) ?_
  refine x_cV O 2 (c_m_of (μ := μ) p 5 (by omega) (by omega)) MS.obj uc6 (lw_V q1968 q1970 qs60 q111 q1971) rfl hd_X6_of rfl (by rw [RF]; rfl) (by rw [RL]; rfl) ⟨Nat.zero_le _, Nat.zero_le _⟩ rfl rfl dX6_sortOf_3 ?_
  refine x_top (v' := m_of (μ 1) p 5) rfl ?_
  refine x_istore_n O [(2, .int (m_of (μ 1) p 5)), (0, .ref (adr 0)), (1, .int (nI p))] dX6_sortOf_6 rfl rfl rfl ?_
  refine x_iload_n O 0 dX6_sortOf_7 rfl rfl ?_
  refine x_ifge O 13 dX6_sortOf_8 (by decide) (fun c8 => ?_) (fun c8 => ?_)
  · have hr4 := hres.trans (if_pos c8)
    have hr5 := hrs0.trans (if_pos c8)
    have hr6 := hrs1.trans (if_pos c8)
    have hr7 := hrs2.trans (if_pos c8)
    have hr8 := hrs3.trans (if_pos c8)
    refine x_aload_n O 1 dX6_sortOf_13 rfl rfl ?_
    refine x_mget O k_X6_30_6 (mg_14 _ _) dX6_sortOf_14 ?_
    refine x_iconst O (nI 0) dX6_sortOf_17 (by decide) ?_
    refine x_aload_n O 1 dX6_sortOf_18 rfl rfl ?_
    refine x_iload_n O 2 dX6_sortOf_19 rfl rfl ?_
    refine x_iconst O (nI 1) dX6_sortOf_20 (by decide) ?_
    refine x_iconst O (nI 3) dX6_sortOf_21 (by decide) ?_
    refine x_eqS (st' := [.int (nI 3), .int (b2i true), .int (nI p), .ref (adr 0), .int (nI 0), .ref (adr 5)]) (by rw [show b2i true = nI 1 by decide] <;> rfl) ?_
    refine x_cV O 3 (c_m_near (μ := μ) hI p true (nI 3) (by omega)) MS.obj uc6 (lw_V q1980 q1982 qs62 q111 q1983) rfl hd_X6_near rfl (by rw [RF]; rfl) (by rw [RL]; rfl) ⟨Nat.zero_le _, Nat.zero_le _⟩ rfl rfl dX6_sortOf_22 ?_
    refine x_top (v' := nI (m_near (μ 1) p true (nI 3))) rfl ?_
    refine x_mastQ O 4 MS.c5 rfl rfl rfl (by omega) rfl dX6_sortOf_25 (μ' := (mc μ 5 (ups (μ 5) 0 (nI (m_near (μ 1) p true (nI 3)))))) (w_new (f := μ 5) (by rfl)) ?_
    refine x_aload_n O 1 dX6_sortOf_26 rfl rfl ?_
    refine x_mget O k_X6_30_6 (mg_14 _ _) dX6_sortOf_27 ?_
    refine x_iconst O (nI 1) dX6_sortOf_30 (by decide) ?_
    refine x_aload_n O 1 dX6_sortOf_31 rfl rfl ?_
    refine x_iload_n O 2 dX6_sortOf_32 rfl rfl ?_
    refine x_iconst O (nI 0) dX6_sortOf_33 (by decide) ?_
    refine x_iconst O (nI 2) dX6_sortOf_34 (by decide) ?_
    refine x_eqS (st' := [.int (nI 2), .int (b2i false), .int (nI p), .ref (adr 0), .int (nI 1), .ref (adr 5)]) (by rw [show b2i false = nI 0 by decide] <;> rfl) ?_
    refine x_cV O 3 (c_m_near (μ := (mc μ 5 (ups (μ 5) 0 (nI (m_near (μ 1) p true (nI 3)))))) hI p false (nI 2) (by omega)) MS.obj uc6 (lw_V q1980 q1982 qs62 q111 q1983) rfl hd_X6_near rfl (by rw [RF]; rfl) (by rw [RL]; rfl) ⟨Nat.zero_le _, Nat.zero_le _⟩ rfl rfl dX6_sortOf_35 ?_
    refine x_top (v' := nI (m_near (μ 1) p false (nI 2))) (by rw [show (mc μ 5 (ups (μ 5) 0 (nI (m_near (μ 1) p true (nI 3))))) 1 = μ 1 from (mc_n (by decide))]) ?_
    refine x_mastQ O 4 MS.c5 rfl rfl rfl (by omega) rfl dX6_sortOf_38 (μ' := (mc μ 5 (ups (ups (μ 5) 0 (nI (m_near (μ 1) p true (nI 3)))) 1 (nI (m_near (μ 1) p false (nI 2)))))) wc_s ?_
    refine x_aload_n O 1 dX6_sortOf_39 rfl rfl ?_
    refine x_mget O k_X6_30_6 (mg_14 _ _) dX6_sortOf_40 ?_
    refine x_iconst O (nI 2) dX6_sortOf_43 (by decide) ?_
    refine x_aload_n O 1 dX6_sortOf_44 rfl rfl ?_
    refine x_iload_n O 2 dX6_sortOf_45 rfl rfl ?_
    refine x_iconst O (nI 2) dX6_sortOf_46 (by decide) ?_
    refine x_cV O 2 (c_m_of (μ := (mc μ 5 (ups (ups (μ 5) 0 (nI (m_near (μ 1) p true (nI 3)))) 1 (nI (m_near (μ 1) p false (nI 2)))))) p 2 (by omega) (by omega)) MS.obj uc6 (lw_V q1968 q1970 qs60 q111 q1971) rfl hd_X6_of rfl (by rw [RF]; rfl) (by rw [RL]; rfl) ⟨Nat.zero_le _, Nat.zero_le _⟩ rfl rfl dX6_sortOf_47 ?_
    refine x_top (v' := m_of (μ 1) p 2) (by rw [show (mc μ 5 (ups (ups (μ 5) 0 (nI (m_near (μ 1) p true (nI 3)))) 1 (nI (m_near (μ 1) p false (nI 2))))) 1 = μ 1 from (mc_n (by decide))]) ?_
    refine x_mastQ O 4 MS.c5 rfl rfl rfl (by omega) rfl dX6_sortOf_50 (μ' := (mc μ 5 (ups (ups (ups (μ 5) 0 (nI (m_near (μ 1) p true (nI 3)))) 1 (nI (m_near (μ 1) p false (nI 2)))) 2 (m_of (μ 1) p 2)))) wc_s ?_
    refine x_aload_n O 1 dX6_sortOf_51 rfl rfl ?_
    refine x_mget O k_X6_30_6 (mg_14 _ _) dX6_sortOf_52 ?_
    refine x_iconst O (nI 3) dX6_sortOf_55 (by decide) ?_
    refine x_aload_n O 1 dX6_sortOf_56 rfl rfl ?_
    refine x_mget O k_X6_13_6 (mg_1 _ _) dX6_sortOf_57 ?_
    refine x_bipush O (nI 7) dX6_sortOf_60 (by decide) ?_
    refine x_ialdN O MS.c1 (by omega) rfl dX6_sortOf_62 ?_
    refine x_top (v' := μ 1 7) (congrFun (mc_n (by decide)) 7) ?_
    refine x_top (v' := nI (tn (μ 1 7))) ((hJ.1 7 (by decide)).1) ?_
    refine x_mastQ O 4 MS.c5 rfl rfl rfl (by omega) rfl dX6_sortOf_63 (μ' := (mc μ 5 (ups (ups (ups (ups (μ 5) 0 (nI (m_near (μ 1) p true (nI 3)))) 1 (nI (m_near (μ 1) p false (nI 2)))) 2 (m_of (μ 1) p 2)) 3 (nI (tn (μ 1 7)))))) wc_s ?_
    refine x_aload_n O 1 dX6_sortOf_64 rfl rfl ?_
    refine x_mget O k_X6_30_6 (mg_14 _ _) dX6_sortOf_65 ?_
    refine x_iconst O (nI 4) dX6_sortOf_68 (by decide) ?_
    refine x_aload_n O 1 dX6_sortOf_69 rfl rfl ?_
    refine x_mget O k_X6_13_6 (mg_1 _ _) dX6_sortOf_70 ?_
    refine x_bipush O (nI 13) dX6_sortOf_73 (by decide) ?_
    refine x_aload_n O 1 dX6_sortOf_75 rfl rfl ?_
    refine x_iload_n O 2 dX6_sortOf_76 rfl rfl ?_
    refine x_iconst O (nI 1) dX6_sortOf_77 (by decide) ?_
    refine x_cV O 2 (c_m_of (μ := (mc μ 5 (ups (ups (ups (ups (μ 5) 0 (nI (m_near (μ 1) p true (nI 3)))) 1 (nI (m_near (μ 1) p false (nI 2)))) 2 (m_of (μ 1) p 2)) 3 (nI (tn (μ 1 7)))))) p 1 (by omega) (by omega)) MS.obj uc6 (lw_V q1968 q1970 qs60 q111 q1971) rfl hd_X6_of rfl (by rw [RF]; rfl) (by rw [RL]; rfl) ⟨Nat.zero_le _, Nat.zero_le _⟩ rfl rfl dX6_sortOf_78 ?_
    refine x_top (v' := m_of (μ 1) p 1) (by rw [show (mc μ 5 (ups (ups (ups (ups (μ 5) 0 (nI (m_near (μ 1) p true (nI 3)))) 1 (nI (m_near (μ 1) p false (nI 2)))) 2 (m_of (μ 1) p 2)) 3 (nI (tn (μ 1 7))))) 1 = μ 1 from (mc_n (by decide))]) ?_
    refine x_top (v' := nI (tn (m_of (μ 1) p 1))) (hx.2.1.1) ?_
    refine x_iaddN O dX6_sortOf_81 ?_
    refine x_ialdN O MS.c1 (by omega) rfl dX6_sortOf_82 ?_
    refine x_top (v' := μ 1 (13 + tn (m_of (μ 1) p 1))) (congrFun (mc_n (by decide)) (13 + tn (m_of (μ 1) p 1))) ?_
    refine x_mastQ O 4 MS.c5 rfl rfl rfl (by omega) rfl dX6_sortOf_83 (μ' := (mc μ 5 (ups (ups (ups (ups (ups (μ 5) 0 (nI (m_near (μ 1) p true (nI 3)))) 1 (nI (m_near (μ 1) p false (nI 2)))) 2 (m_of (μ 1) p 2)) 3 (nI (tn (μ 1 7)))) 4 (μ 1 (13 + tn (m_of (μ 1) p 1)))))) wc_s ?_
    refine x_aload_n O 1 dX6_sortOf_84 rfl rfl ?_
    refine x_mget O k_X6_30_6 (mg_14 _ _) dX6_sortOf_85 ?_
    refine x_iconst O (nI 5) dX6_sortOf_88 (by decide) ?_
    refine x_aload_n O 1 dX6_sortOf_89 rfl rfl ?_
    refine x_iload_n O 2 dX6_sortOf_90 rfl rfl ?_
    refine x_cV O 1 (c_m_roundsOf (μ := (mc μ 5 (ups (ups (ups (ups (ups (μ 5) 0 (nI (m_near (μ 1) p true (nI 3)))) 1 (nI (m_near (μ 1) p false (nI 2)))) 2 (m_of (μ 1) p 2)) 3 (nI (tn (μ 1 7)))) 4 (μ 1 (13 + tn (m_of (μ 1) p 1)))))) hJ p (by omega)) MS.obj uc6 (lw_V q2008 q2010 qs67 q111 q2011) rfl hd_X6_roundsOf rfl (by rw [RF]; rfl) (by rw [RL]; rfl) ⟨Nat.zero_le _, Nat.zero_le _⟩ rfl rfl dX6_sortOf_91 ?_
    refine x_top (v' := m_roundsOf (μ 1) p) (by rw [show (mc μ 5 (ups (ups (ups (ups (ups (μ 5) 0 (nI (m_near (μ 1) p true (nI 3)))) 1 (nI (m_near (μ 1) p false (nI 2)))) 2 (m_of (μ 1) p 2)) 3 (nI (tn (μ 1 7)))) 4 (μ 1 (13 + tn (m_of (μ 1) p 1))))) 1 = μ 1 from (mc_n (by decide))]) ?_
    refine x_mastQ O 4 MS.c5 rfl rfl rfl (by omega) rfl dX6_sortOf_94 (μ' := (mc μ 5 (ups (ups (ups (ups (ups (ups (μ 5) 0 (nI (m_near (μ 1) p true (nI 3)))) 1 (nI (m_near (μ 1) p false (nI 2)))) 2 (m_of (μ 1) p 2)) 3 (nI (tn (μ 1 7)))) 4 (μ 1 (13 + tn (m_of (μ 1) p 1)))) 5 (m_roundsOf (μ 1) p)))) wc_s ?_
    refine x_aload_n O 1 dX6_sortOf_95 rfl rfl ?_
    refine x_iload_n O 2 dX6_sortOf_96 rfl rfl ?_
    refine x_iconst O (nI 1) dX6_sortOf_97 (by decide) ?_
    refine x_aload_n O 1 dX6_sortOf_98 rfl rfl ?_
    refine x_iload_n O 2 dX6_sortOf_99 rfl rfl ?_
    refine x_iconst O (nI 1) dX6_sortOf_100 (by decide) ?_
    refine x_cV O 2 (c_m_of (μ := (mc μ 5 (ups (ups (ups (ups (ups (ups (μ 5) 0 (nI (m_near (μ 1) p true (nI 3)))) 1 (nI (m_near (μ 1) p false (nI 2)))) 2 (m_of (μ 1) p 2)) 3 (nI (tn (μ 1 7)))) 4 (μ 1 (13 + tn (m_of (μ 1) p 1)))) 5 (m_roundsOf (μ 1) p)))) p 1 (by omega) (by omega)) MS.obj uc6 (lw_V q1968 q1970 qs60 q111 q1971) rfl hd_X6_of rfl (by rw [RF]; rfl) (by rw [RL]; rfl) ⟨Nat.zero_le _, Nat.zero_le _⟩ rfl rfl dX6_sortOf_101 ?_
    refine x_top (v' := m_of (μ 1) p 1) (by rw [show (mc μ 5 (ups (ups (ups (ups (ups (ups (μ 5) 0 (nI (m_near (μ 1) p true (nI 3)))) 1 (nI (m_near (μ 1) p false (nI 2)))) 2 (m_of (μ 1) p 2)) 3 (nI (tn (μ 1 7)))) 4 (μ 1 (13 + tn (m_of (μ 1) p 1)))) 5 (m_roundsOf (μ 1) p))) 1 = μ 1 from (mc_n (by decide))]) ?_
    refine x_eqS (st' := [.int (m_of (μ 1) p 1), .int (b2i true), .int (nI p), .ref (adr 0)]) (by rw [show b2i true = nI 1 by decide] <;> rfl) ?_
    refine x_cV O 3 (c_m_nearestTo (μ := (mc μ 5 (ups (ups (ups (ups (ups (ups (μ 5) 0 (nI (m_near (μ 1) p true (nI 3)))) 1 (nI (m_near (μ 1) p false (nI 2)))) 2 (m_of (μ 1) p 2)) 3 (nI (tn (μ 1 7)))) 4 (μ 1 (13 + tn (m_of (μ 1) p 1)))) 5 (m_roundsOf (μ 1) p)))) hI p true (m_of (μ 1) p 1) (by omega)) MS.obj uc6 (lw_V q2012 q2014 qs68 q111 q2015) rfl hd_X6_nearestTo rfl (by rw [RF]; rfl) (by rw [RL]; rfl) ⟨Nat.zero_le _, Nat.zero_le _⟩ rfl rfl dX6_sortOf_104 ?_
    refine x_top (v' := m_nearestTo (μ 1) p true (m_of (μ 1) p 1)) (by rw [show (mc μ 5 (ups (ups (ups (ups (ups (ups (μ 5) 0 (nI (m_near (μ 1) p true (nI 3)))) 1 (nI (m_near (μ 1) p false (nI 2)))) 2 (m_of (μ 1) p 2)) 3 (nI (tn (μ 1 7)))) 4 (μ 1 (13 + tn (m_of (μ 1) p 1)))) 5 (m_roundsOf (μ 1) p))) 1 = μ 1 from (mc_n (by decide))]) ?_
    refine x_istore_n O [(3, .int (m_nearestTo (μ 1) p true (m_of (μ 1) p 1))), (2, .int (m_of (μ 1) p 5)), (0, .ref (adr 0)), (1, .int (nI p))] dX6_sortOf_107 rfl rfl rfl ?_
    refine x_aload_n O 2 dX6_sortOf_108 rfl rfl ?_
    refine x_mget O k_X6_30_6 (mg_14 _ _) dX6_sortOf_109 ?_
    refine x_bipush O (nI 6) dX6_sortOf_112 (by decide) ?_
    refine x_iload_n O 0 dX6_sortOf_114 rfl rfl ?_
    have J9 : ∀ (y1 : Int32), y1 = (if 0 ≤ (m_nearestTo (μ 1) p true (m_of (μ 1) p 1)) then g_far (m_of (μ 1) p 1) (m_of (μ 1) (tn (m_nearestTo (μ 1) p true (m_of (μ 1) p 1))) 1) else nI 99) → X G F R Q 5 138 [(2, .int (m_of (μ 1) p 5)), (0, .ref (adr 0))] [.int y1, .int (nI 6), .ref (adr 5)] (MS G adr h0 ((mc μ 5 (ups (ups (ups (ups (ups (ups (μ 5) 0 (nI (m_near (μ 1) p true (nI 3)))) 1 (nI (m_near (μ 1) p false (nI 2)))) 2 (m_of (μ 1) p 2)) 3 (nI (tn (μ 1 7)))) 4 (μ 1 (13 + tn (m_of (μ 1) p 1)))) 5 (m_roundsOf (μ 1) p))))) 0 0 := by
      intro y1 e10
      subst e10
      refine x_mastQ O 4 MS.c5 rfl rfl rfl (by omega) rfl dX6_sortOf_138 (μ' := (mc μ 5 (ups (ups (ups (ups (ups (ups (ups (μ 5) 0 (nI (m_near (μ 1) p true (nI 3)))) 1 (nI (m_near (μ 1) p false (nI 2)))) 2 (m_of (μ 1) p 2)) 3 (nI (tn (μ 1 7)))) 4 (μ 1 (13 + tn (m_of (μ 1) p 1)))) 5 (m_roundsOf (μ 1) p)) 6 ((if 0 ≤ (m_nearestTo (μ 1) p true (m_of (μ 1) p 1)) then g_far (m_of (μ 1) p 1) (m_of (μ 1) (tn (m_nearestTo (μ 1) p true (m_of (μ 1) p 1))) 1) else nI 99))))) wc_s ?_
      refine x_aload_n O 1 dX6_sortOf_139 rfl rfl ?_
      refine x_aload_n O 1 dX6_sortOf_140 rfl rfl ?_
      refine x_mget O k_X6_30_6 (mg_14 _ _) dX6_sortOf_141 ?_
      refine x_iconst O (nI 5) dX6_sortOf_144 (by decide) ?_
      refine x_ialdN O MS.c5 (by omega) rfl dX6_sortOf_145 ?_
      refine x_top (v' := (ups (ups (ups (ups (ups (ups (ups (μ 5) 0 (nI (m_near (μ 1) p true (nI 3)))) 1 (nI (m_near (μ 1) p false (nI 2)))) 2 (m_of (μ 1) p 2)) 3 (nI (tn (μ 1 7)))) 4 (μ 1 (13 + tn (m_of (μ 1) p 1)))) 5 (m_roundsOf (μ 1) p)) 6 ((if 0 ≤ (m_nearestTo (μ 1) p true (m_of (μ 1) p 1)) then g_far (m_of (μ 1) p 1) (m_of (μ 1) (tn (m_nearestTo (μ 1) p true (m_of (μ 1) p 1))) 1) else nI 99))) 5) (congrFun mc_s 5) ?_
      refine x_top (v' := m_roundsOf (μ 1) p) ((ups_n (by decide)).trans ups_s) ?_
      have J11 : ∀ (y2 : Bool), y2 = (if (m_roundsOf (μ 1) p) ≤ 0 then false else true) → X G F R Q 5 154 [(2, .int (m_of (μ 1) p 5)), (0, .ref (adr 0))] [.int (b2i y2), .ref (adr 0)] (MS G adr h0 ((mc μ 5 (ups (ups (ups (ups (ups (ups (ups (μ 5) 0 (nI (m_near (μ 1) p true (nI 3)))) 1 (nI (m_near (μ 1) p false (nI 2)))) 2 (m_of (μ 1) p 2)) 3 (nI (tn (μ 1 7)))) 4 (μ 1 (13 + tn (m_of (μ 1) p 1)))) 5 (m_roundsOf (μ 1) p)) 6 ((if 0 ≤ (m_nearestTo (μ 1) p true (m_of (μ 1) p 1)) then g_far (m_of (μ 1) p 1) (m_of (μ 1) (tn (m_nearestTo (μ 1) p true (m_of (μ 1) p 1))) 1) else nI 99)))))) 0 0 := by
        intro y2 e12
        subst e12
        refine x_mputBQ O p_X6_264_6 (mp_15 _ _ _) rfl dX6_sortOf_154 (μ' := (mc (mset μ 0 15 (b2i ((if (m_roundsOf (μ 1) p) ≤ 0 then false else true)))) 5 (ups (ups (ups (ups (ups (ups (ups (μ 5) 0 (nI (m_near (μ 1) p true (nI 3)))) 1 (nI (m_near (μ 1) p false (nI 2)))) 2 (m_of (μ 1) p 2)) 3 (nI (tn (μ 1 7)))) 4 (μ 1 (13 + tn (m_of (μ 1) p 1)))) 5 (m_roundsOf (μ 1) p)) 6 ((if 0 ≤ (m_nearestTo (μ 1) p true (m_of (μ 1) p 1)) then g_far (m_of (μ 1) p 1) (m_of (μ 1) (tn (m_nearestTo (μ 1) p true (m_of (μ 1) p 1))) 1) else nI 99))))) (wc_n (by decide)) ?_
        refine x_aload_n O 1 dX6_sortOf_157 rfl rfl ?_
        refine x_aload_n O 1 dX6_sortOf_158 rfl rfl ?_
        refine x_mget O k_X6_30_6 (mg_14 _ _) dX6_sortOf_159 ?_
        refine x_iconst O (nI 1) dX6_sortOf_162 (by decide) ?_
        refine x_ialdN O MS.c5 (by omega) rfl dX6_sortOf_163 ?_
        refine x_top (v' := (ups (ups (ups (ups (ups (ups (ups (μ 5) 0 (nI (m_near (μ 1) p true (nI 3)))) 1 (nI (m_near (μ 1) p false (nI 2)))) 2 (m_of (μ 1) p 2)) 3 (nI (tn (μ 1 7)))) 4 (μ 1 (13 + tn (m_of (μ 1) p 1)))) 5 (m_roundsOf (μ 1) p)) 6 ((if 0 ≤ (m_nearestTo (μ 1) p true (m_of (μ 1) p 1)) then g_far (m_of (μ 1) p 1) (m_of (μ 1) (tn (m_nearestTo (μ 1) p true (m_of (μ 1) p 1))) 1) else nI 99))) 1) (congrFun mc_s 1) ?_
        refine x_top (v' := nI (m_near (μ 1) p false (nI 2))) ((ups_n (by decide)).trans ((ups_n (by decide)).trans ((ups_n (by decide)).trans ((ups_n (by decide)).trans ((ups_n (by decide)).trans ups_s))))) ?_
        have J13 : ∀ (y3 : Bool), y3 = (if (nI (m_near (μ 1) p false (nI 2))) = 0 then true else false) → X G F R Q 5 172 [(2, .int (m_of (μ 1) p 5)), (0, .ref (adr 0))] [.int (b2i y3), .ref (adr 0)] (MS G adr h0 ((mc (mset μ 0 15 (b2i ((if (m_roundsOf (μ 1) p) ≤ 0 then false else true)))) 5 (ups (ups (ups (ups (ups (ups (ups (μ 5) 0 (nI (m_near (μ 1) p true (nI 3)))) 1 (nI (m_near (μ 1) p false (nI 2)))) 2 (m_of (μ 1) p 2)) 3 (nI (tn (μ 1 7)))) 4 (μ 1 (13 + tn (m_of (μ 1) p 1)))) 5 (m_roundsOf (μ 1) p)) 6 ((if 0 ≤ (m_nearestTo (μ 1) p true (m_of (μ 1) p 1)) then g_far (m_of (μ 1) p 1) (m_of (μ 1) (tn (m_nearestTo (μ 1) p true (m_of (μ 1) p 1))) 1) else nI 99)))))) 0 0 := by
          intro y3 e14
          subst e14
          refine x_mputBQ O p_X6_267_6 (mp_16 _ _ _) rfl dX6_sortOf_172 (μ' := (mc (mset (mset μ 0 15 (b2i ((if (m_roundsOf (μ 1) p) ≤ 0 then false else true)))) 0 16 (b2i ((if (nI (m_near (μ 1) p false (nI 2))) = 0 then true else false)))) 5 (ups (ups (ups (ups (ups (ups (ups (μ 5) 0 (nI (m_near (μ 1) p true (nI 3)))) 1 (nI (m_near (μ 1) p false (nI 2)))) 2 (m_of (μ 1) p 2)) 3 (nI (tn (μ 1 7)))) 4 (μ 1 (13 + tn (m_of (μ 1) p 1)))) 5 (m_roundsOf (μ 1) p)) 6 ((if 0 ≤ (m_nearestTo (μ 1) p true (m_of (μ 1) p 1)) then g_far (m_of (μ 1) p 1) (m_of (μ 1) (tn (m_nearestTo (μ 1) p true (m_of (μ 1) p 1))) 1) else nI 99))))) (wc_n (by decide)) ?_
          have hcn := (hT (tn (m_of (μ 1) p 5)) (by have := (gO_nn' hx.2.2 c8).2; omega)).1.2
          refine x_iconst O (nI 0) dX6_sortOf_175 (by decide) ?_
          refine x_istore O [(4, .int (nI 0)), (2, .int (m_of (μ 1) p 5)), (0, .ref (adr 0))] dX6_sortOf_176 rfl rfl ?_
          have LOOP178 : ∀ (cc_ : Nat) (i4_178 : Nat) (a6_178 : (Nat → Int32)), cc_ = tn (μ 1 (m_textAt (tn (m_of (μ 1) p 5)))) - i4_178 → i4_178 < 2147483648 → (i4_178 ≤ 10) → (∀ (y0 : (Nat → Int32)), fre (fun i s => m_sortOf_b178 (μ 1) (μ 5) (μ 6) (μ 0 15) (μ 0 16) (μ 0 17) p i s) cc_ i4_178 a6_178 = .inl y0 → X G F R Q 5 220 [(0, .ref (adr 0))] [] (MS G adr h0 ((mc (mc (mset (mset μ 0 15 (b2i ((if (m_roundsOf (μ 1) p) ≤ 0 then false else true)))) 0 16 (b2i ((if (nI (m_near (μ 1) p false (nI 2))) = 0 then true else false)))) 5 (ups (ups (ups (ups (ups (ups (ups (μ 5) 0 (nI (m_near (μ 1) p true (nI 3)))) 1 (nI (m_near (μ 1) p false (nI 2)))) 2 (m_of (μ 1) p 2)) 3 (nI (tn (μ 1 7)))) 4 (μ 1 (13 + tn (m_of (μ 1) p 1)))) 5 (m_roundsOf (μ 1) p)) 6 ((if 0 ≤ (m_nearestTo (μ 1) p true (m_of (μ 1) p 1)) then g_far (m_of (μ 1) p 1) (m_of (μ 1) (tn (m_nearestTo (μ 1) p true (m_of (μ 1) p 1))) 1) else nI 99)))) 6 y0))) 0 0) → (∀ v_ : Int32 × (Nat → Int32), fre (fun i s => m_sortOf_b178 (μ 1) (μ 5) (μ 6) (μ 0 15) (μ 0 16) (μ 0 17) p i s) cc_ i4_178 a6_178 = .inr v_ → res = v_.1 ∧ rs3 = v_.2) → X G F R Q 5 178 [(4, .int (nI i4_178)), (2, .int (m_of (μ 1) p 5)), (0, .ref (adr 0))] [] (MS G adr h0 ((mc (mc (mset (mset μ 0 15 (b2i ((if (m_roundsOf (μ 1) p) ≤ 0 then false else true)))) 0 16 (b2i ((if (nI (m_near (μ 1) p false (nI 2))) = 0 then true else false)))) 5 (ups (ups (ups (ups (ups (ups (ups (μ 5) 0 (nI (m_near (μ 1) p true (nI 3)))) 1 (nI (m_near (μ 1) p false (nI 2)))) 2 (m_of (μ 1) p 2)) 3 (nI (tn (μ 1 7)))) 4 (μ 1 (13 + tn (m_of (μ 1) p 1)))) 5 (m_roundsOf (μ 1) p)) 6 ((if 0 ≤ (m_nearestTo (μ 1) p true (m_of (μ 1) p 1)) then g_far (m_of (μ 1) p 1) (m_of (μ 1) (tn (m_nearestTo (μ 1) p true (m_of (μ 1) p 1))) 1) else nI 99)))) 6 a6_178))) 0 0 := by
            intro cc_
            induction cc_ using Nat.strongRecOn with
            | ind cc_ IH_ =>
              intro i4_178 a6_178 hc_ hb_ hq_ K_ K2_
              refine x_iload O 0 dX6_sortOf_178 rfl ?_
              refine x_aload_n O 2 dX6_sortOf_180 rfl rfl ?_
              refine x_mget O k_X6_13_6 (mg_1 _ _) dX6_sortOf_181 ?_
              refine x_iload_n O 1 dX6_sortOf_184 rfl rfl ?_
              refine x_top (v' := nI (tn (m_of (μ 1) p 5))) ((gO_nn' hx.2.2 c8).1) ?_
              refine x_cS O 1 (c_m_textAt (tn (m_of (μ 1) p 5))) (lw_S q1845 q1846 q111 q1847) hd_X6_textAt rfl (by rw [RF]; rfl) (by rw [RL]; rfl) ⟨Nat.zero_le _, Nat.zero_le _⟩ rfl rfl dX6_sortOf_185 ?_
              refine x_top (v' := nI (m_textAt (tn (m_of (μ 1) p 5)))) rfl ?_
              refine x_ialdN O MS.c1 (by have := (gO_nn' hx.2.2 c8).2; unfold m_textAt; omega) rfl dX6_sortOf_188 ?_
              refine x_top (v' := μ 1 (m_textAt (tn (m_of (μ 1) p 5)))) ((congrFun (mc_n (by decide)) (m_textAt (tn (m_of (μ 1) p 5)))).trans ((congrFun (mc_n (by decide)) (m_textAt (tn (m_of (μ 1) p 5)))).trans ((congrFun (mset_n (by decide)) (m_textAt (tn (m_of (μ 1) p 5)))).trans (congrFun (mset_n (by decide)) (m_textAt (tn (m_of (μ 1) p 5))))))) ?_
              refine x_top (v' := nI (tn (μ 1 (m_textAt (tn (m_of (μ 1) p 5)))))) ((hT _ (by have := (gO_nn' hx.2.2 c8).2; omega)).1.1) ?_
              refine x_icmpgeN O 220 (by omega) (by omega) dX6_sortOf_189 (by decide) (fun c189 => ?_) (fun c189 => ?_)
              · refine x_sub [2] (L' := [(0, .ref (adr 0))]) rfl ?_
                obtain rfl : cc_ = 0 := by omega
                exact K_ _ rfl
              · refine x_aload_n O 2 dX6_sortOf_192 rfl rfl ?_
                refine x_iload_n O 1 dX6_sortOf_193 rfl rfl ?_
                refine x_top (v' := nI (tn (m_of (μ 1) p 5))) ((gO_nn' hx.2.2 c8).1) ?_
                refine x_iload O 0 dX6_sortOf_194 rfl ?_
                refine x_cV O 2 (c_m_holdsLine (μ := (mc (mc (mset (mset μ 0 15 (b2i ((if (m_roundsOf (μ 1) p) ≤ 0 then false else true)))) 0 16 (b2i ((if (nI (m_near (μ 1) p false (nI 2))) = 0 then true else false)))) 5 (ups (ups (ups (ups (ups (ups (ups (μ 5) 0 (nI (m_near (μ 1) p true (nI 3)))) 1 (nI (m_near (μ 1) p false (nI 2)))) 2 (m_of (μ 1) p 2)) 3 (nI (tn (μ 1 7)))) 4 (μ 1 (13 + tn (m_of (μ 1) p 1)))) 5 (m_roundsOf (μ 1) p)) 6 ((if 0 ≤ (m_nearestTo (μ 1) p true (m_of (μ 1) p 1)) then g_far (m_of (μ 1) p 1) (m_of (μ 1) (tn (m_nearestTo (μ 1) p true (m_of (μ 1) p 1))) 1) else nI 99)))) 6 a6_178)) (tn (m_of (μ 1) p 5)) i4_178 ((hT _ (by have := (gO_nn' hx.2.2 c8).2; omega)).2 _ (by omega)) (by have := (gO_nn' hx.2.2 c8).2; omega) (by have := (gO_nn' hx.2.2 c8).2; have := (hT (tn (m_of (μ 1) p 5)) (by omega)).1.2; omega)) MS.obj uc6 (lw_V q2016 q2018 qs69 q111 q2019) rfl hd_X6_holdsLine rfl (by rw [RF]; rfl) (by rw [RL]; rfl) ⟨Nat.zero_le _, Nat.zero_le _⟩ rfl rfl dX6_sortOf_196 ?_
                refine x_top (v' := b2i (m_holdsLine (μ 1) (ups (ups (ups (ups (ups (ups (ups (μ 5) 0 (nI (m_near (μ 1) p true (nI 3)))) 1 (nI (m_near (μ 1) p false (nI 2)))) 2 (m_of (μ 1) p 2)) 3 (nI (tn (μ 1 7)))) 4 (μ 1 (13 + tn (m_of (μ 1) p 1)))) 5 (m_roundsOf (μ 1) p)) 6 ((if 0 ≤ (m_nearestTo (μ 1) p true (m_of (μ 1) p 1)) then g_far (m_of (μ 1) p 1) (m_of (μ 1) (tn (m_nearestTo (μ 1) p true (m_of (μ 1) p 1))) 1) else nI 99))) a6_178 (b2i ((if (m_roundsOf (μ 1) p) ≤ 0 then false else true))) (b2i ((if (nI (m_near (μ 1) p false (nI 2))) = 0 then true else false))) (μ 0 17) (tn (m_of (μ 1) p 5)) i4_178)) (by rw [show (mc (mc (mset (mset μ 0 15 (b2i ((if (m_roundsOf (μ 1) p) ≤ 0 then false else true)))) 0 16 (b2i ((if (nI (m_near (μ 1) p false (nI 2))) = 0 then true else false)))) 5 (ups (ups (ups (ups (ups (ups (ups (μ 5) 0 (nI (m_near (μ 1) p true (nI 3)))) 1 (nI (m_near (μ 1) p false (nI 2)))) 2 (m_of (μ 1) p 2)) 3 (nI (tn (μ 1 7)))) 4 (μ 1 (13 + tn (m_of (μ 1) p 1)))) 5 (m_roundsOf (μ 1) p)) 6 ((if 0 ≤ (m_nearestTo (μ 1) p true (m_of (μ 1) p 1)) then g_far (m_of (μ 1) p 1) (m_of (μ 1) (tn (m_nearestTo (μ 1) p true (m_of (μ 1) p 1))) 1) else nI 99)))) 6 a6_178) 1 = μ 1 from ((mc_n (by decide)).trans ((mc_n (by decide)).trans ((mset_n (by decide)).trans (mset_n (by decide))))), show (mc (mc (mset (mset μ 0 15 (b2i ((if (m_roundsOf (μ 1) p) ≤ 0 then false else true)))) 0 16 (b2i ((if (nI (m_near (μ 1) p false (nI 2))) = 0 then true else false)))) 5 (ups (ups (ups (ups (ups (ups (ups (μ 5) 0 (nI (m_near (μ 1) p true (nI 3)))) 1 (nI (m_near (μ 1) p false (nI 2)))) 2 (m_of (μ 1) p 2)) 3 (nI (tn (μ 1 7)))) 4 (μ 1 (13 + tn (m_of (μ 1) p 1)))) 5 (m_roundsOf (μ 1) p)) 6 ((if 0 ≤ (m_nearestTo (μ 1) p true (m_of (μ 1) p 1)) then g_far (m_of (μ 1) p 1) (m_of (μ 1) (tn (m_nearestTo (μ 1) p true (m_of (μ 1) p 1))) 1) else nI 99)))) 6 a6_178) 5 = ups (ups (ups (ups (ups (ups (ups (μ 5) 0 (nI (m_near (μ 1) p true (nI 3)))) 1 (nI (m_near (μ 1) p false (nI 2)))) 2 (m_of (μ 1) p 2)) 3 (nI (tn (μ 1 7)))) 4 (μ 1 (13 + tn (m_of (μ 1) p 1)))) 5 (m_roundsOf (μ 1) p)) 6 ((if 0 ≤ (m_nearestTo (μ 1) p true (m_of (μ 1) p 1)) then g_far (m_of (μ 1) p 1) (m_of (μ 1) (tn (m_nearestTo (μ 1) p true (m_of (μ 1) p 1))) 1) else nI 99)) from ((mc_n (by decide)).trans mc_s), show (mc (mc (mset (mset μ 0 15 (b2i ((if (m_roundsOf (μ 1) p) ≤ 0 then false else true)))) 0 16 (b2i ((if (nI (m_near (μ 1) p false (nI 2))) = 0 then true else false)))) 5 (ups (ups (ups (ups (ups (ups (ups (μ 5) 0 (nI (m_near (μ 1) p true (nI 3)))) 1 (nI (m_near (μ 1) p false (nI 2)))) 2 (m_of (μ 1) p 2)) 3 (nI (tn (μ 1 7)))) 4 (μ 1 (13 + tn (m_of (μ 1) p 1)))) 5 (m_roundsOf (μ 1) p)) 6 ((if 0 ≤ (m_nearestTo (μ 1) p true (m_of (μ 1) p 1)) then g_far (m_of (μ 1) p 1) (m_of (μ 1) (tn (m_nearestTo (μ 1) p true (m_of (μ 1) p 1))) 1) else nI 99)))) 6 a6_178) 6 = a6_178 from mc_s, show (mc (mc (mset (mset μ 0 15 (b2i ((if (m_roundsOf (μ 1) p) ≤ 0 then false else true)))) 0 16 (b2i ((if (nI (m_near (μ 1) p false (nI 2))) = 0 then true else false)))) 5 (ups (ups (ups (ups (ups (ups (ups (μ 5) 0 (nI (m_near (μ 1) p true (nI 3)))) 1 (nI (m_near (μ 1) p false (nI 2)))) 2 (m_of (μ 1) p 2)) 3 (nI (tn (μ 1 7)))) 4 (μ 1 (13 + tn (m_of (μ 1) p 1)))) 5 (m_roundsOf (μ 1) p)) 6 ((if 0 ≤ (m_nearestTo (μ 1) p true (m_of (μ 1) p 1)) then g_far (m_of (μ 1) p 1) (m_of (μ 1) (tn (m_nearestTo (μ 1) p true (m_of (μ 1) p 1))) 1) else nI 99)))) 6 a6_178) 0 15 = b2i ((if (m_roundsOf (μ 1) p) ≤ 0 then false else true)) from ((congrFun (mc_n (by decide)) 15).trans ((congrFun (mc_n (by decide)) 15).trans ((rd_skip (by decide)).trans rd_hit))), show (mc (mc (mset (mset μ 0 15 (b2i ((if (m_roundsOf (μ 1) p) ≤ 0 then false else true)))) 0 16 (b2i ((if (nI (m_near (μ 1) p false (nI 2))) = 0 then true else false)))) 5 (ups (ups (ups (ups (ups (ups (ups (μ 5) 0 (nI (m_near (μ 1) p true (nI 3)))) 1 (nI (m_near (μ 1) p false (nI 2)))) 2 (m_of (μ 1) p 2)) 3 (nI (tn (μ 1 7)))) 4 (μ 1 (13 + tn (m_of (μ 1) p 1)))) 5 (m_roundsOf (μ 1) p)) 6 ((if 0 ≤ (m_nearestTo (μ 1) p true (m_of (μ 1) p 1)) then g_far (m_of (μ 1) p 1) (m_of (μ 1) (tn (m_nearestTo (μ 1) p true (m_of (μ 1) p 1))) 1) else nI 99)))) 6 a6_178) 0 16 = b2i ((if (nI (m_near (μ 1) p false (nI 2))) = 0 then true else false)) from ((congrFun (mc_n (by decide)) 16).trans ((congrFun (mc_n (by decide)) 16).trans rd_hit)), show (mc (mc (mset (mset μ 0 15 (b2i ((if (m_roundsOf (μ 1) p) ≤ 0 then false else true)))) 0 16 (b2i ((if (nI (m_near (μ 1) p false (nI 2))) = 0 then true else false)))) 5 (ups (ups (ups (ups (ups (ups (ups (μ 5) 0 (nI (m_near (μ 1) p true (nI 3)))) 1 (nI (m_near (μ 1) p false (nI 2)))) 2 (m_of (μ 1) p 2)) 3 (nI (tn (μ 1 7)))) 4 (μ 1 (13 + tn (m_of (μ 1) p 1)))) 5 (m_roundsOf (μ 1) p)) 6 ((if 0 ≤ (m_nearestTo (μ 1) p true (m_of (μ 1) p 1)) then g_far (m_of (μ 1) p 1) (m_of (μ 1) (tn (m_nearestTo (μ 1) p true (m_of (μ 1) p 1))) 1) else nI 99)))) 6 a6_178) 0 17 = μ 0 17 from ((congrFun (mc_n (by decide)) 17).trans ((congrFun (mc_n (by decide)) 17).trans ((rd_skip (by decide)).trans (rd_skip (by decide)))))]) ?_
                refine x_weak (Ω' := MS G adr h0 (mc (mc (mset (mset μ 0 15 (b2i ((if (m_roundsOf (μ 1) p) ≤ 0 then false else true)))) 0 16 (b2i ((if (nI (m_near (μ 1) p false (nI 2))) = 0 then true else false)))) 5 (ups (ups (ups (ups (ups (ups (ups (μ 5) 0 (nI (m_near (μ 1) p true (nI 3)))) 1 (nI (m_near (μ 1) p false (nI 2)))) 2 (m_of (μ 1) p 2)) 3 (nI (tn (μ 1 7)))) 4 (μ 1 (13 + tn (m_of (μ 1) p 1)))) 5 (m_roundsOf (μ 1) p)) 6 ((if 0 ≤ (m_nearestTo (μ 1) p true (m_of (μ 1) p 1)) then g_far (m_of (μ 1) p 1) (m_of (μ 1) (tn (m_nearestTo (μ 1) p true (m_of (μ 1) p 1))) 1) else nI 99)))) 6 (m_holdsLine_c6 (μ 1) (ups (ups (ups (ups (ups (ups (ups (μ 5) 0 (nI (m_near (μ 1) p true (nI 3)))) 1 (nI (m_near (μ 1) p false (nI 2)))) 2 (m_of (μ 1) p 2)) 3 (nI (tn (μ 1 7)))) 4 (μ 1 (13 + tn (m_of (μ 1) p 1)))) 5 (m_roundsOf (μ 1) p)) 6 ((if 0 ≤ (m_nearestTo (μ 1) p true (m_of (μ 1) p 1)) then g_far (m_of (μ 1) p 1) (m_of (μ 1) (tn (m_nearestTo (μ 1) p true (m_of (μ 1) p 1))) 1) else nI 99))) a6_178 (b2i ((if (m_roundsOf (μ 1) p) ≤ 0 then false else true))) (b2i ((if (nI (m_near (μ 1) p false (nI 2))) = 0 then true else false))) (μ 0 17) (tn (m_of (μ 1) p 5)) i4_178))) (fun _ m => by rw [show (mc (mc (mset (mset μ 0 15 (b2i ((if (m_roundsOf (μ 1) p) ≤ 0 then false else true)))) 0 16 (b2i ((if (nI (m_near (μ 1) p false (nI 2))) = 0 then true else false)))) 5 (ups (ups (ups (ups (ups (ups (ups (μ 5) 0 (nI (m_near (μ 1) p true (nI 3)))) 1 (nI (m_near (μ 1) p false (nI 2)))) 2 (m_of (μ 1) p 2)) 3 (nI (tn (μ 1 7)))) 4 (μ 1 (13 + tn (m_of (μ 1) p 1)))) 5 (m_roundsOf (μ 1) p)) 6 ((if 0 ≤ (m_nearestTo (μ 1) p true (m_of (μ 1) p 1)) then g_far (m_of (μ 1) p 1) (m_of (μ 1) (tn (m_nearestTo (μ 1) p true (m_of (μ 1) p 1))) 1) else nI 99)))) 6 a6_178) 1 = μ 1 from ((mc_n (by decide)).trans ((mc_n (by decide)).trans ((mset_n (by decide)).trans (mset_n (by decide))))), show (mc (mc (mset (mset μ 0 15 (b2i ((if (m_roundsOf (μ 1) p) ≤ 0 then false else true)))) 0 16 (b2i ((if (nI (m_near (μ 1) p false (nI 2))) = 0 then true else false)))) 5 (ups (ups (ups (ups (ups (ups (ups (μ 5) 0 (nI (m_near (μ 1) p true (nI 3)))) 1 (nI (m_near (μ 1) p false (nI 2)))) 2 (m_of (μ 1) p 2)) 3 (nI (tn (μ 1 7)))) 4 (μ 1 (13 + tn (m_of (μ 1) p 1)))) 5 (m_roundsOf (μ 1) p)) 6 ((if 0 ≤ (m_nearestTo (μ 1) p true (m_of (μ 1) p 1)) then g_far (m_of (μ 1) p 1) (m_of (μ 1) (tn (m_nearestTo (μ 1) p true (m_of (μ 1) p 1))) 1) else nI 99)))) 6 a6_178) 5 = ups (ups (ups (ups (ups (ups (ups (μ 5) 0 (nI (m_near (μ 1) p true (nI 3)))) 1 (nI (m_near (μ 1) p false (nI 2)))) 2 (m_of (μ 1) p 2)) 3 (nI (tn (μ 1 7)))) 4 (μ 1 (13 + tn (m_of (μ 1) p 1)))) 5 (m_roundsOf (μ 1) p)) 6 ((if 0 ≤ (m_nearestTo (μ 1) p true (m_of (μ 1) p 1)) then g_far (m_of (μ 1) p 1) (m_of (μ 1) (tn (m_nearestTo (μ 1) p true (m_of (μ 1) p 1))) 1) else nI 99)) from ((mc_n (by decide)).trans mc_s), show (mc (mc (mset (mset μ 0 15 (b2i ((if (m_roundsOf (μ 1) p) ≤ 0 then false else true)))) 0 16 (b2i ((if (nI (m_near (μ 1) p false (nI 2))) = 0 then true else false)))) 5 (ups (ups (ups (ups (ups (ups (ups (μ 5) 0 (nI (m_near (μ 1) p true (nI 3)))) 1 (nI (m_near (μ 1) p false (nI 2)))) 2 (m_of (μ 1) p 2)) 3 (nI (tn (μ 1 7)))) 4 (μ 1 (13 + tn (m_of (μ 1) p 1)))) 5 (m_roundsOf (μ 1) p)) 6 ((if 0 ≤ (m_nearestTo (μ 1) p true (m_of (μ 1) p 1)) then g_far (m_of (μ 1) p 1) (m_of (μ 1) (tn (m_nearestTo (μ 1) p true (m_of (μ 1) p 1))) 1) else nI 99)))) 6 a6_178) 6 = a6_178 from mc_s, show (mc (mc (mset (mset μ 0 15 (b2i ((if (m_roundsOf (μ 1) p) ≤ 0 then false else true)))) 0 16 (b2i ((if (nI (m_near (μ 1) p false (nI 2))) = 0 then true else false)))) 5 (ups (ups (ups (ups (ups (ups (ups (μ 5) 0 (nI (m_near (μ 1) p true (nI 3)))) 1 (nI (m_near (μ 1) p false (nI 2)))) 2 (m_of (μ 1) p 2)) 3 (nI (tn (μ 1 7)))) 4 (μ 1 (13 + tn (m_of (μ 1) p 1)))) 5 (m_roundsOf (μ 1) p)) 6 ((if 0 ≤ (m_nearestTo (μ 1) p true (m_of (μ 1) p 1)) then g_far (m_of (μ 1) p 1) (m_of (μ 1) (tn (m_nearestTo (μ 1) p true (m_of (μ 1) p 1))) 1) else nI 99)))) 6 a6_178) 0 15 = b2i ((if (m_roundsOf (μ 1) p) ≤ 0 then false else true)) from ((congrFun (mc_n (by decide)) 15).trans ((congrFun (mc_n (by decide)) 15).trans ((rd_skip (by decide)).trans rd_hit))), show (mc (mc (mset (mset μ 0 15 (b2i ((if (m_roundsOf (μ 1) p) ≤ 0 then false else true)))) 0 16 (b2i ((if (nI (m_near (μ 1) p false (nI 2))) = 0 then true else false)))) 5 (ups (ups (ups (ups (ups (ups (ups (μ 5) 0 (nI (m_near (μ 1) p true (nI 3)))) 1 (nI (m_near (μ 1) p false (nI 2)))) 2 (m_of (μ 1) p 2)) 3 (nI (tn (μ 1 7)))) 4 (μ 1 (13 + tn (m_of (μ 1) p 1)))) 5 (m_roundsOf (μ 1) p)) 6 ((if 0 ≤ (m_nearestTo (μ 1) p true (m_of (μ 1) p 1)) then g_far (m_of (μ 1) p 1) (m_of (μ 1) (tn (m_nearestTo (μ 1) p true (m_of (μ 1) p 1))) 1) else nI 99)))) 6 a6_178) 0 16 = b2i ((if (nI (m_near (μ 1) p false (nI 2))) = 0 then true else false)) from ((congrFun (mc_n (by decide)) 16).trans ((congrFun (mc_n (by decide)) 16).trans rd_hit)), show (mc (mc (mset (mset μ 0 15 (b2i ((if (m_roundsOf (μ 1) p) ≤ 0 then false else true)))) 0 16 (b2i ((if (nI (m_near (μ 1) p false (nI 2))) = 0 then true else false)))) 5 (ups (ups (ups (ups (ups (ups (ups (μ 5) 0 (nI (m_near (μ 1) p true (nI 3)))) 1 (nI (m_near (μ 1) p false (nI 2)))) 2 (m_of (μ 1) p 2)) 3 (nI (tn (μ 1 7)))) 4 (μ 1 (13 + tn (m_of (μ 1) p 1)))) 5 (m_roundsOf (μ 1) p)) 6 ((if 0 ≤ (m_nearestTo (μ 1) p true (m_of (μ 1) p 1)) then g_far (m_of (μ 1) p 1) (m_of (μ 1) (tn (m_nearestTo (μ 1) p true (m_of (μ 1) p 1))) 1) else nI 99)))) 6 a6_178) 0 17 = μ 0 17 from ((congrFun (mc_n (by decide)) 17).trans ((congrFun (mc_n (by decide)) 17).trans ((rd_skip (by decide)).trans (rd_skip (by decide)))))] at m; exact m.eq cc_s) ?_
                refine x_ifeqB O 214 dX6_sortOf_199 (by decide) (fun c199 => ?_) (fun c199 => ?_)
                · refine x_iincN O 0 [(4, .int (nI (i4_178 + 1))), (2, .int (m_of (μ 1) p 5)), (0, .ref (adr 0))] dX6_sortOf_214 rfl rfl rfl ?_
                  refine x_goto O 178 dX6_sortOf_217 (by decide) ?_
                  obtain ⟨c2_, rfl⟩ : ∃ z, cc_ = z + 1 := ⟨cc_ - 1, by omega⟩
                  have hs_ : (fun i s => m_sortOf_b178 (μ 1) (μ 5) (μ 6) (μ 0 15) (μ 0 16) (μ 0 17) p i s) i4_178 a6_178 = .inl (m_holdsLine_c6 (μ 1) (ups (ups (ups (ups (ups (ups (ups (μ 5) 0 (nI (m_near (μ 1) p true (nI 3)))) 1 (nI (m_near (μ 1) p false (nI 2)))) 2 (m_of (μ 1) p 2)) 3 (nI (tn (μ 1 7)))) 4 (μ 1 (13 + tn (m_of (μ 1) p 1)))) 5 (m_roundsOf (μ 1) p)) 6 ((if 0 ≤ (m_nearestTo (μ 1) p true (m_of (μ 1) p 1)) then g_far (m_of (μ 1) p 1) (m_of (μ 1) (tn (m_nearestTo (μ 1) p true (m_of (μ 1) p 1))) 1) else nI 99))) a6_178 (b2i ((if (m_roundsOf (μ 1) p) ≤ 0 then false else true))) (b2i ((if (nI (m_near (μ 1) p false (nI 2))) = 0 then true else false))) (μ 0 17) (tn (m_of (μ 1) p 5)) i4_178) := by show m_sortOf_b178 (μ 1) (μ 5) (μ 6) (μ 0 15) (μ 0 16) (μ 0 17) p i4_178 a6_178 = _; unfold m_sortOf_b178; rw [if_neg c199]
                  exact IH_ c2_ (by omega) _ _ (by omega) (by omega) (by have := (gO_nn' hx.2.2 c8).2; have := (hT (tn (m_of (μ 1) p 5)) (by omega)).1.2; omega) (fun y0 hy_ => K_ y0 ((frx_step hs_).trans hy_)) (fun v_ hv_ => K2_ v_ ((frx_step hs_).trans hv_))
                · refine x_aload_n O 2 dX6_sortOf_202 rfl rfl ?_
                  refine x_mget O k_X6_13_6 (mg_1 _ _) dX6_sortOf_203 ?_
                  refine x_iload_n O 1 dX6_sortOf_206 rfl rfl ?_
                  refine x_top (v' := nI (tn (m_of (μ 1) p 5))) ((gO_nn' hx.2.2 c8).1) ?_
                  refine x_iload O 0 dX6_sortOf_207 rfl ?_
                  refine x_cS O 2 (c_m_lineAt (tn (m_of (μ 1) p 5)) i4_178) (lw_S q1842 q1843 q111 q1844) hd_X6_lineAt rfl (by rw [RF]; rfl) (by rw [RL]; rfl) ⟨Nat.zero_le _, Nat.zero_le _⟩ rfl rfl dX6_sortOf_209 ?_
                  refine x_top (v' := nI (m_lineAt (tn (m_of (μ 1) p 5)) i4_178)) rfl ?_
                  refine x_ialdN O MS.c1 (by have := (gO_nn' hx.2.2 c8).2; have := (hT (tn (m_of (μ 1) p 5)) (by omega)).1.2; unfold m_lineAt m_textAt; omega) rfl dX6_sortOf_212 ?_
                  refine x_top (v' := μ 1 (m_lineAt (tn (m_of (μ 1) p 5)) i4_178)) ((congrFun (mc_n (by decide)) (m_lineAt (tn (m_of (μ 1) p 5)) i4_178)).trans ((congrFun (mc_n (by decide)) (m_lineAt (tn (m_of (μ 1) p 5)) i4_178)).trans ((congrFun (mset_n (by decide)) (m_lineAt (tn (m_of (μ 1) p 5)) i4_178)).trans (congrFun (mset_n (by decide)) (m_lineAt (tn (m_of (μ 1) p 5)) i4_178))))) ?_
                  obtain ⟨c2_, rfl⟩ : ∃ z, cc_ = z + 1 := ⟨cc_ - 1, by omega⟩
                  have hs_ : (fun i s => m_sortOf_b178 (μ 1) (μ 5) (μ 6) (μ 0 15) (μ 0 16) (μ 0 17) p i s) i4_178 a6_178 = .inr (μ 1 (m_lineAt (tn (m_of (μ 1) p 5)) i4_178), m_holdsLine_c6 (μ 1) (ups (ups (ups (ups (ups (ups (ups (μ 5) 0 (nI (m_near (μ 1) p true (nI 3)))) 1 (nI (m_near (μ 1) p false (nI 2)))) 2 (m_of (μ 1) p 2)) 3 (nI (tn (μ 1 7)))) 4 (μ 1 (13 + tn (m_of (μ 1) p 1)))) 5 (m_roundsOf (μ 1) p)) 6 ((if 0 ≤ (m_nearestTo (μ 1) p true (m_of (μ 1) p 1)) then g_far (m_of (μ 1) p 1) (m_of (μ 1) (tn (m_nearestTo (μ 1) p true (m_of (μ 1) p 1))) 1) else nI 99))) a6_178 (b2i ((if (m_roundsOf (μ 1) p) ≤ 0 then false else true))) (b2i ((if (nI (m_near (μ 1) p false (nI 2))) = 0 then true else false))) (μ 0 17) (tn (m_of (μ 1) p 5)) i4_178) := by show m_sortOf_b178 (μ 1) (μ 5) (μ 6) (μ 0 15) (μ 0 16) (μ 0 17) p i4_178 a6_178 = _; unfold m_sortOf_b178; rw [if_pos c199]
                  obtain ⟨hk15, hk16⟩ := K2_ _ (frx_stop hs_)
                  exact x_iretQ O hQ rfl dX6_sortOf_213 (fun h m => ⟨by rw [hk15], by rw [hr5, hr6, hr7, hk16]; exact m.eq rfl⟩)
          refine x_weak (Ω' := MS G adr h0 ((mc (mc (mset (mset μ 0 15 (b2i ((if (m_roundsOf (μ 1) p) ≤ 0 then false else true)))) 0 16 (b2i ((if (nI (m_near (μ 1) p false (nI 2))) = 0 then true else false)))) 5 (ups (ups (ups (ups (ups (ups (ups (μ 5) 0 (nI (m_near (μ 1) p true (nI 3)))) 1 (nI (m_near (μ 1) p false (nI 2)))) 2 (m_of (μ 1) p 2)) 3 (nI (tn (μ 1 7)))) 4 (μ 1 (13 + tn (m_of (μ 1) p 1)))) 5 (m_roundsOf (μ 1) p)) 6 ((if 0 ≤ (m_nearestTo (μ 1) p true (m_of (μ 1) p 1)) then g_far (m_of (μ 1) p 1) (m_of (μ 1) (tn (m_nearestTo (μ 1) p true (m_of (μ 1) p 1))) 1) else nI 99)))) 6 (μ 6)))) (fun _ m => m.eq (mc_id (c := 6) (f := μ 6) (by rfl)).symm) ?_
          refine LOOP178 (tn (μ 1 (m_textAt (tn (m_of (μ 1) p 5))))) 0 (μ 6) rfl (by omega) (by omega) (fun y0 hy_178 => ?_) (fun v_ hv_ => ⟨by rw [hr4, hv_], by rw [hr8, hv_]⟩)
          obtain ⟨y_178, hyy_178⟩ : ∃ z : (Nat → Int32), z = y0 := ⟨_, rfl⟩
          rw [hy_178] at hr4
          rw [hy_178] at hr8
          rw [← hyy_178] at hr4 hr8
          subst hyy_178
          refine x_iconst O (nI 3) dX6_sortOf_220 (by decide) ?_
          exact x_iretQ O hQ rfl dX6_sortOf_221 (fun h m => ⟨by rw [hr4], by rw [hr5, hr6, hr7, hr8]; exact m.eq rfl⟩)
        refine x_ifne O 171 dX6_sortOf_164 (by decide) (fun c164 => ?_) (fun c164 => ?_)
        · refine x_iconst O (nI 0) dX6_sortOf_171 (by decide) ?_
          refine x_top (v' := b2i false) (by decide) ?_
          exact J13 false (by rw [if_neg c164])
        · refine x_iconst O (nI 1) dX6_sortOf_167 (by decide) ?_
          refine x_goto O 172 dX6_sortOf_168 (by decide) ?_
          refine x_top (v' := b2i true) (by decide) ?_
          exact J13 true (by rw [if_pos c164])
      refine x_ifle O 153 dX6_sortOf_146 (by decide) (fun c146 => ?_) (fun c146 => ?_)
      · refine x_iconst O (nI 0) dX6_sortOf_153 (by decide) ?_
        refine x_top (v' := b2i false) (by decide) ?_
        exact J11 false (by rw [if_pos c146])
      · refine x_iconst O (nI 1) dX6_sortOf_149 (by decide) ?_
        refine x_goto O 154 dX6_sortOf_150 (by decide) ?_
        refine x_top (v' := b2i true) (by decide) ?_
        exact J11 true (by rw [if_neg c146])
    refine x_ifge O 123 dX6_sortOf_115 (by decide) (fun c115 => ?_) (fun c115 => ?_)
    · refine x_aload_n O 2 dX6_sortOf_123 rfl rfl ?_
      refine x_iload_n O 3 dX6_sortOf_124 rfl rfl ?_
      refine x_iconst O (nI 1) dX6_sortOf_125 (by decide) ?_
      refine x_cV O 2 (c_m_of (μ := (mc μ 5 (ups (ups (ups (ups (ups (ups (μ 5) 0 (nI (m_near (μ 1) p true (nI 3)))) 1 (nI (m_near (μ 1) p false (nI 2)))) 2 (m_of (μ 1) p 2)) 3 (nI (tn (μ 1 7)))) 4 (μ 1 (13 + tn (m_of (μ 1) p 1)))) 5 (m_roundsOf (μ 1) p)))) p 1 (by omega) (by omega)) MS.obj uc6 (lw_V q1968 q1970 qs60 q111 q1971) rfl hd_X6_of rfl (by rw [RF]; rfl) (by rw [RL]; rfl) ⟨Nat.zero_le _, Nat.zero_le _⟩ rfl rfl dX6_sortOf_126 ?_
      refine x_top (v' := m_of (μ 1) p 1) (by rw [show (mc μ 5 (ups (ups (ups (ups (ups (ups (μ 5) 0 (nI (m_near (μ 1) p true (nI 3)))) 1 (nI (m_near (μ 1) p false (nI 2)))) 2 (m_of (μ 1) p 2)) 3 (nI (tn (μ 1 7)))) 4 (μ 1 (13 + tn (m_of (μ 1) p 1)))) 5 (m_roundsOf (μ 1) p))) 1 = μ 1 from (mc_n (by decide))]) ?_
      refine x_aload_n O 2 dX6_sortOf_129 rfl rfl ?_
      refine x_iload_n O 0 dX6_sortOf_130 rfl rfl ?_
      refine x_top (v' := nI (tn (m_nearestTo (μ 1) p true (m_of (μ 1) p 1)))) ((gO_nn' (near_gO hI) c115).1) ?_
      refine x_iconst O (nI 1) dX6_sortOf_131 (by decide) ?_
      refine x_cV O 2 (c_m_of (μ := (mc μ 5 (ups (ups (ups (ups (ups (ups (μ 5) 0 (nI (m_near (μ 1) p true (nI 3)))) 1 (nI (m_near (μ 1) p false (nI 2)))) 2 (m_of (μ 1) p 2)) 3 (nI (tn (μ 1 7)))) 4 (μ 1 (13 + tn (m_of (μ 1) p 1)))) 5 (m_roundsOf (μ 1) p)))) (tn (m_nearestTo (μ 1) p true (m_of (μ 1) p 1))) 1 (by have := (gO_nn' (near_gO (p := p) (foes := true) (cell := m_of (μ 1) p 1) hI) c115).2; omega) (by omega)) MS.obj uc6 (lw_V q1968 q1970 qs60 q111 q1971) rfl hd_X6_of rfl (by rw [RF]; rfl) (by rw [RL]; rfl) ⟨Nat.zero_le _, Nat.zero_le _⟩ rfl rfl dX6_sortOf_132 ?_
      refine x_top (v' := m_of (μ 1) (tn (m_nearestTo (μ 1) p true (m_of (μ 1) p 1))) 1) (by rw [show (mc μ 5 (ups (ups (ups (ups (ups (ups (μ 5) 0 (nI (m_near (μ 1) p true (nI 3)))) 1 (nI (m_near (μ 1) p false (nI 2)))) 2 (m_of (μ 1) p 2)) 3 (nI (tn (μ 1 7)))) 4 (μ 1 (13 + tn (m_of (μ 1) p 1)))) 5 (m_roundsOf (μ 1) p))) 1 = μ 1 from (mc_n (by decide))]) ?_
      refine x_cS O 2 (c_g_far (m_of (μ 1) p 1) (m_of (μ 1) (tn (m_nearestTo (μ 1) p true (m_of (μ 1) p 1))) 1)) (lw_S q1795 q1796 q111 q1797) hd_X6_far rfl (by rw [RF]; rfl) (by rw [RL]; rfl) ⟨Nat.zero_le _, Nat.zero_le _⟩ rfl rfl dX6_sortOf_135 ?_
      refine x_top (v' := g_far (m_of (μ 1) p 1) (m_of (μ 1) (tn (m_nearestTo (μ 1) p true (m_of (μ 1) p 1))) 1)) rfl ?_
      refine x_sub [1, 2] rfl ?_
      exact J9 (g_far (m_of (μ 1) p 1) (m_of (μ 1) (tn (m_nearestTo (μ 1) p true (m_of (μ 1) p 1))) 1)) (by rw [if_pos c115])
    · refine x_sub [1, 2] (L' := [(2, .int (m_of (μ 1) p 5)), (0, .ref (adr 0))]) rfl ?_
      refine x_bipush O (nI 99) dX6_sortOf_118 (by decide) ?_
      refine x_goto O 138 dX6_sortOf_120 (by decide) ?_
      exact J9 (nI 99) (by rw [if_neg c115])
  · have hr17 := hres.trans (if_neg c8)
    have hr18 := hrs0.trans (if_neg c8)
    have hr19 := hrs1.trans (if_neg c8)
    have hr20 := hrs2.trans (if_neg c8)
    have hr21 := hrs3.trans (if_neg c8)
    refine x_sub [1] (L' := [(0, .ref (adr 0))]) rfl ?_
    refine x_iconst O (nI 3) dX6_sortOf_11 (by decide) ?_
    exact x_iretQ O hQ rfl dX6_sortOf_12 (fun h m => ⟨by rw [hr17], by rw [hr18, hr19, hr20, hr21]; exact m.eq ((mf_id (k := 15) (v := μ 0 15) (by rfl)).symm.trans ((mf_id (k := 16) (v := μ 0 16) (by rfl)).symm.trans ((mc_id (c := 5) (f := μ 5) (by rfl)).symm.trans (mc_id (c := 6) (f := μ 6) (by rfl)).symm)))⟩)
