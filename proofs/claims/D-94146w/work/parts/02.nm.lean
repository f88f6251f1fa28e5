/-! DECODE ROWS BY BYTES: one lemma an opcode; a method's code is cut into short pieces once, and a row reads its own piece alone. -/
set_option maxRecDepth 100000
/-- the code has just these bytes from pc on -/
def DkAt (code : ByteArray) (pc : Nat) (bs : List UInt8) : Prop := ∀ (j : Nat) (b : UInt8), bs[j]? = some b → code.data.toList[pc + j]? = some b
/-- the piece W has the bytes bs from its place j on -/
def dkIn (W : List UInt8) (j : Nat) (bs : List UInt8) : Bool := decide ((W.drop j).take bs.length = bs)
theorem dk_seg {l W T : List UInt8} {o o2 : Nat} (h : l.drop o = W ++ T) (n : Nat) (hn : W.length = n) (ho : o + n = o2) : l.drop o2 = T := by
  subst ho
  rw [← List.drop_drop, h, List.drop_left' hn]
theorem dk_at {code : ByteArray} {W T bs : List UInt8} {o pc : Nat} (h : code.data.toList.drop o = W ++ T) (j : Nat) (hp : o + j = pc) (hw : dkIn W j bs = true) : DkAt code pc bs := by
  subst hp
  intro i b e
  have h1 := of_decide_eq_true hw
  have h2 : i < bs.length := (List.getElem?_eq_some_iff.mp e).1
  have h3 : W[j + i]? = some b := by
    rw [← h1, List.getElem?_take, if_pos h2, List.getElem?_drop] at e
    exact e
  have h4 : j + i < W.length := (List.getElem?_eq_some_iff.mp h3).1
  have h5 : (code.data.toList.drop o)[j + i]? = some b := by
    rw [h, List.getElem?_append_left h4]
    exact h3
  rw [List.getElem?_drop, ← Nat.add_assoc] at h5
  exact h5
theorem dk_u1 {A : ByteArray} {p : Nat} {b : UInt8} (h : A.data.toList[p]? = some b) : (Reader.u1 : Reader DecodeError Nat) A p = .ok (b.toNat, p + 1) := by
  obtain ⟨h1, h2⟩ := List.getElem?_eq_some_iff.mp h
  have h3 : p < A.size := by simpa using h1
  have h4 : A[p]'h3 = b := h2
  have e : (Reader.u1 : Reader DecodeError Nat) A p = (if h : p < A.size then .ok (A[p].toNat, p + 1) else .error (HasTruncated.truncated p)) := by
    show (do if h : p < A.size then do set (p + 1); Pure.pure A[p].toNat else MonadExcept.throw (HasTruncated.truncated p) : Reader DecodeError Nat) A p = _
    by_cases hi : p < A.size
    · rw [dif_pos hi, dif_pos hi]; rfl
    · rw [dif_neg hi, dif_neg hi]; rfl
  rw [e, dif_pos h3, h4]
theorem dk_bind {α β : Type} {r : Reader DecodeError α} {f : α → Reader DecodeError β} {A : ByteArray} {p s : Nat} {a : α} (h : r A p = .ok (a, s)) : (r >>= f) A p = f a A s := by
  show (do let (a, s) ← r A p; f a A s : Except DecodeError (β × Nat)) = _
  rw [h]
  rfl
theorem dk_map {α β : Type} {r : Reader DecodeError α} {g : α → β} {A : ByteArray} {p s : Nat} {a : α} (h : r A p = .ok (a, s)) : (g <$> r) A p = .ok (g a, s) := by
  show (do let (a, s) ← r A p; .ok (g a, s) : Except DecodeError (β × Nat)) = _
  rw [h]
  rfl
theorem dk_u2 {A : ByteArray} {p : Nat} {a b : UInt8} (h : A.data.toList[p]? = some a) (h2 : A.data.toList[p + 1]? = some b) : (Reader.u2 : Reader DecodeError Nat) A p = .ok (a.toNat * 256 + b.toNat, p + 2) := by
  show (Reader.u1 >>= fun hi => Reader.u1 >>= fun lo => Pure.pure (hi * 256 + lo) : Reader DecodeError Nat) A p = _
  rw [dk_bind (dk_u1 h), dk_bind (dk_u1 h2)]
  rfl
theorem dk_of {code : ByteArray} {pc n : Nat} {i : Instr} (h : Decoder.instr pc code pc = .ok (i, pc + n)) : decode code pc = .ok (i, n) := by
  have e : decode code pc = (match Decoder.instr pc code pc with | .error x => .error x | .ok (j, s) => .ok (j, s - pc)) := by
    show (do let (j, s) ← Decoder.instr pc code pc; Pure.pure (j, s - pc) : Except DecodeError (Instr × Nat)) = _
    cases Decoder.instr pc code pc <;> rfl
  rw [e, h]
  show Except.ok (i, pc + n - pc) = _
  rw [Nat.add_sub_cancel_left]
theorem dk_1 {code : ByteArray} {pc : Nat} (h : DkAt code pc [1]) : decode code pc = .ok (.aconst_null, 1) := dk_of ((dk_bind (dk_u1 (h 0 _ rfl))).trans rfl)
theorem dk_2 {code : ByteArray} {pc : Nat} (h : DkAt code pc [2]) : decode code pc = .ok (.iconst (-1), 1) := dk_of ((dk_bind (dk_u1 (h 0 _ rfl))).trans rfl)
theorem dk_3 {code : ByteArray} {pc : Nat} (h : DkAt code pc [3]) : decode code pc = .ok (.iconst 0, 1) := dk_of ((dk_bind (dk_u1 (h 0 _ rfl))).trans rfl)
theorem dk_4 {code : ByteArray} {pc : Nat} (h : DkAt code pc [4]) : decode code pc = .ok (.iconst 1, 1) := dk_of ((dk_bind (dk_u1 (h 0 _ rfl))).trans rfl)
theorem dk_5 {code : ByteArray} {pc : Nat} (h : DkAt code pc [5]) : decode code pc = .ok (.iconst 2, 1) := dk_of ((dk_bind (dk_u1 (h 0 _ rfl))).trans rfl)
theorem dk_6 {code : ByteArray} {pc : Nat} (h : DkAt code pc [6]) : decode code pc = .ok (.iconst 3, 1) := dk_of ((dk_bind (dk_u1 (h 0 _ rfl))).trans rfl)
theorem dk_7 {code : ByteArray} {pc : Nat} (h : DkAt code pc [7]) : decode code pc = .ok (.iconst 4, 1) := dk_of ((dk_bind (dk_u1 (h 0 _ rfl))).trans rfl)
theorem dk_8 {code : ByteArray} {pc : Nat} (h : DkAt code pc [8]) : decode code pc = .ok (.iconst 5, 1) := dk_of ((dk_bind (dk_u1 (h 0 _ rfl))).trans rfl)
theorem dk_9 {code : ByteArray} {pc : Nat} (h : DkAt code pc [9]) : decode code pc = .ok (.lconst 0, 1) := dk_of ((dk_bind (dk_u1 (h 0 _ rfl))).trans rfl)
theorem dk_10 {code : ByteArray} {pc : Nat} (h : DkAt code pc [10]) : decode code pc = .ok (.lconst 1, 1) := dk_of ((dk_bind (dk_u1 (h 0 _ rfl))).trans rfl)
theorem dk_16 {code : ByteArray} {pc : Nat} (a : UInt8) (h : DkAt code pc [16, a]) : decode code pc = .ok (.bipush (Reader.signed 8 a.toNat), 2) := dk_of ((dk_bind (dk_u1 (h 0 _ rfl))).trans ((dk_bind (dk_map (dk_u1 (h 1 _ rfl)))).trans rfl))
theorem dk_17 {code : ByteArray} {pc : Nat} (a b : UInt8) (h : DkAt code pc [17, a, b]) : decode code pc = .ok (.sipush (Reader.signed 16 (a.toNat * 256 + b.toNat)), 3) := dk_of ((dk_bind (dk_u1 (h 0 _ rfl))).trans ((dk_bind (dk_map (dk_u2 (h 1 _ rfl) (h 2 _ rfl)))).trans rfl))
theorem dk_18 {code : ByteArray} {pc : Nat} (a : UInt8) (h : DkAt code pc [18, a]) : decode code pc = .ok (.ldc a.toNat, 2) := dk_of ((dk_bind (dk_u1 (h 0 _ rfl))).trans ((dk_bind (dk_u1 (h 1 _ rfl))).trans rfl))
theorem dk_19 {code : ByteArray} {pc : Nat} (a b : UInt8) (h : DkAt code pc [19, a, b]) : decode code pc = .ok (.ldc_w (a.toNat * 256 + b.toNat), 3) := dk_of ((dk_bind (dk_u1 (h 0 _ rfl))).trans ((dk_bind (dk_u2 (h 1 _ rfl) (h 2 _ rfl))).trans rfl))
theorem dk_21 {code : ByteArray} {pc : Nat} (a : UInt8) (h : DkAt code pc [21, a]) : decode code pc = .ok (.iload a.toNat, 2) := dk_of ((dk_bind (dk_u1 (h 0 _ rfl))).trans ((dk_bind (dk_u1 (h 1 _ rfl))).trans rfl))
theorem dk_25 {code : ByteArray} {pc : Nat} (a : UInt8) (h : DkAt code pc [25, a]) : decode code pc = .ok (.aload a.toNat, 2) := dk_of ((dk_bind (dk_u1 (h 0 _ rfl))).trans ((dk_bind (dk_u1 (h 1 _ rfl))).trans rfl))
theorem dk_26 {code : ByteArray} {pc : Nat} (h : DkAt code pc [26]) : decode code pc = .ok (.iload_n 0, 1) := dk_of ((dk_bind (dk_u1 (h 0 _ rfl))).trans rfl)
theorem dk_27 {code : ByteArray} {pc : Nat} (h : DkAt code pc [27]) : decode code pc = .ok (.iload_n 1, 1) := dk_of ((dk_bind (dk_u1 (h 0 _ rfl))).trans rfl)
theorem dk_28 {code : ByteArray} {pc : Nat} (h : DkAt code pc [28]) : decode code pc = .ok (.iload_n 2, 1) := dk_of ((dk_bind (dk_u1 (h 0 _ rfl))).trans rfl)
theorem dk_29 {code : ByteArray} {pc : Nat} (h : DkAt code pc [29]) : decode code pc = .ok (.iload_n 3, 1) := dk_of ((dk_bind (dk_u1 (h 0 _ rfl))).trans rfl)
theorem dk_32 {code : ByteArray} {pc : Nat} (h : DkAt code pc [32]) : decode code pc = .ok (.lload_n 2, 1) := dk_of ((dk_bind (dk_u1 (h 0 _ rfl))).trans rfl)
theorem dk_42 {code : ByteArray} {pc : Nat} (h : DkAt code pc [42]) : decode code pc = .ok (.aload_n 0, 1) := dk_of ((dk_bind (dk_u1 (h 0 _ rfl))).trans rfl)
theorem dk_43 {code : ByteArray} {pc : Nat} (h : DkAt code pc [43]) : decode code pc = .ok (.aload_n 1, 1) := dk_of ((dk_bind (dk_u1 (h 0 _ rfl))).trans rfl)
theorem dk_44 {code : ByteArray} {pc : Nat} (h : DkAt code pc [44]) : decode code pc = .ok (.aload_n 2, 1) := dk_of ((dk_bind (dk_u1 (h 0 _ rfl))).trans rfl)
theorem dk_45 {code : ByteArray} {pc : Nat} (h : DkAt code pc [45]) : decode code pc = .ok (.aload_n 3, 1) := dk_of ((dk_bind (dk_u1 (h 0 _ rfl))).trans rfl)
theorem dk_46 {code : ByteArray} {pc : Nat} (h : DkAt code pc [46]) : decode code pc = .ok (.iaload, 1) := dk_of ((dk_bind (dk_u1 (h 0 _ rfl))).trans rfl)
theorem dk_47 {code : ByteArray} {pc : Nat} (h : DkAt code pc [47]) : decode code pc = .ok (.laload, 1) := dk_of ((dk_bind (dk_u1 (h 0 _ rfl))).trans rfl)
theorem dk_50 {code : ByteArray} {pc : Nat} (h : DkAt code pc [50]) : decode code pc = .ok (.aaload, 1) := dk_of ((dk_bind (dk_u1 (h 0 _ rfl))).trans rfl)
theorem dk_51 {code : ByteArray} {pc : Nat} (h : DkAt code pc [51]) : decode code pc = .ok (.baload, 1) := dk_of ((dk_bind (dk_u1 (h 0 _ rfl))).trans rfl)
theorem dk_54 {code : ByteArray} {pc : Nat} (a : UInt8) (h : DkAt code pc [54, a]) : decode code pc = .ok (.istore a.toNat, 2) := dk_of ((dk_bind (dk_u1 (h 0 _ rfl))).trans ((dk_bind (dk_u1 (h 1 _ rfl))).trans rfl))
theorem dk_58 {code : ByteArray} {pc : Nat} (a : UInt8) (h : DkAt code pc [58, a]) : decode code pc = .ok (.astore a.toNat, 2) := dk_of ((dk_bind (dk_u1 (h 0 _ rfl))).trans ((dk_bind (dk_u1 (h 1 _ rfl))).trans rfl))
theorem dk_59 {code : ByteArray} {pc : Nat} (h : DkAt code pc [59]) : decode code pc = .ok (.istore_n 0, 1) := dk_of ((dk_bind (dk_u1 (h 0 _ rfl))).trans rfl)
theorem dk_60 {code : ByteArray} {pc : Nat} (h : DkAt code pc [60]) : decode code pc = .ok (.istore_n 1, 1) := dk_of ((dk_bind (dk_u1 (h 0 _ rfl))).trans rfl)
theorem dk_61 {code : ByteArray} {pc : Nat} (h : DkAt code pc [61]) : decode code pc = .ok (.istore_n 2, 1) := dk_of ((dk_bind (dk_u1 (h 0 _ rfl))).trans rfl)
theorem dk_62 {code : ByteArray} {pc : Nat} (h : DkAt code pc [62]) : decode code pc = .ok (.istore_n 3, 1) := dk_of ((dk_bind (dk_u1 (h 0 _ rfl))).trans rfl)
theorem dk_65 {code : ByteArray} {pc : Nat} (h : DkAt code pc [65]) : decode code pc = .ok (.lstore_n 2, 1) := dk_of ((dk_bind (dk_u1 (h 0 _ rfl))).trans rfl)
theorem dk_76 {code : ByteArray} {pc : Nat} (h : DkAt code pc [76]) : decode code pc = .ok (.astore_n 1, 1) := dk_of ((dk_bind (dk_u1 (h 0 _ rfl))).trans rfl)
theorem dk_77 {code : ByteArray} {pc : Nat} (h : DkAt code pc [77]) : decode code pc = .ok (.astore_n 2, 1) := dk_of ((dk_bind (dk_u1 (h 0 _ rfl))).trans rfl)
theorem dk_78 {code : ByteArray} {pc : Nat} (h : DkAt code pc [78]) : decode code pc = .ok (.astore_n 3, 1) := dk_of ((dk_bind (dk_u1 (h 0 _ rfl))).trans rfl)
theorem dk_79 {code : ByteArray} {pc : Nat} (h : DkAt code pc [79]) : decode code pc = .ok (.iastore, 1) := dk_of ((dk_bind (dk_u1 (h 0 _ rfl))).trans rfl)
theorem dk_80 {code : ByteArray} {pc : Nat} (h : DkAt code pc [80]) : decode code pc = .ok (.lastore, 1) := dk_of ((dk_bind (dk_u1 (h 0 _ rfl))).trans rfl)
theorem dk_83 {code : ByteArray} {pc : Nat} (h : DkAt code pc [83]) : decode code pc = .ok (.aastore, 1) := dk_of ((dk_bind (dk_u1 (h 0 _ rfl))).trans rfl)
theorem dk_84 {code : ByteArray} {pc : Nat} (h : DkAt code pc [84]) : decode code pc = .ok (.bastore, 1) := dk_of ((dk_bind (dk_u1 (h 0 _ rfl))).trans rfl)
theorem dk_87 {code : ByteArray} {pc : Nat} (h : DkAt code pc [87]) : decode code pc = .ok (.pop, 1) := dk_of ((dk_bind (dk_u1 (h 0 _ rfl))).trans rfl)
theorem dk_89 {code : ByteArray} {pc : Nat} (h : DkAt code pc [89]) : decode code pc = .ok (.dup, 1) := dk_of ((dk_bind (dk_u1 (h 0 _ rfl))).trans rfl)
theorem dk_92 {code : ByteArray} {pc : Nat} (h : DkAt code pc [92]) : decode code pc = .ok (.dup2, 1) := dk_of ((dk_bind (dk_u1 (h 0 _ rfl))).trans rfl)
theorem dk_96 {code : ByteArray} {pc : Nat} (h : DkAt code pc [96]) : decode code pc = .ok (.iadd, 1) := dk_of ((dk_bind (dk_u1 (h 0 _ rfl))).trans rfl)
theorem dk_97 {code : ByteArray} {pc : Nat} (h : DkAt code pc [97]) : decode code pc = .ok (.ladd, 1) := dk_of ((dk_bind (dk_u1 (h 0 _ rfl))).trans rfl)
theorem dk_100 {code : ByteArray} {pc : Nat} (h : DkAt code pc [100]) : decode code pc = .ok (.isub, 1) := dk_of ((dk_bind (dk_u1 (h 0 _ rfl))).trans rfl)
theorem dk_104 {code : ByteArray} {pc : Nat} (h : DkAt code pc [104]) : decode code pc = .ok (.imul, 1) := dk_of ((dk_bind (dk_u1 (h 0 _ rfl))).trans rfl)
theorem dk_105 {code : ByteArray} {pc : Nat} (h : DkAt code pc [105]) : decode code pc = .ok (.lmul, 1) := dk_of ((dk_bind (dk_u1 (h 0 _ rfl))).trans rfl)
theorem dk_108 {code : ByteArray} {pc : Nat} (h : DkAt code pc [108]) : decode code pc = .ok (.idiv, 1) := dk_of ((dk_bind (dk_u1 (h 0 _ rfl))).trans rfl)
theorem dk_112 {code : ByteArray} {pc : Nat} (h : DkAt code pc [112]) : decode code pc = .ok (.irem, 1) := dk_of ((dk_bind (dk_u1 (h 0 _ rfl))).trans rfl)
theorem dk_116 {code : ByteArray} {pc : Nat} (h : DkAt code pc [116]) : decode code pc = .ok (.ineg, 1) := dk_of ((dk_bind (dk_u1 (h 0 _ rfl))).trans rfl)
theorem dk_120 {code : ByteArray} {pc : Nat} (h : DkAt code pc [120]) : decode code pc = .ok (.ishl, 1) := dk_of ((dk_bind (dk_u1 (h 0 _ rfl))).trans rfl)
theorem dk_122 {code : ByteArray} {pc : Nat} (h : DkAt code pc [122]) : decode code pc = .ok (.ishr, 1) := dk_of ((dk_bind (dk_u1 (h 0 _ rfl))).trans rfl)
theorem dk_124 {code : ByteArray} {pc : Nat} (h : DkAt code pc [124]) : decode code pc = .ok (.iushr, 1) := dk_of ((dk_bind (dk_u1 (h 0 _ rfl))).trans rfl)
theorem dk_126 {code : ByteArray} {pc : Nat} (h : DkAt code pc [126]) : decode code pc = .ok (.iand, 1) := dk_of ((dk_bind (dk_u1 (h 0 _ rfl))).trans rfl)
theorem dk_128 {code : ByteArray} {pc : Nat} (h : DkAt code pc [128]) : decode code pc = .ok (.ior, 1) := dk_of ((dk_bind (dk_u1 (h 0 _ rfl))).trans rfl)
theorem dk_130 {code : ByteArray} {pc : Nat} (h : DkAt code pc [130]) : decode code pc = .ok (.ixor, 1) := dk_of ((dk_bind (dk_u1 (h 0 _ rfl))).trans rfl)
theorem dk_132 {code : ByteArray} {pc : Nat} (a b : UInt8) (h : DkAt code pc [132, a, b]) : decode code pc = .ok (.iinc a.toNat (Reader.signed 8 b.toNat), 3) := dk_of ((dk_bind (dk_u1 (h 0 _ rfl))).trans ((dk_bind (dk_u1 (h 1 _ rfl))).trans ((dk_bind (dk_map (dk_u1 (h 2 _ rfl)))).trans rfl)))
theorem dk_133 {code : ByteArray} {pc : Nat} (h : DkAt code pc [133]) : decode code pc = .ok (.i2l, 1) := dk_of ((dk_bind (dk_u1 (h 0 _ rfl))).trans rfl)
theorem dk_145 {code : ByteArray} {pc : Nat} (h : DkAt code pc [145]) : decode code pc = .ok (.i2b, 1) := dk_of ((dk_bind (dk_u1 (h 0 _ rfl))).trans rfl)
theorem dk_146 {code : ByteArray} {pc : Nat} (h : DkAt code pc [146]) : decode code pc = .ok (.i2c, 1) := dk_of ((dk_bind (dk_u1 (h 0 _ rfl))).trans rfl)
theorem dk_148 {code : ByteArray} {pc : Nat} (h : DkAt code pc [148]) : decode code pc = .ok (.lcmp, 1) := dk_of ((dk_bind (dk_u1 (h 0 _ rfl))).trans rfl)
theorem dk_153 {code : ByteArray} {pc : Nat} (a b : UInt8) (h : DkAt code pc [153, a, b]) : decode code pc = .ok (.ifCond .eq (Reader.signed 16 (a.toNat * 256 + b.toNat)), 3) := dk_of ((dk_bind (dk_u1 (h 0 _ rfl))).trans ((dk_bind (dk_map (dk_u2 (h 1 _ rfl) (h 2 _ rfl)))).trans rfl))
theorem dk_154 {code : ByteArray} {pc : Nat} (a b : UInt8) (h : DkAt code pc [154, a, b]) : decode code pc = .ok (.ifCond .ne (Reader.signed 16 (a.toNat * 256 + b.toNat)), 3) := dk_of ((dk_bind (dk_u1 (h 0 _ rfl))).trans ((dk_bind (dk_map (dk_u2 (h 1 _ rfl) (h 2 _ rfl)))).trans rfl))
theorem dk_155 {code : ByteArray} {pc : Nat} (a b : UInt8) (h : DkAt code pc [155, a, b]) : decode code pc = .ok (.ifCond .lt (Reader.signed 16 (a.toNat * 256 + b.toNat)), 3) := dk_of ((dk_bind (dk_u1 (h 0 _ rfl))).trans ((dk_bind (dk_map (dk_u2 (h 1 _ rfl) (h 2 _ rfl)))).trans rfl))
theorem dk_156 {code : ByteArray} {pc : Nat} (a b : UInt8) (h : DkAt code pc [156, a, b]) : decode code pc = .ok (.ifCond .ge (Reader.signed 16 (a.toNat * 256 + b.toNat)), 3) := dk_of ((dk_bind (dk_u1 (h 0 _ rfl))).trans ((dk_bind (dk_map (dk_u2 (h 1 _ rfl) (h 2 _ rfl)))).trans rfl))
theorem dk_157 {code : ByteArray} {pc : Nat} (a b : UInt8) (h : DkAt code pc [157, a, b]) : decode code pc = .ok (.ifCond .gt (Reader.signed 16 (a.toNat * 256 + b.toNat)), 3) := dk_of ((dk_bind (dk_u1 (h 0 _ rfl))).trans ((dk_bind (dk_map (dk_u2 (h 1 _ rfl) (h 2 _ rfl)))).trans rfl))
theorem dk_158 {code : ByteArray} {pc : Nat} (a b : UInt8) (h : DkAt code pc [158, a, b]) : decode code pc = .ok (.ifCond .le (Reader.signed 16 (a.toNat * 256 + b.toNat)), 3) := dk_of ((dk_bind (dk_u1 (h 0 _ rfl))).trans ((dk_bind (dk_map (dk_u2 (h 1 _ rfl) (h 2 _ rfl)))).trans rfl))
theorem dk_159 {code : ByteArray} {pc : Nat} (a b : UInt8) (h : DkAt code pc [159, a, b]) : decode code pc = .ok (.if_icmp .eq (Reader.signed 16 (a.toNat * 256 + b.toNat)), 3) := dk_of ((dk_bind (dk_u1 (h 0 _ rfl))).trans ((dk_bind (dk_map (dk_u2 (h 1 _ rfl) (h 2 _ rfl)))).trans rfl))
theorem dk_160 {code : ByteArray} {pc : Nat} (a b : UInt8) (h : DkAt code pc [160, a, b]) : decode code pc = .ok (.if_icmp .ne (Reader.signed 16 (a.toNat * 256 + b.toNat)), 3) := dk_of ((dk_bind (dk_u1 (h 0 _ rfl))).trans ((dk_bind (dk_map (dk_u2 (h 1 _ rfl) (h 2 _ rfl)))).trans rfl))
theorem dk_161 {code : ByteArray} {pc : Nat} (a b : UInt8) (h : DkAt code pc [161, a, b]) : decode code pc = .ok (.if_icmp .lt (Reader.signed 16 (a.toNat * 256 + b.toNat)), 3) := dk_of ((dk_bind (dk_u1 (h 0 _ rfl))).trans ((dk_bind (dk_map (dk_u2 (h 1 _ rfl) (h 2 _ rfl)))).trans rfl))
theorem dk_162 {code : ByteArray} {pc : Nat} (a b : UInt8) (h : DkAt code pc [162, a, b]) : decode code pc = .ok (.if_icmp .ge (Reader.signed 16 (a.toNat * 256 + b.toNat)), 3) := dk_of ((dk_bind (dk_u1 (h 0 _ rfl))).trans ((dk_bind (dk_map (dk_u2 (h 1 _ rfl) (h 2 _ rfl)))).trans rfl))
theorem dk_163 {code : ByteArray} {pc : Nat} (a b : UInt8) (h : DkAt code pc [163, a, b]) : decode code pc = .ok (.if_icmp .gt (Reader.signed 16 (a.toNat * 256 + b.toNat)), 3) := dk_of ((dk_bind (dk_u1 (h 0 _ rfl))).trans ((dk_bind (dk_map (dk_u2 (h 1 _ rfl) (h 2 _ rfl)))).trans rfl))
theorem dk_164 {code : ByteArray} {pc : Nat} (a b : UInt8) (h : DkAt code pc [164, a, b]) : decode code pc = .ok (.if_icmp .le (Reader.signed 16 (a.toNat * 256 + b.toNat)), 3) := dk_of ((dk_bind (dk_u1 (h 0 _ rfl))).trans ((dk_bind (dk_map (dk_u2 (h 1 _ rfl) (h 2 _ rfl)))).trans rfl))
theorem dk_165 {code : ByteArray} {pc : Nat} (a b : UInt8) (h : DkAt code pc [165, a, b]) : decode code pc = .ok (.if_acmp .eq (Reader.signed 16 (a.toNat * 256 + b.toNat)), 3) := dk_of ((dk_bind (dk_u1 (h 0 _ rfl))).trans ((dk_bind (dk_map (dk_u2 (h 1 _ rfl) (h 2 _ rfl)))).trans rfl))
theorem dk_167 {code : ByteArray} {pc : Nat} (a b : UInt8) (h : DkAt code pc [167, a, b]) : decode code pc = .ok (.goto (Reader.signed 16 (a.toNat * 256 + b.toNat)), 3) := dk_of ((dk_bind (dk_u1 (h 0 _ rfl))).trans ((dk_bind (dk_map (dk_u2 (h 1 _ rfl) (h 2 _ rfl)))).trans rfl))
theorem dk_172 {code : ByteArray} {pc : Nat} (h : DkAt code pc [172]) : decode code pc = .ok (.ireturn, 1) := dk_of ((dk_bind (dk_u1 (h 0 _ rfl))).trans rfl)
theorem dk_173 {code : ByteArray} {pc : Nat} (h : DkAt code pc [173]) : decode code pc = .ok (.lreturn, 1) := dk_of ((dk_bind (dk_u1 (h 0 _ rfl))).trans rfl)
theorem dk_176 {code : ByteArray} {pc : Nat} (h : DkAt code pc [176]) : decode code pc = .ok (.areturn, 1) := dk_of ((dk_bind (dk_u1 (h 0 _ rfl))).trans rfl)
theorem dk_177 {code : ByteArray} {pc : Nat} (h : DkAt code pc [177]) : decode code pc = .ok (.return_, 1) := dk_of ((dk_bind (dk_u1 (h 0 _ rfl))).trans rfl)
theorem dk_178 {code : ByteArray} {pc : Nat} (a b : UInt8) (h : DkAt code pc [178, a, b]) : decode code pc = .ok (.getstatic (a.toNat * 256 + b.toNat), 3) := dk_of ((dk_bind (dk_u1 (h 0 _ rfl))).trans ((dk_bind (dk_u2 (h 1 _ rfl) (h 2 _ rfl))).trans rfl))
theorem dk_180 {code : ByteArray} {pc : Nat} (a b : UInt8) (h : DkAt code pc [180, a, b]) : decode code pc = .ok (.getfield (a.toNat * 256 + b.toNat), 3) := dk_of ((dk_bind (dk_u1 (h 0 _ rfl))).trans ((dk_bind (dk_u2 (h 1 _ rfl) (h 2 _ rfl))).trans rfl))
theorem dk_181 {code : ByteArray} {pc : Nat} (a b : UInt8) (h : DkAt code pc [181, a, b]) : decode code pc = .ok (.putfield (a.toNat * 256 + b.toNat), 3) := dk_of ((dk_bind (dk_u1 (h 0 _ rfl))).trans ((dk_bind (dk_u2 (h 1 _ rfl) (h 2 _ rfl))).trans rfl))
theorem dk_182 {code : ByteArray} {pc : Nat} (a b : UInt8) (h : DkAt code pc [182, a, b]) : decode code pc = .ok (.invokevirtual (a.toNat * 256 + b.toNat), 3) := dk_of ((dk_bind (dk_u1 (h 0 _ rfl))).trans ((dk_bind (dk_u2 (h 1 _ rfl) (h 2 _ rfl))).trans rfl))
theorem dk_183 {code : ByteArray} {pc : Nat} (a b : UInt8) (h : DkAt code pc [183, a, b]) : decode code pc = .ok (.invokespecial (a.toNat * 256 + b.toNat), 3) := dk_of ((dk_bind (dk_u1 (h 0 _ rfl))).trans ((dk_bind (dk_u2 (h 1 _ rfl) (h 2 _ rfl))).trans rfl))
theorem dk_184 {code : ByteArray} {pc : Nat} (a b : UInt8) (h : DkAt code pc [184, a, b]) : decode code pc = .ok (.invokestatic (a.toNat * 256 + b.toNat), 3) := dk_of ((dk_bind (dk_u1 (h 0 _ rfl))).trans ((dk_bind (dk_u2 (h 1 _ rfl) (h 2 _ rfl))).trans rfl))
theorem dk_187 {code : ByteArray} {pc : Nat} (a b : UInt8) (h : DkAt code pc [187, a, b]) : decode code pc = .ok (.new (a.toNat * 256 + b.toNat), 3) := dk_of ((dk_bind (dk_u1 (h 0 _ rfl))).trans ((dk_bind (dk_u2 (h 1 _ rfl) (h 2 _ rfl))).trans rfl))
theorem dk_188_4 {code : ByteArray} {pc : Nat} (h : DkAt code pc [188, 4]) : decode code pc = .ok (.newarray .boolean, 2) := dk_of ((dk_bind (dk_u1 (h 0 _ rfl))).trans ((dk_bind (dk_u1 (h 1 _ rfl))).trans rfl))
theorem dk_188_8 {code : ByteArray} {pc : Nat} (h : DkAt code pc [188, 8]) : decode code pc = .ok (.newarray .byte, 2) := dk_of ((dk_bind (dk_u1 (h 0 _ rfl))).trans ((dk_bind (dk_u1 (h 1 _ rfl))).trans rfl))
theorem dk_188_10 {code : ByteArray} {pc : Nat} (h : DkAt code pc [188, 10]) : decode code pc = .ok (.newarray .int, 2) := dk_of ((dk_bind (dk_u1 (h 0 _ rfl))).trans ((dk_bind (dk_u1 (h 1 _ rfl))).trans rfl))
theorem dk_188_11 {code : ByteArray} {pc : Nat} (h : DkAt code pc [188, 11]) : decode code pc = .ok (.newarray .long, 2) := dk_of ((dk_bind (dk_u1 (h 0 _ rfl))).trans ((dk_bind (dk_u1 (h 1 _ rfl))).trans rfl))
theorem dk_189 {code : ByteArray} {pc : Nat} (a b : UInt8) (h : DkAt code pc [189, a, b]) : decode code pc = .ok (.anewarray (a.toNat * 256 + b.toNat), 3) := dk_of ((dk_bind (dk_u1 (h 0 _ rfl))).trans ((dk_bind (dk_u2 (h 1 _ rfl) (h 2 _ rfl))).trans rfl))
theorem dk_190 {code : ByteArray} {pc : Nat} (h : DkAt code pc [190]) : decode code pc = .ok (.arraylength, 1) := dk_of ((dk_bind (dk_u1 (h 0 _ rfl))).trans rfl)
theorem dk_191 {code : ByteArray} {pc : Nat} (h : DkAt code pc [191]) : decode code pc = .ok (.athrow, 1) := dk_of ((dk_bind (dk_u1 (h 0 _ rfl))).trans rfl)
theorem dk_192 {code : ByteArray} {pc : Nat} (a b : UInt8) (h : DkAt code pc [192, a, b]) : decode code pc = .ok (.checkcast (a.toNat * 256 + b.toNat), 3) := dk_of ((dk_bind (dk_u1 (h 0 _ rfl))).trans ((dk_bind (dk_u2 (h 1 _ rfl) (h 2 _ rfl))).trans rfl))
theorem dk_193 {code : ByteArray} {pc : Nat} (a b : UInt8) (h : DkAt code pc [193, a, b]) : decode code pc = .ok (.instanceof (a.toNat * 256 + b.toNat), 3) := dk_of ((dk_bind (dk_u1 (h 0 _ rfl))).trans ((dk_bind (dk_u2 (h 1 _ rfl) (h 2 _ rfl))).trans rfl))
theorem dk_198 {code : ByteArray} {pc : Nat} (a b : UInt8) (h : DkAt code pc [198, a, b]) : decode code pc = .ok (.ifnull (Reader.signed 16 (a.toNat * 256 + b.toNat)), 3) := dk_of ((dk_bind (dk_u1 (h 0 _ rfl))).trans ((dk_bind (dk_map (dk_u2 (h 1 _ rfl) (h 2 _ rfl)))).trans rfl))
theorem dk_199 {code : ByteArray} {pc : Nat} (a b : UInt8) (h : DkAt code pc [199, a, b]) : decode code pc = .ok (.ifnonnull (Reader.signed 16 (a.toNat * 256 + b.toNat)), 3) := dk_of ((dk_bind (dk_u1 (h 0 _ rfl))).trans ((dk_bind (dk_map (dk_u2 (h 1 _ rfl) (h 2 _ rfl)))).trans rfl))

def RJ0 : String := "java/lang/Throwable"
def TJ0 : u_T := fun k => match k with
  | 0 => ("java/lang/Throwable", "cause", "Ljava/lang/Throwable;", false)
  | 1 => ("java/lang/Throwable", "stackTrace", "[Ljava/lang/StackTraceElement;", false)
  | 2 => ("java/lang/Throwable", "suppressedExceptions", "Ljava/util/List;", false)
  | 3 => ("java/lang/Throwable", "detailMessage", "Ljava/lang/String;", false)
  | _ => ("java/lang/Throwable", "backtrace", "Ljava/lang/Object;", false)
def tyJ0 : Nat → FieldType := fun k => match k with
  | 0 => .object "java/lang/Throwable"
  | 1 => .array (.object "java/lang/StackTraceElement")
  | 2 => .object "java/util/List"
  | 3 => .object "java/lang/String"
  | _ => .object "java/lang/Object"
abbrev wsJ00 : List Cond := u_ws RJ0 TJ0 5
theorem nmJ0 : ∀ a, a < 5 → ∀ b, b < 5 → a ≠ b → (TJ0 a).2.1 ≠ (TJ0 b).2.1 := by decide +kernel
theorem tyJ0_ok : ∀ k, k < 5 → parseFieldDescriptor (TJ0 k).2.2.1 = some (tyJ0 k) := by decide +kernel
def RJ1 : String := "java/lang/Exception"
def RJ2 : String := "java/lang/RuntimeException"
def RJ3 : String := "java/lang/IndexOutOfBoundsException"
def TJ3 : u_T := fun k => match k with
  | 0 => ("java/lang/Throwable", "cause", "Ljava/lang/Throwable;", false)
  | 1 => ("java/lang/Throwable", "stackTrace", "[Ljava/lang/StackTraceElement;", false)
  | 2 => ("java/lang/Throwable", "suppressedExceptions", "Ljava/util/List;", false)
  | 3 => ("java/lang/Throwable", "detailMessage", "Ljava/lang/String;", false)
  | 4 => ("java/lang/Throwable", "backtrace", "Ljava/lang/Object;", false)
  | _ => ("java/lang/Throwable", "depth", "I", false)
def tyJ3 : Nat → FieldType := fun k => match k with
  | 0 => .object "java/lang/Throwable"
  | 1 => .array (.object "java/lang/StackTraceElement")
  | 2 => .object "java/util/List"
  | 3 => .object "java/lang/String"
  | 4 => .object "java/lang/Object"
  | _ => .int
abbrev wsJ30 : List Cond := u_ws RJ3 TJ3 6
theorem nmJ3 : ∀ a, a < 6 → ∀ b, b < 6 → a ≠ b → (TJ3 a).2.1 ≠ (TJ3 b).2.1 := by decide +kernel
theorem tyJ3_ok : ∀ k, k < 6 → parseFieldDescriptor (TJ3 k).2.2.1 = some (tyJ3 k) := by decide +kernel
def RJ4 : String := "java/lang/ArrayIndexOutOfBoundsException"
def TJ4 : u_T := fun k => match k with
  | 0 => ("java/lang/Throwable", "backtrace", "Ljava/lang/Object;", false)
  | 1 => ("java/lang/Throwable", "detailMessage", "Ljava/lang/String;", false)
  | 2 => ("java/lang/Throwable", "cause", "Ljava/lang/Throwable;", false)
  | 3 => ("java/lang/Throwable", "stackTrace", "[Ljava/lang/StackTraceElement;", false)
  | 4 => ("java/lang/Throwable", "depth", "I", false)
  | _ => ("java/lang/Throwable", "suppressedExceptions", "Ljava/util/List;", false)
def tyJ4 : Nat → FieldType := fun k => match k with
  | 0 => .object "java/lang/Object"
  | 1 => .object "java/lang/String"
  | 2 => .object "java/lang/Throwable"
  | 3 => .array (.object "java/lang/StackTraceElement")
  | 4 => .int
  | _ => .object "java/util/List"
abbrev wsJ40 : List Cond := u_ws RJ4 TJ4 6
theorem nmJ4 : ∀ a, a < 6 → ∀ b, b < 6 → a ≠ b → (TJ4 a).2.1 ≠ (TJ4 b).2.1 := by decide +kernel
theorem tyJ4_ok : ∀ k, k < 6 → parseFieldDescriptor (TJ4 k).2.2.1 = some (tyJ4 k) := by decide +kernel
def RJ5 : String := "java/lang/String"
def TJ5 : u_T := fun k => match k with
  | 0 => ("java/lang/String", "value", "[B", true)
  | _ => ("java/lang/String", "coder", "B", true)
def tyJ5 : Nat → FieldType := fun k => match k with
  | 0 => .array .byte
  | _ => .byte
abbrev wsJ50 : List Cond := u_ws RJ5 TJ5 2
theorem nmJ5 : ∀ a, a < 2 → ∀ b, b < 2 → a ≠ b → (TJ5 a).2.1 ≠ (TJ5 b).2.1 := by decide +kernel
theorem tyJ5_ok : ∀ k, k < 2 → parseFieldDescriptor (TJ5 k).2.2.1 = some (tyJ5 k) := by decide +kernel
def RJ6 : String := "java/lang/IllegalArgumentException"
def TJ6 : u_T := fun k => match k with
  | 0 => ("java/lang/Throwable", "cause", "Ljava/lang/Throwable;", false)
  | 1 => ("java/lang/Throwable", "stackTrace", "[Ljava/lang/StackTraceElement;", false)
  | 2 => ("java/lang/Throwable", "suppressedExceptions", "Ljava/util/List;", false)
  | 3 => ("java/lang/Throwable", "detailMessage", "Ljava/lang/String;", false)
  | 4 => ("java/lang/Throwable", "backtrace", "Ljava/lang/Object;", false)
  | _ => ("java/lang/Throwable", "depth", "I", false)
def tyJ6 : Nat → FieldType := fun k => match k with
  | 0 => .object "java/lang/Throwable"
  | 1 => .array (.object "java/lang/StackTraceElement")
  | 2 => .object "java/util/List"
  | 3 => .object "java/lang/String"
  | 4 => .object "java/lang/Object"
  | _ => .int
abbrev wsJ60 : List Cond := u_ws RJ6 TJ6 6
theorem nmJ6 : ∀ a, a < 6 → ∀ b, b < 6 → a ≠ b → (TJ6 a).2.1 ≠ (TJ6 b).2.1 := by decide +kernel
theorem tyJ6_ok : ∀ k, k < 6 → parseFieldDescriptor (TJ6 k).2.2.1 = some (tyJ6 k) := by decide +kernel
def RJ7 : String := "java/lang/Math"
def RJ8 : String := "java/lang/UnsupportedOperationException"
def TJ8 : u_T := fun k => match k with
  | 0 => ("java/lang/Throwable", "cause", "Ljava/lang/Throwable;", false)
  | 1 => ("java/lang/Throwable", "stackTrace", "[Ljava/lang/StackTraceElement;", false)
  | 2 => ("java/lang/Throwable", "suppressedExceptions", "Ljava/util/List;", false)
  | 3 => ("java/lang/Throwable", "detailMessage", "Ljava/lang/String;", false)
  | 4 => ("java/lang/Throwable", "backtrace", "Ljava/lang/Object;", false)
  | _ => ("java/lang/Throwable", "depth", "I", false)
def tyJ8 : Nat → FieldType := fun k => match k with
  | 0 => .object "java/lang/Throwable"
  | 1 => .array (.object "java/lang/StackTraceElement")
  | 2 => .object "java/util/List"
  | 3 => .object "java/lang/String"
  | 4 => .object "java/lang/Object"
  | _ => .int
abbrev wsJ80 : List Cond := u_ws RJ8 TJ8 6
theorem nmJ8 : ∀ a, a < 6 → ∀ b, b < 6 → a ≠ b → (TJ8 a).2.1 ≠ (TJ8 b).2.1 := by decide +kernel
theorem tyJ8_ok : ∀ k, k < 6 → parseFieldDescriptor (TJ8 k).2.2.1 = some (tyJ8 k) := by decide +kernel
def RJ9 : String := "java/lang/StringLatin1"
def RJ10 : String := "jdk/internal/util/Preconditions"
def RJ11 : String := "java/lang/StringUTF16"
def RJ12 : String := "java/util/NoSuchElementException"
def TJ12 : u_T := fun k => match k with
  | 0 => ("java/lang/Throwable", "cause", "Ljava/lang/Throwable;", false)
  | 1 => ("java/lang/Throwable", "stackTrace", "[Ljava/lang/StackTraceElement;", false)
  | 2 => ("java/lang/Throwable", "suppressedExceptions", "Ljava/util/List;", false)
  | 3 => ("java/lang/Throwable", "detailMessage", "Ljava/lang/String;", false)
  | 4 => ("java/lang/Throwable", "backtrace", "Ljava/lang/Object;", false)
  | _ => ("java/lang/Throwable", "depth", "I", false)
def tyJ12 : Nat → FieldType := fun k => match k with
  | 0 => .object "java/lang/Throwable"
  | 1 => .array (.object "java/lang/StackTraceElement")
  | 2 => .object "java/util/List"
  | 3 => .object "java/lang/String"
  | 4 => .object "java/lang/Object"
  | _ => .int
abbrev wsJ120 : List Cond := u_ws RJ12 TJ12 6
theorem nmJ12 : ∀ a, a < 6 → ∀ b, b < 6 → a ≠ b → (TJ12 a).2.1 ≠ (TJ12 b).2.1 := by decide +kernel
theorem tyJ12_ok : ∀ k, k < 6 → parseFieldDescriptor (TJ12 k).2.2.1 = some (tyJ12 k) := by decide +kernel
def RJ13 : String := "java/lang/Integer"
def RJ14 : String := "java/lang/Object"
def RX0 : String := "GrassFieldLaw"
def RX1 : String := "GrassField"
def TX1 : u_T := fun k => match k with
  | 0 => ("GrassField", "reader", "LGrassField$Reader;", true)
  | 1 => ("GrassField", "now", "LGrassField$House;", true)
  | 2 => ("GrassField", "image", "LGrassField$House;", true)
  | 3 => ("GrassField", "track", "LGrassField$Track;", true)
  | 4 => ("GrassField", "xs", "[I", true)
  | 5 => ("GrassField", "bones", "[I", true)
  | 6 => ("GrassField", "wrongAt", "I", false)
  | 7 => ("GrassField", "xMany", "I", false)
  | 8 => ("GrassField", "boneMany", "I", false)
  | 9 => ("GrassField", "whoBits", "I", false)
  | _ => ("GrassField", "kept", "Z", false)
def tyX1 : Nat → FieldType := fun k => match k with
  | 0 => .object "GrassField$Reader"
  | 1 => .object "GrassField$House"
  | 2 => .object "GrassField$House"
  | 3 => .object "GrassField$Track"
  | 4 => .array .int
  | 5 => .array .int
  | 6 => .int
  | 7 => .int
  | 8 => .int
  | 9 => .int
  | _ => .boolean
abbrev wsX10 : List Cond := u_ws RX1 TX1 11
theorem nmX1 : ∀ a, a < 11 → ∀ b, b < 11 → a ≠ b → (TX1 a).2.1 ≠ (TX1 b).2.1 := by decide +kernel
theorem tyX1_ok : ∀ k, k < 11 → parseFieldDescriptor (TX1 k).2.2.1 = some (tyX1 k) := by decide +kernel
def RX2 : String := "GrassField$Reader"
def TX2 : u_T := fun k => match k with
  | 0 => ("GrassField$Reader", "tape", "[B", true)
  | 1 => ("GrassField$Reader", "words", "[Ljava/lang/String;", true)
  | 2 => ("GrassField$Reader", "acts", "[Ljava/lang/String;", true)
  | 3 => ("GrassField$Reader", "row", "[LGrassField$Line;", true)
  | 4 => ("GrassField$Reader", "wrong", "LGrassField$Wrong;", true)
  | 5 => ("GrassField$Reader", "size", "I", false)
  | 6 => ("GrassField$Reader", "end", "I", false)
  | 7 => ("GrassField$Reader", "at", "I", false)
  | 8 => ("GrassField$Reader", "deep", "I", false)
  | _ => ("GrassField$Reader", "law", "Z", false)
def tyX2 : Nat → FieldType := fun k => match k with
  | 0 => .array .byte
  | 1 => .array (.object "java/lang/String")
  | 2 => .array (.object "java/lang/String")
  | 3 => .array (.object "GrassField$Line")
  | 4 => .object "GrassField$Wrong"
  | 5 => .int
  | 6 => .int
  | 7 => .int
  | 8 => .int
  | _ => .boolean
abbrev wsX20 : List Cond := u_ws RX2 TX2 10
theorem nmX2 : ∀ a, a < 10 → ∀ b, b < 10 → a ≠ b → (TX2 a).2.1 ≠ (TX2 b).2.1 := by decide +kernel
theorem tyX2_ok : ∀ k, k < 10 → parseFieldDescriptor (TX2 k).2.2.1 = some (tyX2 k) := by decide +kernel
def RX3 : String := "GrassField$Wrong"
def TX3 : u_T := fun k => match k with
  | 0 => ("java/lang/Throwable", "cause", "Ljava/lang/Throwable;", false)
  | 1 => ("java/lang/Throwable", "stackTrace", "[Ljava/lang/StackTraceElement;", false)
  | 2 => ("java/lang/Throwable", "suppressedExceptions", "Ljava/util/List;", false)
  | 3 => ("java/lang/Throwable", "detailMessage", "Ljava/lang/String;", false)
  | 4 => ("java/lang/Throwable", "backtrace", "Ljava/lang/Object;", false)
  | 5 => ("java/lang/Throwable", "depth", "I", false)
  | _ => ("GrassField$Wrong", "place", "I", false)
def tyX3 : Nat → FieldType := fun k => match k with
  | 0 => .object "java/lang/Throwable"
  | 1 => .array (.object "java/lang/StackTraceElement")
  | 2 => .object "java/util/List"
  | 3 => .object "java/lang/String"
  | 4 => .object "java/lang/Object"
  | 5 => .int
  | _ => .int
abbrev wsX30 : List Cond := u_ws RX3 TX3 7
theorem nmX3 : ∀ a, a < 7 → ∀ b, b < 7 → a ≠ b → (TX3 a).2.1 ≠ (TX3 b).2.1 := by decide +kernel
theorem tyX3_ok : ∀ k, k < 7 → parseFieldDescriptor (TX3 k).2.2.1 = some (tyX3 k) := by decide +kernel
def RX4 : String := "GrassField$House"
def TX4 : u_T := fun k => match k with
  | 0 => ("GrassField$House", "heights", "[I", true)
  | 1 => ("GrassField$House", "guns", "[LGrassField$Gun;", true)
  | 2 => ("GrassField$House", "people", "[LGrassField$Person;", true)
  | 3 => ("GrassField$House", "laws", "[LGrassField$Law;", true)
  | 4 => ("GrassField$House", "finds", "[LGrassField$Find;", true)
  | 5 => ("GrassField$House", "tellers", "[LGrassField$Teller;", true)
  | 6 => ("GrassField$House", "tellings", "[LGrassField$Telling;", true)
  | 7 => ("GrassField$House", "stories", "[LGrassField$Story;", true)
  | 8 => ("GrassField$House", "facts", "[I", true)
  | 9 => ("GrassField$House", "gunMany", "I", false)
  | 10 => ("GrassField$House", "personMany", "I", false)
  | 11 => ("GrassField$House", "lawMany", "I", false)
  | 12 => ("GrassField$House", "findMany", "I", false)
  | 13 => ("GrassField$House", "tellerMany", "I", false)
  | 14 => ("GrassField$House", "tellingMany", "I", false)
  | 15 => ("GrassField$House", "storyMany", "I", false)
  | 16 => ("GrassField$House", "day", "I", false)
  | 17 => ("GrassField$House", "seed", "I", false)
  | 18 => ("GrassField$House", "minute", "I", false)
  | 19 => ("GrassField$House", "deepest", "I", false)
  | 20 => ("GrassField$House", "wide", "I", false)
  | _ => ("GrassField$House", "walked", "I", false)
def tyX4 : Nat → FieldType := fun k => match k with
  | 0 => .array .int
  | 1 => .array (.object "GrassField$Gun")
  | 2 => .array (.object "GrassField$Person")
  | 3 => .array (.object "GrassField$Law")
  | 4 => .array (.object "GrassField$Find")
  | 5 => .array (.object "GrassField$Teller")
  | 6 => .array (.object "GrassField$Telling")
  | 7 => .array (.object "GrassField$Story")
  | 8 => .array .int
  | 9 => .int
  | 10 => .int
  | 11 => .int
  | 12 => .int
  | 13 => .int
  | 14 => .int
  | 15 => .int
  | 16 => .int
  | 17 => .int
  | 18 => .int
  | 19 => .int
  | 20 => .int
  | _ => .int
abbrev wsX40 : List Cond := u_ws RX4 TX4 22
set_option maxRecDepth 100000 in
theorem nmX4 : ∀ a, a < 22 → ∀ b, b < 22 → a ≠ b → (TX4 a).2.1 ≠ (TX4 b).2.1 := by decide +kernel
set_option maxRecDepth 100000 in
theorem tyX4_ok : ∀ k, k < 22 → parseFieldDescriptor (TX4 k).2.2.1 = some (tyX4 k) := by decide +kernel
def RX5 : String := "GrassField$Track"
def TX5 : u_T := fun k => match k with
  | 0 => ("GrassField$Track", "h", "LGrassField$House;", true)
  | 1 => ("GrassField$Track", "cases", "[I", true)
  | 2 => ("GrassField$Track", "least", "[I", true)
  | 3 => ("GrassField$Track", "early", "[[I", true)
  | _ => ("GrassField$Track", "many", "I", false)
def tyX5 : Nat → FieldType := fun k => match k with
  | 0 => .object "GrassField$House"
  | 1 => .array .int
  | 2 => .array .int
  | 3 => .array (.array .int)
  | _ => .int
abbrev wsX50 : List Cond := u_ws RX5 TX5 5
theorem nmX5 : ∀ a, a < 5 → ∀ b, b < 5 → a ≠ b → (TX5 a).2.1 ≠ (TX5 b).2.1 := by decide +kernel
theorem tyX5_ok : ∀ k, k < 5 → parseFieldDescriptor (TX5 k).2.2.1 = some (tyX5 k) := by decide +kernel
def RX6 : String := "GrassFieldModel"
def TX6 : u_T := fun k => match k with
  | 0 => ("GrassFieldModel", "thrown", "I", false)
  | 1 => ("GrassFieldModel", "world", "[I", true)
  | 2 => ("GrassFieldModel", "image", "[I", true)
  | 3 => ("GrassFieldModel", "hasImage", "Z", false)
  | 4 => ("GrassFieldModel", "tape", "[B", true)
  | 5 => ("GrassFieldModel", "taped", "I", false)
  | 6 => ("GrassFieldModel", "point", "I", false)
  | 7 => ("GrassFieldModel", "last", "I", false)
  | 8 => ("GrassFieldModel", "begin", "I", false)
  | 9 => ("GrassFieldModel", "deep", "I", false)
  | 10 => ("GrassFieldModel", "faultAt", "I", false)
  | 11 => ("GrassFieldModel", "five", "[I", true)
  | 12 => ("GrassFieldModel", "steps", "I", false)
  | 13 => ("GrassFieldModel", "isStory", "Z", false)
  | 14 => ("GrassFieldModel", "facts", "[I", true)
  | 15 => ("GrassFieldModel", "isArmed", "Z", false)
  | 16 => ("GrassFieldModel", "isAlone", "Z", false)
  | 17 => ("GrassFieldModel", "mostHeld", "I", false)
  | 18 => ("GrassFieldModel", "value", "[I", true)
  | 19 => ("GrassFieldModel", "its", "[I", true)
  | 20 => ("GrassFieldModel", "itsMany", "I", false)
  | 21 => ("GrassFieldModel", "done", "[I", true)
  | 22 => ("GrassFieldModel", "hands", "[I", true)
  | 23 => ("GrassFieldModel", "xs", "[I", true)
  | 24 => ("GrassFieldModel", "xMany", "I", false)
  | 25 => ("GrassFieldModel", "bones", "[I", true)
  | 26 => ("GrassFieldModel", "boneMany", "I", false)
  | _ => ("GrassFieldModel", "canBe", "[Z", true)
def tyX6 : Nat → FieldType := fun k => match k with
  | 0 => .int
  | 1 => .array .int
  | 2 => .array .int
  | 3 => .boolean
  | 4 => .array .byte
  | 5 => .int
  | 6 => .int
  | 7 => .int
  | 8 => .int
  | 9 => .int
  | 10 => .int
  | 11 => .array .int
  | 12 => .int
  | 13 => .boolean
  | 14 => .array .int
  | 15 => .boolean
  | 16 => .boolean
  | 17 => .int
  | 18 => .array .int
  | 19 => .array .int
  | 20 => .int
  | 21 => .array .int
  | 22 => .array .int
  | 23 => .array .int
  | 24 => .int
  | 25 => .array .int
  | 26 => .int
  | _ => .array .boolean
abbrev wsX60 : List Cond := u_ws RX6 TX6 28
set_option maxRecDepth 100000 in
theorem nmX6 : ∀ a, a < 28 → ∀ b, b < 28 → a ≠ b → (TX6 a).2.1 ≠ (TX6 b).2.1 := by decide +kernel
set_option maxRecDepth 100000 in
theorem tyX6_ok : ∀ k, k < 28 → parseFieldDescriptor (TX6 k).2.2.1 = some (tyX6 k) := by decide +kernel
def RX7 : String := "GrassField$Gun"
def TX7 : u_T := fun k => match k with
  | 0 => ("GrassField$Gun", "side", "I", true)
  | 1 => ("GrassField$Gun", "mark", "I", true)
  | 2 => ("GrassField$Gun", "year", "I", true)
  | _ => ("GrassField$Gun", "rounds", "I", false)
def tyX7 : Nat → FieldType := fun k => match k with
  | 0 => .int
  | 1 => .int
  | 2 => .int
  | _ => .int
abbrev wsX70 : List Cond := u_ws RX7 TX7 4
theorem nmX7 : ∀ a, a < 4 → ∀ b, b < 4 → a ≠ b → (TX7 a).2.1 ≠ (TX7 b).2.1 := by decide +kernel
theorem tyX7_ok : ∀ k, k < 4 → parseFieldDescriptor (TX7 k).2.2.1 = some (tyX7 k) := by decide +kernel
def RX8 : String := "GrassField$Chain"
def TX8 : u_T := fun k => match k with
  | 0 => ("GrassField$Chain", "one", "LGrassField$Cond;", true)
  | 1 => ("GrassField$Chain", "all", "Z", true)
  | _ => ("GrassField$Chain", "next", "LGrassField$Chain;", false)
def tyX8 : Nat → FieldType := fun k => match k with
  | 0 => .object "GrassField$Cond"
  | 1 => .boolean
  | _ => .object "GrassField$Chain"
abbrev wsX80 : List Cond := u_ws RX8 TX8 3
theorem nmX8 : ∀ a, a < 3 → ∀ b, b < 3 → a ≠ b → (TX8 a).2.1 ≠ (TX8 b).2.1 := by decide +kernel
theorem tyX8_ok : ∀ k, k < 3 → parseFieldDescriptor (TX8 k).2.2.1 = some (tyX8 k) := by decide +kernel
def RX9 : String := "GrassField$Tag"
def TX9 : u_T := fun k => match k with
  | 0 => ("GrassField$Tag", "fact", "I", true)
  | _ => ("GrassField$Tag", "least", "I", true)
def tyX9 : Nat → FieldType := fun k => match k with
  | 0 => .int
  | _ => .int
abbrev wsX90 : List Cond := u_ws RX9 TX9 2
theorem nmX9 : ∀ a, a < 2 → ∀ b, b < 2 → a ≠ b → (TX9 a).2.1 ≠ (TX9 b).2.1 := by decide +kernel
theorem tyX9_ok : ∀ k, k < 2 → parseFieldDescriptor (TX9 k).2.2.1 = some (tyX9 k) := by decide +kernel
def RX10 : String := "GrassField$Sum"
def TX10 : u_T := fun k => match k with
  | 0 => ("GrassField$Sum", "times", "[I", true)
  | _ => ("GrassField$Sum", "number", "I", false)
def tyX10 : Nat → FieldType := fun k => match k with
  | 0 => .array .int
  | _ => .int
abbrev wsX100 : List Cond := u_ws RX10 TX10 2
theorem nmX10 : ∀ a, a < 2 → ∀ b, b < 2 → a ≠ b → (TX10 a).2.1 ≠ (TX10 b).2.1 := by decide +kernel
theorem tyX10_ok : ∀ k, k < 2 → parseFieldDescriptor (TX10 k).2.2.1 = some (tyX10 k) := by decide +kernel
def RX11 : String := "GrassField$Less"
def TX11 : u_T := fun k => match k with
  | 0 => ("GrassField$Less", "low", "LGrassField$Sum;", true)
  | _ => ("GrassField$Less", "high", "LGrassField$Sum;", true)
def tyX11 : Nat → FieldType := fun k => match k with
  | 0 => .object "GrassField$Sum"
  | _ => .object "GrassField$Sum"
abbrev wsX110 : List Cond := u_ws RX11 TX11 2
theorem nmX11 : ∀ a, a < 2 → ∀ b, b < 2 → a ≠ b → (TX11 a).2.1 ≠ (TX11 b).2.1 := by decide +kernel
theorem tyX11_ok : ∀ k, k < 2 → parseFieldDescriptor (TX11 k).2.2.1 = some (tyX11 k) := by decide +kernel
def RX12 : String := "GrassField$Not"
def TX12 : u_T := fun k => match k with
  | _ => ("GrassField$Not", "of", "LGrassField$Cond;", true)
def tyX12 : Nat → FieldType := fun k => match k with
  | _ => .object "GrassField$Cond"
abbrev wsX120 : List Cond := u_ws RX12 TX12 1
theorem nmX12 : ∀ a, a < 1 → ∀ b, b < 1 → a ≠ b → (TX12 a).2.1 ≠ (TX12 b).2.1 := by decide +kernel
theorem tyX12_ok : ∀ k, k < 1 → parseFieldDescriptor (TX12 k).2.2.1 = some (tyX12 k) := by decide +kernel
def RX13 : String := "GrassField$Line"
def RX14 : String := "GrassField$Hold"
def TX14 : u_T := fun k => match k with
  | _ => ("GrassField$Line", "cond", "LGrassField$Cond;", true)
def tyX14 : Nat → FieldType := fun k => match k with
  | _ => .object "GrassField$Cond"
abbrev wsX140 : List Cond := u_ws RX14 TX14 1
theorem nmX14 : ∀ a, a < 1 → ∀ b, b < 1 → a ≠ b → (TX14 a).2.1 ≠ (TX14 b).2.1 := by decide +kernel
theorem tyX14_ok : ∀ k, k < 1 → parseFieldDescriptor (TX14 k).2.2.1 = some (tyX14 k) := by decide +kernel
def RX15 : String := "GrassField$Shoot"
def TX15 : u_T := fun k => match k with
  | _ => ("GrassField$Line", "cond", "LGrassField$Cond;", true)
def tyX15 : Nat → FieldType := fun k => match k with
  | _ => .object "GrassField$Cond"
abbrev wsX150 : List Cond := u_ws RX15 TX15 1
theorem nmX15 : ∀ a, a < 1 → ∀ b, b < 1 → a ≠ b → (TX15 a).2.1 ≠ (TX15 b).2.1 := by decide +kernel
theorem tyX15_ok : ∀ k, k < 1 → parseFieldDescriptor (TX15 k).2.2.1 = some (tyX15 k) := by decide +kernel
def RX16 : String := "GrassField$Flee"
def TX16 : u_T := fun k => match k with
  | _ => ("GrassField$Line", "cond", "LGrassField$Cond;", true)
def tyX16 : Nat → FieldType := fun k => match k with
  | _ => .object "GrassField$Cond"
abbrev wsX160 : List Cond := u_ws RX16 TX16 1
theorem nmX16 : ∀ a, a < 1 → ∀ b, b < 1 → a ≠ b → (TX16 a).2.1 ≠ (TX16 b).2.1 := by decide +kernel
theorem tyX16_ok : ∀ k, k < 1 → parseFieldDescriptor (TX16 k).2.2.1 = some (tyX16 k) := by decide +kernel
def RX17 : String := "GrassField$Join"
def TX17 : u_T := fun k => match k with
  | _ => ("GrassField$Line", "cond", "LGrassField$Cond;", true)
def tyX17 : Nat → FieldType := fun k => match k with
  | _ => .object "GrassField$Cond"
abbrev wsX170 : List Cond := u_ws RX17 TX17 1
theorem nmX17 : ∀ a, a < 1 → ∀ b, b < 1 → a ≠ b → (TX17 a).2.1 ≠ (TX17 b).2.1 := by decide +kernel
theorem tyX17_ok : ∀ k, k < 1 → parseFieldDescriptor (TX17 k).2.2.1 = some (tyX17 k) := by decide +kernel
def RX18 : String := "GrassField$Drop"
def TX18 : u_T := fun k => match k with
  | _ => ("GrassField$Line", "cond", "LGrassField$Cond;", true)
def tyX18 : Nat → FieldType := fun k => match k with
  | _ => .object "GrassField$Cond"
abbrev wsX180 : List Cond := u_ws RX18 TX18 1
theorem nmX18 : ∀ a, a < 1 → ∀ b, b < 1 → a ≠ b → (TX18 a).2.1 ≠ (TX18 b).2.1 := by decide +kernel
theorem tyX18_ok : ∀ k, k < 1 → parseFieldDescriptor (TX18 k).2.2.1 = some (tyX18 k) := by decide +kernel
def RX19 : String := "GrassField$Law"
def TX19 : u_T := fun k => match k with
  | _ => ("GrassField$Law", "lines", "[LGrassField$Line;", true)
def tyX19 : Nat → FieldType := fun k => match k with
  | _ => .array (.object "GrassField$Line")
abbrev wsX190 : List Cond := u_ws RX19 TX19 1
theorem nmX19 : ∀ a, a < 1 → ∀ b, b < 1 → a ≠ b → (TX19 a).2.1 ≠ (TX19 b).2.1 := by decide +kernel
theorem tyX19_ok : ∀ k, k < 1 → parseFieldDescriptor (TX19 k).2.2.1 = some (tyX19 k) := by decide +kernel
def RX20 : String := "GrassField$Person"
def TX20 : u_T := fun k => match k with
  | 0 => ("GrassField$Person", "side", "I", true)
  | 1 => ("GrassField$Person", "law", "I", true)
  | 2 => ("GrassField$Person", "gun", "I", false)
  | 3 => ("GrassField$Person", "cell", "I", false)
  | 4 => ("GrassField$Person", "fear", "I", false)
  | _ => ("GrassField$Person", "living", "Z", false)
def tyX20 : Nat → FieldType := fun k => match k with
  | 0 => .int
  | 1 => .int
  | 2 => .int
  | 3 => .int
  | 4 => .int
  | _ => .boolean
abbrev wsX200 : List Cond := u_ws RX20 TX20 6
theorem nmX20 : ∀ a, a < 6 → ∀ b, b < 6 → a ≠ b → (TX20 a).2.1 ≠ (TX20 b).2.1 := by decide +kernel
theorem tyX20_ok : ∀ k, k < 6 → parseFieldDescriptor (TX20 k).2.2.1 = some (tyX20 k) := by decide +kernel
def RX21 : String := "GrassField$Find"
def RX22 : String := "GrassField$Case"
def TX22 : u_T := fun k => match k with
  | 0 => ("GrassField$Find", "cell", "I", true)
  | 1 => ("GrassField$Find", "depth", "I", true)
  | 2 => ("GrassField$Case", "marks", "I", true)
  | 3 => ("GrassField$Case", "from", "I", true)
  | _ => ("GrassField$Case", "till", "I", true)
def tyX22 : Nat → FieldType := fun k => match k with
  | 0 => .int
  | 1 => .int
  | 2 => .int
  | 3 => .int
  | _ => .int
abbrev wsX220 : List Cond := u_ws RX22 TX22 5
theorem nmX22 : ∀ a, a < 5 → ∀ b, b < 5 → a ≠ b → (TX22 a).2.1 ≠ (TX22 b).2.1 := by decide +kernel
theorem tyX22_ok : ∀ k, k < 5 → parseFieldDescriptor (TX22 k).2.2.1 = some (tyX22 k) := by decide +kernel
def RX23 : String := "GrassField$Ball"
def TX23 : u_T := fun k => match k with
  | 0 => ("GrassField$Find", "cell", "I", true)
  | 1 => ("GrassField$Find", "depth", "I", true)
  | _ => ("GrassField$Ball", "side", "I", true)
def tyX23 : Nat → FieldType := fun k => match k with
  | 0 => .int
  | 1 => .int
  | _ => .int
abbrev wsX230 : List Cond := u_ws RX23 TX23 3
theorem nmX23 : ∀ a, a < 3 → ∀ b, b < 3 → a ≠ b → (TX23 a).2.1 ≠ (TX23 b).2.1 := by decide +kernel
theorem tyX23_ok : ∀ k, k < 3 → parseFieldDescriptor (TX23 k).2.2.1 = some (tyX23 k) := by decide +kernel
def RX24 : String := "GrassField$Bones"
def TX24 : u_T := fun k => match k with
  | 0 => ("GrassField$Find", "cell", "I", true)
  | 1 => ("GrassField$Find", "depth", "I", true)
  | _ => ("GrassField$Bones", "people", "I", true)
def tyX24 : Nat → FieldType := fun k => match k with
  | 0 => .int
  | 1 => .int
  | _ => .int
abbrev wsX240 : List Cond := u_ws RX24 TX24 3
theorem nmX24 : ∀ a, a < 3 → ∀ b, b < 3 → a ≠ b → (TX24 a).2.1 ≠ (TX24 b).2.1 := by decide +kernel
theorem tyX24_ok : ∀ k, k < 3 → parseFieldDescriptor (TX24 k).2.2.1 = some (tyX24 k) := by decide +kernel
def RX25 : String := "GrassField$Late"
def TX25 : u_T := fun k => match k with
  | 0 => ("GrassField$Find", "cell", "I", true)
  | 1 => ("GrassField$Find", "depth", "I", true)
  | _ => ("GrassField$Late", "year", "I", true)
def tyX25 : Nat → FieldType := fun k => match k with
  | 0 => .int
  | 1 => .int
  | _ => .int
abbrev wsX250 : List Cond := u_ws RX25 TX25 3
theorem nmX25 : ∀ a, a < 3 → ∀ b, b < 3 → a ≠ b → (TX25 a).2.1 ≠ (TX25 b).2.1 := by decide +kernel
theorem tyX25_ok : ∀ k, k < 3 → parseFieldDescriptor (TX25 k).2.2.1 = some (tyX25 k) := by decide +kernel
def RX26 : String := "GrassField$Teller"
def TX26 : u_T := fun k => match k with
  | 0 => ("GrassField$Teller", "cell", "I", true)
  | 1 => ("GrassField$Teller", "from", "I", true)
  | 2 => ("GrassField$Teller", "till", "I", true)
  | _ => ("GrassField$Teller", "listener", "I", true)
def tyX26 : Nat → FieldType := fun k => match k with
  | 0 => .int
  | 1 => .int
  | 2 => .int
  | _ => .int
abbrev wsX260 : List Cond := u_ws RX26 TX26 4
theorem nmX26 : ∀ a, a < 4 → ∀ b, b < 4 → a ≠ b → (TX26 a).2.1 ≠ (TX26 b).2.1 := by decide +kernel
theorem tyX26_ok : ∀ k, k < 4 → parseFieldDescriptor (TX26 k).2.2.1 = some (tyX26 k) := by decide +kernel
def RX27 : String := "GrassField$Telling"
def TX27 : u_T := fun k => match k with
  | 0 => ("GrassField$Telling", "teller", "I", true)
  | 1 => ("GrassField$Telling", "cell", "I", true)
  | _ => ("GrassField$Telling", "minute", "I", true)
def tyX27 : Nat → FieldType := fun k => match k with
  | 0 => .int
  | 1 => .int
  | _ => .int
abbrev wsX270 : List Cond := u_ws RX27 TX27 3
theorem nmX27 : ∀ a, a < 3 → ∀ b, b < 3 → a ≠ b → (TX27 a).2.1 ≠ (TX27 b).2.1 := by decide +kernel
theorem tyX27_ok : ∀ k, k < 3 → parseFieldDescriptor (TX27 k).2.2.1 = some (tyX27 k) := by decide +kernel
def RX28 : String := "GrassField$Story"
def TX28 : u_T := fun k => match k with
  | 0 => ("GrassField$Story", "weight", "I", true)
  | _ => ("GrassField$Story", "cond", "LGrassField$Cond;", true)
def tyX28 : Nat → FieldType := fun k => match k with
  | 0 => .int
  | _ => .object "GrassField$Cond"
abbrev wsX280 : List Cond := u_ws RX28 TX28 2
theorem nmX28 : ∀ a, a < 2 → ∀ b, b < 2 → a ≠ b → (TX28 a).2.1 ≠ (TX28 b).2.1 := by decide +kernel
theorem tyX28_ok : ∀ k, k < 2 → parseFieldDescriptor (TX28 k).2.2.1 = some (tyX28 k) := by decide +kernel
theorem q105 : (Jvm.Cond.initialized "java/lang/Throwable") ∈ lw_all := lw_g (lw_at lw_m1 3 rfl) rfl
theorem q190 : (Jvm.Cond.declares ({ cls := "java/lang/Throwable", name := "<init>", desc := "()V" } : Jvm.MethodName)) ∈ lw_tbl := lw_at lw_m1 88 rfl
theorem q191 : (Jvm.Cond.declares ({ cls := "java/lang/Throwable", name := "<init>", desc := "(Ljava/lang/String;)V" } : Jvm.MethodName)) ∈ lw_tbl := lw_at lw_m1 89 rfl
theorem q195 : (Jvm.Cond.lays "java/lang/Throwable" "java/lang/Throwable" "cause" "Ljava/lang/Throwable;") ∈ lw_all := lw_g (lw_at lw_m1 93 rfl) rfl
theorem q197 : (Jvm.Cond.lays "java/lang/Throwable" "java/lang/Throwable" "stackTrace" "[Ljava/lang/StackTraceElement;") ∈ lw_all := lw_g (lw_at lw_m1 95 rfl) rfl
theorem q199 : (Jvm.Cond.lays "java/lang/Throwable" "java/lang/Throwable" "suppressedExceptions" "Ljava/util/List;") ∈ lw_all := lw_g (lw_at lw_m1 97 rfl) rfl
theorem q201 : (Jvm.Cond.lays "java/lang/Throwable" "java/lang/Throwable" "detailMessage" "Ljava/lang/String;") ∈ lw_all := lw_g (lw_at lw_m1 99 rfl) rfl
theorem q203 : (Jvm.Cond.lays "java/lang/Throwable" "java/lang/Throwable" "backtrace" "Ljava/lang/Object;") ∈ lw_all := lw_g (lw_at lw_m1 101 rfl) rfl
theorem q204 : (Jvm.Cond.fieldLink "java/lang/Throwable" (198 : Nat) "java/lang/Throwable" "backtrace" "Ljava/lang/Object;") ∈ lw_all := lw_g (lw_at lw_m1 102 rfl) rfl
theorem q205 : (Jvm.Cond.superclass "java/lang/Throwable" "java/lang/Object") ∈ lw_all := lw_g (lw_at lw_m1 103 rfl) rfl
theorem q206 : (Jvm.Cond.instanceMethod ({ cls := "java/lang/Throwable", name := "<init>", desc := "()V" } : Jvm.MethodName)) ∈ lw_all := lw_g (lw_at lw_m1 104 rfl) rfl
theorem q207 : (Jvm.Cond.code ({ cls := "java/lang/Throwable", name := "<init>", desc := "()V" } : Jvm.MethodName) prog_42_method_1_code (1 : Nat) (Option.none : Option Jvm.ClassFile.FieldType)) ∈ lw_all := lw_g (lw_at lw_m1 105 rfl) rfl
theorem q208 : (Jvm.Cond.methodLink "java/lang/Throwable" (1 : Nat) ({ cls := "java/lang/Object", name := "<init>", desc := "()V" } : Jvm.MethodName)) ∈ lw_all := lw_g (lw_at lw_m1 106 rfl) rfl
theorem q209 : (Jvm.Cond.fieldLink "java/lang/Throwable" (13 : Nat) "java/lang/Throwable" "UNASSIGNED_STACK" "[Ljava/lang/StackTraceElement;") ∈ lw_all := lw_g (lw_at lw_m1 107 rfl) rfl
theorem q210 : (Jvm.Cond.laysStatic "java/lang/Throwable" "UNASSIGNED_STACK" "[Ljava/lang/StackTraceElement;") ∈ lw_tbl := lw_at lw_m1 108 rfl
theorem q211 : (Jvm.Cond.fieldLink "java/lang/Throwable" (20 : Nat) "java/lang/Throwable" "SUPPRESSED_SENTINEL" "Ljava/util/List;") ∈ lw_all := lw_g (lw_at lw_m1 109 rfl) rfl
theorem q212 : (Jvm.Cond.laysStatic "java/lang/Throwable" "SUPPRESSED_SENTINEL" "Ljava/util/List;") ∈ lw_tbl := lw_at lw_m1 110 rfl
theorem q213 : (Jvm.Cond.methodLink "java/lang/Throwable" (27 : Nat) ({ cls := "java/lang/Throwable", name := "fillInStackTrace", desc := "()Ljava/lang/Throwable;" } : Jvm.MethodName)) ∈ lw_all := lw_g (lw_at lw_m1 111 rfl) rfl
theorem q214 : (Jvm.Cond.instanceMethod ({ cls := "java/lang/Throwable", name := "fillInStackTrace", desc := "()Ljava/lang/Throwable;" } : Jvm.MethodName)) ∈ lw_all := lw_g (lw_at lw_m1 112 rfl) rfl
theorem q215 : (Jvm.Cond.sameMethod "java/lang/Throwable" "java/lang/Throwable" "fillInStackTrace" "()Ljava/lang/Throwable;") ∈ lw_all := lw_g (lw_at lw_m1 113 rfl) rfl
theorem q221 : (Jvm.Cond.codeSync ({ cls := "java/lang/Throwable", name := "fillInStackTrace", desc := "()Ljava/lang/Throwable;" } : Jvm.MethodName) prog_42_method_18_code (1 : Nat) (Option.some (Jvm.ClassFile.FieldType.object "java/lang/Throwable"))) ∈ lw_all := lw_g (lw_at lw_m1 119 rfl) rfl
theorem q222 : (Jvm.Cond.methodLink "java/lang/Throwable" (202 : Nat) ({ cls := "java/lang/Throwable", name := "fillInStackTrace", desc := "(I)Ljava/lang/Throwable;" } : Jvm.MethodName)) ∈ lw_all := lw_g (lw_at lw_m1 120 rfl) rfl
theorem q223 : (Jvm.Cond.privateMethod ({ cls := "java/lang/Throwable", name := "fillInStackTrace", desc := "(I)Ljava/lang/Throwable;" } : Jvm.MethodName)) ∈ lw_tbl := lw_at lw_m1 121 rfl
theorem q224 : (Jvm.Cond.instanceMethod ({ cls := "java/lang/Throwable", name := "fillInStackTrace", desc := "(I)Ljava/lang/Throwable;" } : Jvm.MethodName)) ∈ lw_all := lw_g (lw_at lw_m1 122 rfl) rfl
theorem q225 : (Jvm.Cond.instantiable "java/lang/Throwable" (6 : Nat)) ∈ lw_all := lw_g (lw_at lw_m1 123 rfl) rfl
theorem q226 : (Jvm.Cond.native ({ cls := "java/lang/Throwable", name := "fillInStackTrace", desc := "(I)Ljava/lang/Throwable;" } : Jvm.MethodName)) ∈ lw_all := lw_g (lw_at lw_m1 124 rfl) rfl
theorem q237 : (Jvm.Cond.instanceMethod ({ cls := "java/lang/Throwable", name := "<init>", desc := "(Ljava/lang/String;Ljava/lang/Throwable;ZZ)V" } : Jvm.MethodName)) ∈ lw_all := lw_g (lw_at lw_m1 135 rfl) rfl
theorem q238 : (Jvm.Cond.code ({ cls := "java/lang/Throwable", name := "<init>", desc := "(Ljava/lang/String;Ljava/lang/Throwable;ZZ)V" } : Jvm.MethodName) prog_42_method_5_code (5 : Nat) (Option.none : Option Jvm.ClassFile.FieldType)) ∈ lw_all := lw_g (lw_at lw_m1 136 rfl) rfl
theorem q241 : (Jvm.Cond.fieldLink "java/lang/Throwable" (198 : Nat) "java/lang/Throwable" "backtrace" "Ljava/lang/Object;") ∈ lw_all := lw_g (lw_at lw_m1 139 rfl) rfl
theorem q242 : (Jvm.Cond.fieldLink "java/lang/Throwable" (31 : Nat) "java/lang/Throwable" "detailMessage" "Ljava/lang/String;") ∈ lw_all := lw_g (lw_at lw_m1 140 rfl) rfl
theorem q243 : (Jvm.Cond.fieldLink "java/lang/Throwable" (7 : Nat) "java/lang/Throwable" "cause" "Ljava/lang/Throwable;") ∈ lw_all := lw_g (lw_at lw_m1 141 rfl) rfl
theorem q244 : (Jvm.Cond.fieldLink "java/lang/Throwable" (17 : Nat) "java/lang/Throwable" "stackTrace" "[Ljava/lang/StackTraceElement;") ∈ lw_all := lw_g (lw_at lw_m1 142 rfl) rfl
theorem q245 : (Jvm.Cond.fieldLink "java/lang/Throwable" (24 : Nat) "java/lang/Throwable" "suppressedExceptions" "Ljava/util/List;") ∈ lw_all := lw_g (lw_at lw_m1 143 rfl) rfl
theorem q248 : (Jvm.Cond.soleField "java/lang/Throwable" "backtrace") ∈ lw_all := lw_g (lw_at lw_m1 146 rfl) rfl
theorem q249 : (Jvm.Cond.soleField "java/lang/Throwable" "detailMessage") ∈ lw_all := lw_g (lw_at lw_m1 147 rfl) rfl
theorem q250 : (Jvm.Cond.soleField "java/lang/Throwable" "cause") ∈ lw_all := lw_g (lw_at lw_m1 148 rfl) rfl
theorem q251 : (Jvm.Cond.soleField "java/lang/Throwable" "stackTrace") ∈ lw_all := lw_g (lw_at lw_m1 149 rfl) rfl
theorem q253 : (Jvm.Cond.soleField "java/lang/Throwable" "depth") ∈ lw_all := lw_g (lw_at lw_m1 151 rfl) rfl
theorem q254 : (Jvm.Cond.soleField "java/lang/Throwable" "suppressedExceptions") ∈ lw_all := lw_g (lw_at lw_m1 152 rfl) rfl
theorem q688 : (Jvm.Cond.instanceMethod ({ cls := "java/lang/Throwable", name := "<init>", desc := "(Ljava/lang/String;)V" } : Jvm.MethodName)) ∈ lw_all := lw_g (lw_at lw_m3 106 rfl) rfl
theorem q689 : (Jvm.Cond.code ({ cls := "java/lang/Throwable", name := "<init>", desc := "(Ljava/lang/String;)V" } : Jvm.MethodName) prog_42_method_2_code (2 : Nat) (Option.none : Option Jvm.ClassFile.FieldType)) ∈ lw_all := lw_g (lw_at lw_m3 107 rfl) rfl
theorem q2260 : (Jvm.Cond.sameMethod "java/lang/Throwable" "java/lang/Throwable" "fillInStackTrace" "(I)Ljava/lang/Throwable;") ∈ lw_all := lw_g (lw_at lw_m9 238 rfl) rfl
theorem q2294 : (Jvm.Cond.castable "java/lang/Throwable" "java/lang/Object") ∈ lw_tbl := lw_at lw_m10 32 rfl
theorem in_J0 : ∀ w ∈ wsJ00, w ∈ lw_all := lw_in wsJ00 [195, 197, 199, 201, 203] (by decide +kernel) (by decide +kernel)
theorem q106 : (Jvm.Cond.initialized "java/lang/Exception") ∈ lw_all := lw_g (lw_at lw_m1 4 rfl) rfl
theorem q188 : (Jvm.Cond.declares ({ cls := "java/lang/Exception", name := "<init>", desc := "()V" } : Jvm.MethodName)) ∈ lw_tbl := lw_at lw_m1 86 rfl
theorem q189 : (Jvm.Cond.declares ({ cls := "java/lang/Exception", name := "<init>", desc := "(Ljava/lang/String;)V" } : Jvm.MethodName)) ∈ lw_tbl := lw_at lw_m1 87 rfl
theorem q234 : (Jvm.Cond.instanceMethod ({ cls := "java/lang/Exception", name := "<init>", desc := "(Ljava/lang/String;Ljava/lang/Throwable;ZZ)V" } : Jvm.MethodName)) ∈ lw_all := lw_g (lw_at lw_m1 132 rfl) rfl
theorem q235 : (Jvm.Cond.code ({ cls := "java/lang/Exception", name := "<init>", desc := "(Ljava/lang/String;Ljava/lang/Throwable;ZZ)V" } : Jvm.MethodName) prog_32_method_5_code (5 : Nat) (Option.none : Option Jvm.ClassFile.FieldType)) ∈ lw_all := lw_g (lw_at lw_m1 133 rfl) rfl
theorem q236 : (Jvm.Cond.methodLink "java/lang/Exception" (16 : Nat) ({ cls := "java/lang/Throwable", name := "<init>", desc := "(Ljava/lang/String;Ljava/lang/Throwable;ZZ)V" } : Jvm.MethodName)) ∈ lw_all := lw_g (lw_at lw_m1 134 rfl) rfl
theorem q685 : (Jvm.Cond.instanceMethod ({ cls := "java/lang/Exception", name := "<init>", desc := "(Ljava/lang/String;)V" } : Jvm.MethodName)) ∈ lw_all := lw_g (lw_at lw_m3 103 rfl) rfl
theorem q686 : (Jvm.Cond.code ({ cls := "java/lang/Exception", name := "<init>", desc := "(Ljava/lang/String;)V" } : Jvm.MethodName) prog_32_method_2_code (2 : Nat) (Option.none : Option Jvm.ClassFile.FieldType)) ∈ lw_all := lw_g (lw_at lw_m3 104 rfl) rfl
theorem q687 : (Jvm.Cond.methodLink "java/lang/Exception" (7 : Nat) ({ cls := "java/lang/Throwable", name := "<init>", desc := "(Ljava/lang/String;)V" } : Jvm.MethodName)) ∈ lw_all := lw_g (lw_at lw_m3 105 rfl) rfl
theorem q733 : (Jvm.Cond.instanceMethod ({ cls := "java/lang/Exception", name := "<init>", desc := "()V" } : Jvm.MethodName)) ∈ lw_all := lw_g (lw_at lw_m3 151 rfl) rfl
theorem q734 : (Jvm.Cond.code ({ cls := "java/lang/Exception", name := "<init>", desc := "()V" } : Jvm.MethodName) prog_32_method_1_code (1 : Nat) (Option.none : Option Jvm.ClassFile.FieldType)) ∈ lw_all := lw_g (lw_at lw_m3 152 rfl) rfl
theorem q735 : (Jvm.Cond.methodLink "java/lang/Exception" (1 : Nat) ({ cls := "java/lang/Throwable", name := "<init>", desc := "()V" } : Jvm.MethodName)) ∈ lw_all := lw_g (lw_at lw_m3 153 rfl) rfl
theorem q107 : (Jvm.Cond.initialized "java/lang/RuntimeException") ∈ lw_all := lw_g (lw_at lw_m1 5 rfl) rfl
theorem q186 : (Jvm.Cond.declares ({ cls := "java/lang/RuntimeException", name := "<init>", desc := "()V" } : Jvm.MethodName)) ∈ lw_tbl := lw_at lw_m1 84 rfl
theorem q187 : (Jvm.Cond.declares ({ cls := "java/lang/RuntimeException", name := "<init>", desc := "(Ljava/lang/String;)V" } : Jvm.MethodName)) ∈ lw_tbl := lw_at lw_m1 85 rfl
theorem q231 : (Jvm.Cond.instanceMethod ({ cls := "java/lang/RuntimeException", name := "<init>", desc := "(Ljava/lang/String;Ljava/lang/Throwable;ZZ)V" } : Jvm.MethodName)) ∈ lw_all := lw_g (lw_at lw_m1 129 rfl) rfl
theorem q232 : (Jvm.Cond.code ({ cls := "java/lang/RuntimeException", name := "<init>", desc := "(Ljava/lang/String;Ljava/lang/Throwable;ZZ)V" } : Jvm.MethodName) prog_37_method_5_code (5 : Nat) (Option.none : Option Jvm.ClassFile.FieldType)) ∈ lw_all := lw_g (lw_at lw_m1 130 rfl) rfl
theorem q233 : (Jvm.Cond.methodLink "java/lang/RuntimeException" (16 : Nat) ({ cls := "java/lang/Exception", name := "<init>", desc := "(Ljava/lang/String;Ljava/lang/Throwable;ZZ)V" } : Jvm.MethodName)) ∈ lw_all := lw_g (lw_at lw_m1 131 rfl) rfl
theorem q682 : (Jvm.Cond.instanceMethod ({ cls := "java/lang/RuntimeException", name := "<init>", desc := "(Ljava/lang/String;)V" } : Jvm.MethodName)) ∈ lw_all := lw_g (lw_at lw_m3 100 rfl) rfl
theorem q683 : (Jvm.Cond.code ({ cls := "java/lang/RuntimeException", name := "<init>", desc := "(Ljava/lang/String;)V" } : Jvm.MethodName) prog_37_method_2_code (2 : Nat) (Option.none : Option Jvm.ClassFile.FieldType)) ∈ lw_all := lw_g (lw_at lw_m3 101 rfl) rfl
theorem q684 : (Jvm.Cond.methodLink "java/lang/RuntimeException" (7 : Nat) ({ cls := "java/lang/Exception", name := "<init>", desc := "(Ljava/lang/String;)V" } : Jvm.MethodName)) ∈ lw_all := lw_g (lw_at lw_m3 102 rfl) rfl
theorem q730 : (Jvm.Cond.instanceMethod ({ cls := "java/lang/RuntimeException", name := "<init>", desc := "()V" } : Jvm.MethodName)) ∈ lw_all := lw_g (lw_at lw_m3 148 rfl) rfl
theorem q731 : (Jvm.Cond.code ({ cls := "java/lang/RuntimeException", name := "<init>", desc := "()V" } : Jvm.MethodName) prog_37_method_1_code (1 : Nat) (Option.none : Option Jvm.ClassFile.FieldType)) ∈ lw_all := lw_g (lw_at lw_m3 149 rfl) rfl
theorem q732 : (Jvm.Cond.methodLink "java/lang/RuntimeException" (1 : Nat) ({ cls := "java/lang/Exception", name := "<init>", desc := "()V" } : Jvm.MethodName)) ∈ lw_all := lw_g (lw_at lw_m3 150 rfl) rfl
theorem q112 : (Jvm.Cond.initialized "java/lang/IndexOutOfBoundsException") ∈ lw_all := lw_g (lw_at lw_m1 10 rfl) rfl
theorem q218 : (Jvm.Cond.selects "java/lang/IndexOutOfBoundsException" ({ cls := "java/lang/Throwable", name := "fillInStackTrace", desc := "()Ljava/lang/Throwable;" } : Jvm.MethodName) ({ cls := "java/lang/Throwable", name := "fillInStackTrace", desc := "()Ljava/lang/Throwable;" } : Jvm.MethodName)) ∈ lw_all := lw_g (lw_at lw_m1 116 rfl) rfl
theorem q679 : (Jvm.Cond.instanceMethod ({ cls := "java/lang/IndexOutOfBoundsException", name := "<init>", desc := "(Ljava/lang/String;)V" } : Jvm.MethodName)) ∈ lw_all := lw_g (lw_at lw_m3 97 rfl) rfl
theorem q680 : (Jvm.Cond.code ({ cls := "java/lang/IndexOutOfBoundsException", name := "<init>", desc := "(Ljava/lang/String;)V" } : Jvm.MethodName) prog_34_method_2_code (2 : Nat) (Option.none : Option Jvm.ClassFile.FieldType)) ∈ lw_all := lw_g (lw_at lw_m3 98 rfl) rfl
theorem q681 : (Jvm.Cond.methodLink "java/lang/IndexOutOfBoundsException" (7 : Nat) ({ cls := "java/lang/RuntimeException", name := "<init>", desc := "(Ljava/lang/String;)V" } : Jvm.MethodName)) ∈ lw_all := lw_g (lw_at lw_m3 99 rfl) rfl
theorem q698 : (Jvm.Cond.declares ({ cls := "java/lang/IndexOutOfBoundsException", name := "<init>", desc := "()V" } : Jvm.MethodName)) ∈ lw_tbl := lw_at lw_m3 116 rfl
theorem q699 : (Jvm.Cond.declares ({ cls := "java/lang/IndexOutOfBoundsException", name := "<init>", desc := "(Ljava/lang/String;)V" } : Jvm.MethodName)) ∈ lw_tbl := lw_at lw_m3 117 rfl
theorem q718 : (Jvm.Cond.instantiable "java/lang/IndexOutOfBoundsException" (6 : Nat)) ∈ lw_all := lw_g (lw_at lw_m3 136 rfl) rfl
theorem q719 : (Jvm.Cond.castable "java/lang/IndexOutOfBoundsException" "java/lang/IndexOutOfBoundsException") ∈ lw_tbl := lw_at lw_m3 137 rfl
theorem q720 : (Jvm.Cond.selects "java/lang/IndexOutOfBoundsException" ({ cls := "java/lang/Throwable", name := "fillInStackTrace", desc := "(I)Ljava/lang/Throwable;" } : Jvm.MethodName) ({ cls := "java/lang/Throwable", name := "fillInStackTrace", desc := "(I)Ljava/lang/Throwable;" } : Jvm.MethodName)) ∈ lw_all := lw_g (lw_at lw_m3 138 rfl) rfl
theorem q721 : (Jvm.Cond.lays "java/lang/IndexOutOfBoundsException" "java/lang/Throwable" "cause" "Ljava/lang/Throwable;") ∈ lw_all := lw_g (lw_at lw_m3 139 rfl) rfl
theorem q722 : (Jvm.Cond.lays "java/lang/IndexOutOfBoundsException" "java/lang/Throwable" "stackTrace" "[Ljava/lang/StackTraceElement;") ∈ lw_all := lw_g (lw_at lw_m3 140 rfl) rfl
theorem q723 : (Jvm.Cond.lays "java/lang/IndexOutOfBoundsException" "java/lang/Throwable" "suppressedExceptions" "Ljava/util/List;") ∈ lw_all := lw_g (lw_at lw_m3 141 rfl) rfl
theorem q724 : (Jvm.Cond.lays "java/lang/IndexOutOfBoundsException" "java/lang/Throwable" "detailMessage" "Ljava/lang/String;") ∈ lw_all := lw_g (lw_at lw_m3 142 rfl) rfl
theorem q725 : (Jvm.Cond.lays "java/lang/IndexOutOfBoundsException" "java/lang/Throwable" "backtrace" "Ljava/lang/Object;") ∈ lw_all := lw_g (lw_at lw_m3 143 rfl) rfl
theorem q727 : (Jvm.Cond.instanceMethod ({ cls := "java/lang/IndexOutOfBoundsException", name := "<init>", desc := "()V" } : Jvm.MethodName)) ∈ lw_all := lw_g (lw_at lw_m3 145 rfl) rfl
theorem q728 : (Jvm.Cond.code ({ cls := "java/lang/IndexOutOfBoundsException", name := "<init>", desc := "()V" } : Jvm.MethodName) prog_34_method_1_code (1 : Nat) (Option.none : Option Jvm.ClassFile.FieldType)) ∈ lw_all := lw_g (lw_at lw_m3 146 rfl) rfl
theorem q729 : (Jvm.Cond.methodLink "java/lang/IndexOutOfBoundsException" (1 : Nat) ({ cls := "java/lang/RuntimeException", name := "<init>", desc := "()V" } : Jvm.MethodName)) ∈ lw_all := lw_g (lw_at lw_m3 147 rfl) rfl
theorem q736 : (Jvm.Cond.lays "java/lang/IndexOutOfBoundsException" "java/lang/Throwable" "depth" "I") ∈ lw_all := lw_g (lw_at lw_m3 154 rfl) rfl
theorem q737 : (Jvm.Cond.superclass "java/lang/IndexOutOfBoundsException" "java/lang/RuntimeException") ∈ lw_all := lw_g (lw_at lw_m3 155 rfl) rfl
theorem q2270 : (Jvm.Cond.castable "java/lang/IndexOutOfBoundsException" "java/lang/Object") ∈ lw_tbl := lw_at lw_m10 8 rfl
theorem in_J3 : ∀ w ∈ wsJ30, w ∈ lw_all := lw_in wsJ30 [721, 722, 723, 724, 725, 736] (by decide +kernel) (by decide +kernel)
theorem q113 : (Jvm.Cond.initialized "java/lang/ArrayIndexOutOfBoundsException") ∈ lw_all := lw_g (lw_at lw_m1 11 rfl) rfl
theorem q216 : (Jvm.Cond.selects "java/lang/ArrayIndexOutOfBoundsException" ({ cls := "java/lang/Throwable", name := "fillInStackTrace", desc := "()Ljava/lang/Throwable;" } : Jvm.MethodName) ({ cls := "java/lang/Throwable", name := "fillInStackTrace", desc := "()Ljava/lang/Throwable;" } : Jvm.MethodName)) ∈ lw_all := lw_g (lw_at lw_m1 114 rfl) rfl
theorem q675 : (Jvm.Cond.instantiable "java/lang/ArrayIndexOutOfBoundsException" (6 : Nat)) ∈ lw_all := lw_g (lw_at lw_m3 93 rfl) rfl
theorem q676 : (Jvm.Cond.instanceMethod ({ cls := "java/lang/ArrayIndexOutOfBoundsException", name := "<init>", desc := "(Ljava/lang/String;)V" } : Jvm.MethodName)) ∈ lw_all := lw_g (lw_at lw_m3 94 rfl) rfl
theorem q677 : (Jvm.Cond.code ({ cls := "java/lang/ArrayIndexOutOfBoundsException", name := "<init>", desc := "(Ljava/lang/String;)V" } : Jvm.MethodName) prog_31_method_2_code (2 : Nat) (Option.none : Option Jvm.ClassFile.FieldType)) ∈ lw_all := lw_g (lw_at lw_m3 95 rfl) rfl
theorem q678 : (Jvm.Cond.methodLink "java/lang/ArrayIndexOutOfBoundsException" (7 : Nat) ({ cls := "java/lang/IndexOutOfBoundsException", name := "<init>", desc := "(Ljava/lang/String;)V" } : Jvm.MethodName)) ∈ lw_all := lw_g (lw_at lw_m3 96 rfl) rfl
theorem q690 : (Jvm.Cond.lays "java/lang/ArrayIndexOutOfBoundsException" "java/lang/Throwable" "backtrace" "Ljava/lang/Object;") ∈ lw_all := lw_g (lw_at lw_m3 108 rfl) rfl
theorem q691 : (Jvm.Cond.lays "java/lang/ArrayIndexOutOfBoundsException" "java/lang/Throwable" "detailMessage" "Ljava/lang/String;") ∈ lw_all := lw_g (lw_at lw_m3 109 rfl) rfl
theorem q692 : (Jvm.Cond.lays "java/lang/ArrayIndexOutOfBoundsException" "java/lang/Throwable" "cause" "Ljava/lang/Throwable;") ∈ lw_all := lw_g (lw_at lw_m3 110 rfl) rfl
theorem q693 : (Jvm.Cond.lays "java/lang/ArrayIndexOutOfBoundsException" "java/lang/Throwable" "stackTrace" "[Ljava/lang/StackTraceElement;") ∈ lw_all := lw_g (lw_at lw_m3 111 rfl) rfl
theorem q694 : (Jvm.Cond.lays "java/lang/ArrayIndexOutOfBoundsException" "java/lang/Throwable" "depth" "I") ∈ lw_all := lw_g (lw_at lw_m3 112 rfl) rfl
theorem q695 : (Jvm.Cond.lays "java/lang/ArrayIndexOutOfBoundsException" "java/lang/Throwable" "suppressedExceptions" "Ljava/util/List;") ∈ lw_all := lw_g (lw_at lw_m3 113 rfl) rfl
theorem q696 : (Jvm.Cond.superclass "java/lang/ArrayIndexOutOfBoundsException" "java/lang/IndexOutOfBoundsException") ∈ lw_all := lw_g (lw_at lw_m3 114 rfl) rfl
theorem q697 : (Jvm.Cond.castable "java/lang/ArrayIndexOutOfBoundsException" "java/lang/ArrayIndexOutOfBoundsException") ∈ lw_tbl := lw_at lw_m3 115 rfl
theorem q700 : (Jvm.Cond.selects "java/lang/ArrayIndexOutOfBoundsException" ({ cls := "java/lang/Throwable", name := "fillInStackTrace", desc := "(I)Ljava/lang/Throwable;" } : Jvm.MethodName) ({ cls := "java/lang/Throwable", name := "fillInStackTrace", desc := "(I)Ljava/lang/Throwable;" } : Jvm.MethodName)) ∈ lw_all := lw_g (lw_at lw_m3 118 rfl) rfl
theorem q2262 : (Jvm.Cond.castable "java/lang/ArrayIndexOutOfBoundsException" "java/lang/IndexOutOfBoundsException") ∈ lw_tbl := lw_at lw_m10 0 rfl
theorem q2269 : (Jvm.Cond.castable "java/lang/ArrayIndexOutOfBoundsException" "java/lang/Object") ∈ lw_tbl := lw_at lw_m10 7 rfl
theorem in_J4 : ∀ w ∈ wsJ40, w ∈ lw_all := lw_in wsJ40 [690, 691, 692, 693, 694, 695] (by decide +kernel) (by decide +kernel)
theorem q114 : (Jvm.Cond.initialized "java/lang/String") ∈ lw_all := lw_g (lw_at lw_m1 12 rfl) rfl
theorem q701 : (Jvm.Cond.instantiable "java/lang/String" (4 : Nat)) ∈ lw_all := lw_g (lw_at lw_m3 119 rfl) rfl
theorem q702 : (Jvm.Cond.laysFinal "java/lang/String" "java/lang/String" "value" "[B") ∈ lw_all := lw_g (lw_at lw_m3 120 rfl) rfl
theorem q703 : (Jvm.Cond.soleField "java/lang/String" "value") ∈ lw_all := lw_g (lw_at lw_m3 121 rfl) rfl
theorem q704 : (Jvm.Cond.laysFinal "java/lang/String" "java/lang/String" "coder" "B") ∈ lw_all := lw_g (lw_at lw_m3 122 rfl) rfl
theorem q705 : (Jvm.Cond.soleField "java/lang/String" "coder") ∈ lw_all := lw_g (lw_at lw_m3 123 rfl) rfl
theorem q853 : (Jvm.Cond.instanceMethod ({ cls := "java/lang/String", name := "length", desc := "()I" } : Jvm.MethodName)) ∈ lw_all := lw_g (lw_at lw_m4 31 rfl) rfl
theorem q854 : (Jvm.Cond.selects "java/lang/String" ({ cls := "java/lang/String", name := "length", desc := "()I" } : Jvm.MethodName) ({ cls := "java/lang/String", name := "length", desc := "()I" } : Jvm.MethodName)) ∈ lw_all := lw_g (lw_at lw_m4 32 rfl) rfl
theorem q855 : (Jvm.Cond.code ({ cls := "java/lang/String", name := "length", desc := "()I" } : Jvm.MethodName) prog_38_method_54_code (1 : Nat) (Option.some Jvm.ClassFile.FieldType.int)) ∈ lw_all := lw_g (lw_at lw_m4 33 rfl) rfl
theorem q856 : (Jvm.Cond.methodLink "java/lang/String" (335 : Nat) ({ cls := "java/lang/String", name := "coder", desc := "()B" } : Jvm.MethodName)) ∈ lw_all := lw_g (lw_at lw_m4 34 rfl) rfl
theorem q857 : (Jvm.Cond.instanceMethod ({ cls := "java/lang/String", name := "coder", desc := "()B" } : Jvm.MethodName)) ∈ lw_all := lw_g (lw_at lw_m4 35 rfl) rfl
theorem q858 : (Jvm.Cond.selects "java/lang/String" ({ cls := "java/lang/String", name := "coder", desc := "()B" } : Jvm.MethodName) ({ cls := "java/lang/String", name := "coder", desc := "()B" } : Jvm.MethodName)) ∈ lw_all := lw_g (lw_at lw_m4 36 rfl) rfl
theorem q859 : (Jvm.Cond.code ({ cls := "java/lang/String", name := "coder", desc := "()B" } : Jvm.MethodName) prog_38_method_152_code (1 : Nat) (Option.some Jvm.ClassFile.FieldType.byte)) ∈ lw_all := lw_g (lw_at lw_m4 37 rfl) rfl
theorem q860 : (Jvm.Cond.fieldLink "java/lang/String" (38 : Nat) "java/lang/String" "COMPACT_STRINGS" "Z") ∈ lw_all := lw_g (lw_at lw_m4 38 rfl) rfl
theorem q861 : (Jvm.Cond.laysStatic "java/lang/String" "COMPACT_STRINGS" "Z") ∈ lw_tbl := lw_at lw_m4 39 rfl
theorem q863 : (Jvm.Cond.instanceMethod ({ cls := "java/lang/String", name := "charAt", desc := "(I)C" } : Jvm.MethodName)) ∈ lw_all := lw_g (lw_at lw_m4 41 rfl) rfl
theorem q864 : (Jvm.Cond.selects "java/lang/String" ({ cls := "java/lang/String", name := "charAt", desc := "(I)C" } : Jvm.MethodName) ({ cls := "java/lang/String", name := "charAt", desc := "(I)C" } : Jvm.MethodName)) ∈ lw_all := lw_g (lw_at lw_m4 42 rfl) rfl
theorem q865 : (Jvm.Cond.code ({ cls := "java/lang/String", name := "charAt", desc := "(I)C" } : Jvm.MethodName) prog_38_method_56_code (2 : Nat) (Option.some Jvm.ClassFile.FieldType.char)) ∈ lw_all := lw_g (lw_at lw_m4 43 rfl) rfl
theorem q866 : (Jvm.Cond.methodLink "java/lang/String" (492 : Nat) ({ cls := "java/lang/String", name := "isLatin1", desc := "()Z" } : Jvm.MethodName)) ∈ lw_all := lw_g (lw_at lw_m4 44 rfl) rfl
theorem q867 : (Jvm.Cond.instanceMethod ({ cls := "java/lang/String", name := "isLatin1", desc := "()Z" } : Jvm.MethodName)) ∈ lw_all := lw_g (lw_at lw_m4 45 rfl) rfl
theorem q868 : (Jvm.Cond.selects "java/lang/String" ({ cls := "java/lang/String", name := "isLatin1", desc := "()Z" } : Jvm.MethodName) ({ cls := "java/lang/String", name := "isLatin1", desc := "()Z" } : Jvm.MethodName)) ∈ lw_all := lw_g (lw_at lw_m4 46 rfl) rfl
theorem q869 : (Jvm.Cond.code ({ cls := "java/lang/String", name := "isLatin1", desc := "()Z" } : Jvm.MethodName) prog_38_method_154_code (1 : Nat) (Option.some Jvm.ClassFile.FieldType.boolean)) ∈ lw_all := lw_g (lw_at lw_m4 47 rfl) rfl
theorem q870 : (Jvm.Cond.methodLink "java/lang/String" (495 : Nat) ({ cls := "java/lang/StringLatin1", name := "charAt", desc := "([BI)C" } : Jvm.MethodName)) ∈ lw_all := lw_g (lw_at lw_m4 48 rfl) rfl
theorem q874 : (Jvm.Cond.static ({ cls := "java/lang/String", name := "checkIndex", desc := "(II)V" } : Jvm.MethodName)) ∈ lw_all := lw_g (lw_at lw_m4 52 rfl) rfl
theorem q875 : (Jvm.Cond.code ({ cls := "java/lang/String", name := "checkIndex", desc := "(II)V" } : Jvm.MethodName) prog_38_method_155_code (2 : Nat) (Option.none : Option Jvm.ClassFile.FieldType)) ∈ lw_all := lw_g (lw_at lw_m4 53 rfl) rfl
theorem q876 : (Jvm.Cond.fieldLink "java/lang/String" (1053 : Nat) "jdk/internal/util/Preconditions" "SIOOBE_FORMATTER" "Ljava/util/function/BiFunction;") ∈ lw_all := lw_g (lw_at lw_m4 54 rfl) rfl
theorem q878 : (Jvm.Cond.methodLink "java/lang/String" (1059 : Nat) ({ cls := "jdk/internal/util/Preconditions", name := "checkIndex", desc := "(IILjava/util/function/BiFunction;)I" } : Jvm.MethodName)) ∈ lw_all := lw_g (lw_at lw_m4 56 rfl) rfl
theorem q881 : (Jvm.Cond.methodLink "java/lang/String" (498 : Nat) ({ cls := "java/lang/StringUTF16", name := "charAt", desc := "([BI)C" } : Jvm.MethodName)) ∈ lw_all := lw_g (lw_at lw_m4 59 rfl) rfl
theorem q2295 : (Jvm.Cond.castable "java/lang/String" "java/lang/Object") ∈ lw_tbl := lw_at lw_m10 33 rfl
theorem q2305 : (Jvm.Cond.fieldLink "java/lang/String" (9 : Nat) "java/lang/String" "value" "[B") ∈ lw_all := lw_g (lw_at lw_m10 43 rfl) rfl
theorem q2306 : (Jvm.Cond.fieldLink "java/lang/String" (15 : Nat) "java/lang/String" "coder" "B") ∈ lw_all := lw_g (lw_at lw_m10 44 rfl) rfl
theorem in_J5 : ∀ w ∈ wsJ50, w ∈ lw_all := lw_in wsJ50 [702, 704] (by decide +kernel) (by decide +kernel)
theorem q115 : (Jvm.Cond.initialized "java/lang/IllegalArgumentException") ∈ lw_all := lw_g (lw_at lw_m1 13 rfl) rfl
theorem q217 : (Jvm.Cond.selects "java/lang/IllegalArgumentException" ({ cls := "java/lang/Throwable", name := "fillInStackTrace", desc := "()Ljava/lang/Throwable;" } : Jvm.MethodName) ({ cls := "java/lang/Throwable", name := "fillInStackTrace", desc := "()Ljava/lang/Throwable;" } : Jvm.MethodName)) ∈ lw_all := lw_g (lw_at lw_m1 115 rfl) rfl
theorem q742 : (Jvm.Cond.instantiable "java/lang/IllegalArgumentException" (6 : Nat)) ∈ lw_all := lw_g (lw_at lw_m3 160 rfl) rfl
theorem q743 : (Jvm.Cond.castable "java/lang/IllegalArgumentException" "java/lang/IllegalArgumentException") ∈ lw_tbl := lw_at lw_m3 161 rfl
theorem q744 : (Jvm.Cond.selects "java/lang/IllegalArgumentException" ({ cls := "java/lang/Throwable", name := "fillInStackTrace", desc := "(I)Ljava/lang/Throwable;" } : Jvm.MethodName) ({ cls := "java/lang/Throwable", name := "fillInStackTrace", desc := "(I)Ljava/lang/Throwable;" } : Jvm.MethodName)) ∈ lw_all := lw_g (lw_at lw_m3 162 rfl) rfl
theorem q745 : (Jvm.Cond.lays "java/lang/IllegalArgumentException" "java/lang/Throwable" "cause" "Ljava/lang/Throwable;") ∈ lw_all := lw_g (lw_at lw_m3 163 rfl) rfl
theorem q746 : (Jvm.Cond.lays "java/lang/IllegalArgumentException" "java/lang/Throwable" "stackTrace" "[Ljava/lang/StackTraceElement;") ∈ lw_all := lw_g (lw_at lw_m3 164 rfl) rfl
theorem q747 : (Jvm.Cond.lays "java/lang/IllegalArgumentException" "java/lang/Throwable" "suppressedExceptions" "Ljava/util/List;") ∈ lw_all := lw_g (lw_at lw_m3 165 rfl) rfl
theorem q748 : (Jvm.Cond.lays "java/lang/IllegalArgumentException" "java/lang/Throwable" "detailMessage" "Ljava/lang/String;") ∈ lw_all := lw_g (lw_at lw_m3 166 rfl) rfl
theorem q749 : (Jvm.Cond.lays "java/lang/IllegalArgumentException" "java/lang/Throwable" "backtrace" "Ljava/lang/Object;") ∈ lw_all := lw_g (lw_at lw_m3 167 rfl) rfl
theorem q751 : (Jvm.Cond.instanceMethod ({ cls := "java/lang/IllegalArgumentException", name := "<init>", desc := "()V" } : Jvm.MethodName)) ∈ lw_all := lw_g (lw_at lw_m3 169 rfl) rfl
theorem q752 : (Jvm.Cond.code ({ cls := "java/lang/IllegalArgumentException", name := "<init>", desc := "()V" } : Jvm.MethodName) prog_33_method_1_code (1 : Nat) (Option.none : Option Jvm.ClassFile.FieldType)) ∈ lw_all := lw_g (lw_at lw_m3 170 rfl) rfl
theorem q753 : (Jvm.Cond.methodLink "java/lang/IllegalArgumentException" (1 : Nat) ({ cls := "java/lang/RuntimeException", name := "<init>", desc := "()V" } : Jvm.MethodName)) ∈ lw_all := lw_g (lw_at lw_m3 171 rfl) rfl
theorem q754 : (Jvm.Cond.lays "java/lang/IllegalArgumentException" "java/lang/Throwable" "depth" "I") ∈ lw_all := lw_g (lw_at lw_m3 172 rfl) rfl
theorem q755 : (Jvm.Cond.superclass "java/lang/IllegalArgumentException" "java/lang/RuntimeException") ∈ lw_all := lw_g (lw_at lw_m3 173 rfl) rfl
theorem q2271 : (Jvm.Cond.castable "java/lang/IllegalArgumentException" "java/lang/Object") ∈ lw_tbl := lw_at lw_m10 9 rfl
theorem in_J6 : ∀ w ∈ wsJ60, w ∈ lw_all := lw_in wsJ60 [745, 746, 747, 748, 749, 754] (by decide +kernel) (by decide +kernel)
theorem q116 : (Jvm.Cond.initialized "java/lang/Math") ∈ lw_all := lw_g (lw_at lw_m1 14 rfl) rfl
theorem q520 : (Jvm.Cond.static ({ cls := "java/lang/Math", name := "abs", desc := "(I)I" } : Jvm.MethodName)) ∈ lw_all := lw_g (lw_at lw_m2 178 rfl) rfl
theorem q521 : (Jvm.Cond.code ({ cls := "java/lang/Math", name := "abs", desc := "(I)I" } : Jvm.MethodName) prog_36_method_59_code (1 : Nat) (Option.some Jvm.ClassFile.FieldType.int)) ∈ lw_all := lw_g (lw_at lw_m2 179 rfl) rfl
theorem q558 : (Jvm.Cond.static ({ cls := "java/lang/Math", name := "max", desc := "(II)I" } : Jvm.MethodName)) ∈ lw_all := lw_g (lw_at lw_m2 216 rfl) rfl
theorem q559 : (Jvm.Cond.code ({ cls := "java/lang/Math", name := "max", desc := "(II)I" } : Jvm.MethodName) prog_36_method_65_code (2 : Nat) (Option.some Jvm.ClassFile.FieldType.int)) ∈ lw_all := lw_g (lw_at lw_m2 217 rfl) rfl
theorem q569 : (Jvm.Cond.static ({ cls := "java/lang/Math", name := "floorDiv", desc := "(II)I" } : Jvm.MethodName)) ∈ lw_all := lw_g (lw_at lw_m2 227 rfl) rfl
theorem q570 : (Jvm.Cond.code ({ cls := "java/lang/Math", name := "floorDiv", desc := "(II)I" } : Jvm.MethodName) prog_36_method_47_code (3 : Nat) (Option.some Jvm.ClassFile.FieldType.int)) ∈ lw_all := lw_g (lw_at lw_m2 228 rfl) rfl
theorem q760 : (Jvm.Cond.static ({ cls := "java/lang/Math", name := "min", desc := "(II)I" } : Jvm.MethodName)) ∈ lw_all := lw_g (lw_at lw_m3 178 rfl) rfl
theorem q761 : (Jvm.Cond.code ({ cls := "java/lang/Math", name := "min", desc := "(II)I" } : Jvm.MethodName) prog_36_method_69_code (2 : Nat) (Option.some Jvm.ClassFile.FieldType.int)) ∈ lw_all := lw_g (lw_at lw_m3 179 rfl) rfl
theorem q117 : (Jvm.Cond.initialized "java/lang/UnsupportedOperationException") ∈ lw_all := lw_g (lw_at lw_m1 15 rfl) rfl
theorem q219 : (Jvm.Cond.selects "java/lang/UnsupportedOperationException" ({ cls := "java/lang/Throwable", name := "fillInStackTrace", desc := "()Ljava/lang/Throwable;" } : Jvm.MethodName) ({ cls := "java/lang/Throwable", name := "fillInStackTrace", desc := "()Ljava/lang/Throwable;" } : Jvm.MethodName)) ∈ lw_all := lw_g (lw_at lw_m1 117 rfl) rfl
theorem q793 : (Jvm.Cond.instantiable "java/lang/UnsupportedOperationException" (6 : Nat)) ∈ lw_all := lw_g (lw_at lw_m3 211 rfl) rfl
theorem q794 : (Jvm.Cond.castable "java/lang/UnsupportedOperationException" "java/lang/UnsupportedOperationException") ∈ lw_tbl := lw_at lw_m3 212 rfl
theorem q795 : (Jvm.Cond.selects "java/lang/UnsupportedOperationException" ({ cls := "java/lang/Throwable", name := "fillInStackTrace", desc := "(I)Ljava/lang/Throwable;" } : Jvm.MethodName) ({ cls := "java/lang/Throwable", name := "fillInStackTrace", desc := "(I)Ljava/lang/Throwable;" } : Jvm.MethodName)) ∈ lw_all := lw_g (lw_at lw_m3 213 rfl) rfl
theorem q796 : (Jvm.Cond.lays "java/lang/UnsupportedOperationException" "java/lang/Throwable" "cause" "Ljava/lang/Throwable;") ∈ lw_all := lw_g (lw_at lw_m3 214 rfl) rfl
theorem q797 : (Jvm.Cond.lays "java/lang/UnsupportedOperationException" "java/lang/Throwable" "stackTrace" "[Ljava/lang/StackTraceElement;") ∈ lw_all := lw_g (lw_at lw_m3 215 rfl) rfl
theorem q798 : (Jvm.Cond.lays "java/lang/UnsupportedOperationException" "java/lang/Throwable" "suppressedExceptions" "Ljava/util/List;") ∈ lw_all := lw_g (lw_at lw_m3 216 rfl) rfl
theorem q799 : (Jvm.Cond.lays "java/lang/UnsupportedOperationException" "java/lang/Throwable" "detailMessage" "Ljava/lang/String;") ∈ lw_all := lw_g (lw_at lw_m3 217 rfl) rfl
theorem q800 : (Jvm.Cond.lays "java/lang/UnsupportedOperationException" "java/lang/Throwable" "backtrace" "Ljava/lang/Object;") ∈ lw_all := lw_g (lw_at lw_m3 218 rfl) rfl
theorem q802 : (Jvm.Cond.instanceMethod ({ cls := "java/lang/UnsupportedOperationException", name := "<init>", desc := "()V" } : Jvm.MethodName)) ∈ lw_all := lw_g (lw_at lw_m3 220 rfl) rfl
theorem q803 : (Jvm.Cond.code ({ cls := "java/lang/UnsupportedOperationException", name := "<init>", desc := "()V" } : Jvm.MethodName) prog_43_method_1_code (1 : Nat) (Option.none : Option Jvm.ClassFile.FieldType)) ∈ lw_all := lw_g (lw_at lw_m3 221 rfl) rfl
theorem q804 : (Jvm.Cond.methodLink "java/lang/UnsupportedOperationException" (1 : Nat) ({ cls := "java/lang/RuntimeException", name := "<init>", desc := "()V" } : Jvm.MethodName)) ∈ lw_all := lw_g (lw_at lw_m3 222 rfl) rfl
theorem q805 : (Jvm.Cond.lays "java/lang/UnsupportedOperationException" "java/lang/Throwable" "depth" "I") ∈ lw_all := lw_g (lw_at lw_m3 223 rfl) rfl
theorem q806 : (Jvm.Cond.superclass "java/lang/UnsupportedOperationException" "java/lang/RuntimeException") ∈ lw_all := lw_g (lw_at lw_m3 224 rfl) rfl
theorem q2272 : (Jvm.Cond.castable "java/lang/UnsupportedOperationException" "java/lang/Object") ∈ lw_tbl := lw_at lw_m10 10 rfl
theorem in_J8 : ∀ w ∈ wsJ80, w ∈ lw_all := lw_in wsJ80 [796, 797, 798, 799, 800, 805] (by decide +kernel) (by decide +kernel)
theorem q119 : (Jvm.Cond.initialized "java/lang/StringLatin1") ∈ lw_all := lw_g (lw_at lw_m1 17 rfl) rfl
theorem q871 : (Jvm.Cond.static ({ cls := "java/lang/StringLatin1", name := "charAt", desc := "([BI)C" } : Jvm.MethodName)) ∈ lw_all := lw_g (lw_at lw_m4 49 rfl) rfl
theorem q872 : (Jvm.Cond.code ({ cls := "java/lang/StringLatin1", name := "charAt", desc := "([BI)C" } : Jvm.MethodName) prog_39_method_2_code (2 : Nat) (Option.some Jvm.ClassFile.FieldType.char)) ∈ lw_all := lw_g (lw_at lw_m4 50 rfl) rfl
theorem q873 : (Jvm.Cond.methodLink "java/lang/StringLatin1" (9 : Nat) ({ cls := "java/lang/String", name := "checkIndex", desc := "(II)V" } : Jvm.MethodName)) ∈ lw_all := lw_g (lw_at lw_m4 51 rfl) rfl
theorem q120 : (Jvm.Cond.initialized "jdk/internal/util/Preconditions") ∈ lw_all := lw_g (lw_at lw_m1 18 rfl) rfl
theorem q877 : (Jvm.Cond.laysStatic "jdk/internal/util/Preconditions" "SIOOBE_FORMATTER" "Ljava/util/function/BiFunction;") ∈ lw_tbl := lw_at lw_m4 55 rfl
theorem q879 : (Jvm.Cond.static ({ cls := "jdk/internal/util/Preconditions", name := "checkIndex", desc := "(IILjava/util/function/BiFunction;)I" } : Jvm.MethodName)) ∈ lw_all := lw_g (lw_at lw_m4 57 rfl) rfl
theorem q880 : (Jvm.Cond.code ({ cls := "jdk/internal/util/Preconditions", name := "checkIndex", desc := "(IILjava/util/function/BiFunction;)I" } : Jvm.MethodName) prog_45_method_11_code (3 : Nat) (Option.some Jvm.ClassFile.FieldType.int)) ∈ lw_all := lw_g (lw_at lw_m4 58 rfl) rfl
theorem q121 : (Jvm.Cond.initialized "java/lang/StringUTF16") ∈ lw_all := lw_g (lw_at lw_m1 19 rfl) rfl
theorem q882 : (Jvm.Cond.static ({ cls := "java/lang/StringUTF16", name := "charAt", desc := "([BI)C" } : Jvm.MethodName)) ∈ lw_all := lw_g (lw_at lw_m4 60 rfl) rfl
theorem q883 : (Jvm.Cond.code ({ cls := "java/lang/StringUTF16", name := "charAt", desc := "([BI)C" } : Jvm.MethodName) prog_40_method_83_code (2 : Nat) (Option.some Jvm.ClassFile.FieldType.char)) ∈ lw_all := lw_g (lw_at lw_m4 61 rfl) rfl
theorem q884 : (Jvm.Cond.methodLink "java/lang/StringUTF16" (67 : Nat) ({ cls := "java/lang/StringUTF16", name := "checkIndex", desc := "(I[B)V" } : Jvm.MethodName)) ∈ lw_all := lw_g (lw_at lw_m4 62 rfl) rfl
theorem q885 : (Jvm.Cond.static ({ cls := "java/lang/StringUTF16", name := "checkIndex", desc := "(I[B)V" } : Jvm.MethodName)) ∈ lw_all := lw_g (lw_at lw_m4 63 rfl) rfl
theorem q886 : (Jvm.Cond.code ({ cls := "java/lang/StringUTF16", name := "checkIndex", desc := "(I[B)V" } : Jvm.MethodName) prog_40_method_91_code (2 : Nat) (Option.none : Option Jvm.ClassFile.FieldType)) ∈ lw_all := lw_g (lw_at lw_m4 64 rfl) rfl
theorem q887 : (Jvm.Cond.methodLink "java/lang/StringUTF16" (48 : Nat) ({ cls := "java/lang/StringUTF16", name := "length", desc := "([B)I" } : Jvm.MethodName)) ∈ lw_all := lw_g (lw_at lw_m4 65 rfl) rfl
theorem q888 : (Jvm.Cond.static ({ cls := "java/lang/StringUTF16", name := "length", desc := "([B)I" } : Jvm.MethodName)) ∈ lw_all := lw_g (lw_at lw_m4 66 rfl) rfl
theorem q889 : (Jvm.Cond.code ({ cls := "java/lang/StringUTF16", name := "length", desc := "([B)I" } : Jvm.MethodName) prog_40_method_6_code (1 : Nat) (Option.some Jvm.ClassFile.FieldType.int)) ∈ lw_all := lw_g (lw_at lw_m4 67 rfl) rfl
theorem q890 : (Jvm.Cond.methodLink "java/lang/StringUTF16" (414 : Nat) ({ cls := "java/lang/String", name := "checkIndex", desc := "(II)V" } : Jvm.MethodName)) ∈ lw_all := lw_g (lw_at lw_m4 68 rfl) rfl
theorem q891 : (Jvm.Cond.methodLink "java/lang/StringUTF16" (71 : Nat) ({ cls := "java/lang/StringUTF16", name := "getChar", desc := "([BI)C" } : Jvm.MethodName)) ∈ lw_all := lw_g (lw_at lw_m4 69 rfl) rfl
theorem q892 : (Jvm.Cond.static ({ cls := "java/lang/StringUTF16", name := "getChar", desc := "([BI)C" } : Jvm.MethodName)) ∈ lw_all := lw_g (lw_at lw_m4 70 rfl) rfl
theorem q893 : (Jvm.Cond.code ({ cls := "java/lang/StringUTF16", name := "getChar", desc := "([BI)C" } : Jvm.MethodName) prog_40_method_5_code (2 : Nat) (Option.some Jvm.ClassFile.FieldType.char)) ∈ lw_all := lw_g (lw_at lw_m4 71 rfl) rfl
theorem q894 : (Jvm.Cond.fieldLink "java/lang/StringUTF16" (44 : Nat) "java/lang/StringUTF16" "$assertionsDisabled" "Z") ∈ lw_all := lw_g (lw_at lw_m4 72 rfl) rfl
theorem q895 : (Jvm.Cond.laysStatic "java/lang/StringUTF16" "$assertionsDisabled" "Z") ∈ lw_tbl := lw_at lw_m4 73 rfl
theorem q896 : (Jvm.Cond.fieldLink "java/lang/StringUTF16" (59 : Nat) "java/lang/StringUTF16" "HI_BYTE_SHIFT" "I") ∈ lw_all := lw_g (lw_at lw_m4 74 rfl) rfl
theorem q897 : (Jvm.Cond.laysStatic "java/lang/StringUTF16" "HI_BYTE_SHIFT" "I") ∈ lw_tbl := lw_at lw_m4 75 rfl
theorem q898 : (Jvm.Cond.fieldLink "java/lang/StringUTF16" (63 : Nat) "java/lang/StringUTF16" "LO_BYTE_SHIFT" "I") ∈ lw_all := lw_g (lw_at lw_m4 76 rfl) rfl
theorem q899 : (Jvm.Cond.laysStatic "java/lang/StringUTF16" "LO_BYTE_SHIFT" "I") ∈ lw_tbl := lw_at lw_m4 77 rfl
theorem q136 : (Jvm.Cond.initialized "java/util/NoSuchElementException") ∈ lw_all := lw_g (lw_at lw_m1 34 rfl) rfl
theorem q220 : (Jvm.Cond.selects "java/util/NoSuchElementException" ({ cls := "java/lang/Throwable", name := "fillInStackTrace", desc := "()Ljava/lang/Throwable;" } : Jvm.MethodName) ({ cls := "java/lang/Throwable", name := "fillInStackTrace", desc := "()Ljava/lang/Throwable;" } : Jvm.MethodName)) ∈ lw_all := lw_g (lw_at lw_m1 118 rfl) rfl
theorem q1094 : (Jvm.Cond.instantiable "java/util/NoSuchElementException" (6 : Nat)) ∈ lw_all := lw_g (lw_at lw_m5 32 rfl) rfl
theorem q1095 : (Jvm.Cond.castable "java/util/NoSuchElementException" "java/util/NoSuchElementException") ∈ lw_tbl := lw_at lw_m5 33 rfl
theorem q1096 : (Jvm.Cond.selects "java/util/NoSuchElementException" ({ cls := "java/lang/Throwable", name := "fillInStackTrace", desc := "(I)Ljava/lang/Throwable;" } : Jvm.MethodName) ({ cls := "java/lang/Throwable", name := "fillInStackTrace", desc := "(I)Ljava/lang/Throwable;" } : Jvm.MethodName)) ∈ lw_all := lw_g (lw_at lw_m5 34 rfl) rfl
theorem q1097 : (Jvm.Cond.lays "java/util/NoSuchElementException" "java/lang/Throwable" "cause" "Ljava/lang/Throwable;") ∈ lw_all := lw_g (lw_at lw_m5 35 rfl) rfl
theorem q1098 : (Jvm.Cond.lays "java/util/NoSuchElementException" "java/lang/Throwable" "stackTrace" "[Ljava/lang/StackTraceElement;") ∈ lw_all := lw_g (lw_at lw_m5 36 rfl) rfl
theorem q1099 : (Jvm.Cond.lays "java/util/NoSuchElementException" "java/lang/Throwable" "suppressedExceptions" "Ljava/util/List;") ∈ lw_all := lw_g (lw_at lw_m5 37 rfl) rfl
theorem q1100 : (Jvm.Cond.lays "java/util/NoSuchElementException" "java/lang/Throwable" "detailMessage" "Ljava/lang/String;") ∈ lw_all := lw_g (lw_at lw_m5 38 rfl) rfl
theorem q1101 : (Jvm.Cond.lays "java/util/NoSuchElementException" "java/lang/Throwable" "backtrace" "Ljava/lang/Object;") ∈ lw_all := lw_g (lw_at lw_m5 39 rfl) rfl
theorem q1103 : (Jvm.Cond.instanceMethod ({ cls := "java/util/NoSuchElementException", name := "<init>", desc := "()V" } : Jvm.MethodName)) ∈ lw_all := lw_g (lw_at lw_m5 41 rfl) rfl
theorem q1104 : (Jvm.Cond.code ({ cls := "java/util/NoSuchElementException", name := "<init>", desc := "()V" } : Jvm.MethodName) prog_44_method_1_code (1 : Nat) (Option.none : Option Jvm.ClassFile.FieldType)) ∈ lw_all := lw_g (lw_at lw_m5 42 rfl) rfl
theorem q1105 : (Jvm.Cond.methodLink "java/util/NoSuchElementException" (1 : Nat) ({ cls := "java/lang/RuntimeException", name := "<init>", desc := "()V" } : Jvm.MethodName)) ∈ lw_all := lw_g (lw_at lw_m5 43 rfl) rfl
theorem q1106 : (Jvm.Cond.lays "java/util/NoSuchElementException" "java/lang/Throwable" "depth" "I") ∈ lw_all := lw_g (lw_at lw_m5 44 rfl) rfl
theorem q1107 : (Jvm.Cond.superclass "java/util/NoSuchElementException" "java/lang/RuntimeException") ∈ lw_all := lw_g (lw_at lw_m5 45 rfl) rfl
theorem q2286 : (Jvm.Cond.castable "java/util/NoSuchElementException" "java/lang/Object") ∈ lw_tbl := lw_at lw_m10 24 rfl
theorem in_J12 : ∀ w ∈ wsJ120, w ∈ lw_all := lw_in wsJ120 [1097, 1098, 1099, 1100, 1101, 1106] (by decide +kernel) (by decide +kernel)
theorem q142 : (Jvm.Cond.initialized "java/lang/Integer") ∈ lw_all := lw_g (lw_at lw_m1 40 rfl) rfl
theorem q572 : (Jvm.Cond.static ({ cls := "java/lang/Integer", name := "bitCount", desc := "(I)I" } : Jvm.MethodName)) ∈ lw_all := lw_g (lw_at lw_m2 230 rfl) rfl
theorem q573 : (Jvm.Cond.code ({ cls := "java/lang/Integer", name := "bitCount", desc := "(I)I" } : Jvm.MethodName) prog_35_method_49_code (1 : Nat) (Option.some Jvm.ClassFile.FieldType.int)) ∈ lw_all := lw_g (lw_at lw_m2 231 rfl) rfl
theorem q574 : (Jvm.Cond.constant "java/lang/Integer" (265 : Nat) (1431655765 : Int32)) ∈ lw_all := lw_g (lw_at lw_m2 232 rfl) rfl
theorem q575 : (Jvm.Cond.constant "java/lang/Integer" (266 : Nat) (858993459 : Int32)) ∈ lw_all := lw_g (lw_at lw_m2 233 rfl) rfl
theorem q576 : (Jvm.Cond.constant "java/lang/Integer" (267 : Nat) (252645135 : Int32)) ∈ lw_all := lw_g (lw_at lw_m2 234 rfl) rfl
theorem q1417 : (Jvm.Cond.static ({ cls := "java/lang/Integer", name := "numberOfTrailingZeros", desc := "(I)I" } : Jvm.MethodName)) ∈ lw_all := lw_g (lw_at lw_m6 115 rfl) rfl
theorem q1418 : (Jvm.Cond.code ({ cls := "java/lang/Integer", name := "numberOfTrailingZeros", desc := "(I)I" } : Jvm.MethodName) prog_35_method_48_code (2 : Nat) (Option.some Jvm.ClassFile.FieldType.int)) ∈ lw_all := lw_g (lw_at lw_m6 116 rfl) rfl
theorem q1419 : (Jvm.Cond.constant "java/lang/Integer" (264 : Nat) (65536 : Int32)) ∈ lw_all := lw_g (lw_at lw_m6 117 rfl) rfl
theorem q152 : (Jvm.Cond.instanceMethod ({ cls := "java/lang/Object", name := "<init>", desc := "()V" } : Jvm.MethodName)) ∈ lw_all := lw_g (lw_at lw_m1 50 rfl) rfl
theorem q153 : (Jvm.Cond.code ({ cls := "java/lang/Object", name := "<init>", desc := "()V" } : Jvm.MethodName) object_method_1_code (1 : Nat) (Option.none : Option Jvm.ClassFile.FieldType)) ∈ lw_all := lw_g (lw_at lw_m1 51 rfl) rfl
theorem q102 : (Jvm.Cond.initialized "GrassFieldLaw") ∈ lw_all := lw_g (lw_at lw_m1 0 rfl) rfl
theorem q146 : (Jvm.Cond.classLink "GrassFieldLaw" (8 : Nat) "GrassField") ∈ lw_all := lw_g (lw_at lw_m1 44 rfl) rfl
theorem q148 : (Jvm.Cond.methodLink "GrassFieldLaw" (127 : Nat) ({ cls := "GrassField", name := "<init>", desc := "()V" } : Jvm.MethodName)) ∈ lw_all := lw_g (lw_at lw_m1 46 rfl) rfl
theorem q464 : (Jvm.Cond.methodLink "GrassFieldLaw" (131 : Nat) ({ cls := "GrassField", name := "feed", desc := "(IIIII)I" } : Jvm.MethodName)) ∈ lw_all := lw_g (lw_at lw_m2 122 rfl) rfl
theorem q472 : (Jvm.Cond.methodLink "GrassFieldLaw" (136 : Nat) ({ cls := "GrassField", name := "end", desc := "(I)Z" } : Jvm.MethodName)) ∈ lw_all := lw_g (lw_at lw_m2 130 rfl) rfl
theorem q479 : (Jvm.Cond.methodLink "GrassFieldLaw" (169 : Nat) ({ cls := "GrassField", name := "fault", desc := "()I" } : Jvm.MethodName)) ∈ lw_all := lw_g (lw_at lw_m2 137 rfl) rfl
theorem q483 : (Jvm.Cond.methodLink "GrassFieldLaw" (179 : Nat) ({ cls := "GrassField", name := "seed", desc := "(I)V" } : Jvm.MethodName)) ∈ lw_all := lw_g (lw_at lw_m2 141 rfl) rfl
theorem q487 : (Jvm.Cond.methodLink "GrassFieldLaw" (206 : Nat) ({ cls := "GrassField", name := "next", desc := "()I" } : Jvm.MethodName)) ∈ lw_all := lw_g (lw_at lw_m2 145 rfl) rfl
theorem q522 : (Jvm.Cond.methodLink "GrassFieldLaw" (248 : Nat) ({ cls := "GrassField", name := "apart", desc := "()I" } : Jvm.MethodName)) ∈ lw_all := lw_g (lw_at lw_m2 180 rfl) rfl
theorem q581 : (Jvm.Cond.methodLink "GrassFieldLaw" (268 : Nat) ({ cls := "GrassField", name := "image", desc := "()V" } : Jvm.MethodName)) ∈ lw_all := lw_g (lw_at lw_m2 239 rfl) rfl
theorem q663 : (Jvm.Cond.methodLink "GrassFieldLaw" (272 : Nat) ({ cls := "GrassField", name := "back", desc := "()Z" } : Jvm.MethodName)) ∈ lw_all := lw_g (lw_at lw_m3 81 rfl) rfl
theorem q667 : (Jvm.Cond.methodLink "GrassFieldLaw" (277 : Nat) ({ cls := "GrassField", name := "count", desc := "(I)I" } : Jvm.MethodName)) ∈ lw_all := lw_g (lw_at lw_m3 85 rfl) rfl
theorem q671 : (Jvm.Cond.methodLink "GrassFieldLaw" (140 : Nat) ({ cls := "GrassFieldLaw", name := "ground", desc := "(LGrassField;III)I" } : Jvm.MethodName)) ∈ lw_all := lw_g (lw_at lw_m3 89 rfl) rfl
theorem q672 : (Jvm.Cond.static ({ cls := "GrassFieldLaw", name := "ground", desc := "(LGrassField;III)I" } : Jvm.MethodName)) ∈ lw_all := lw_g (lw_at lw_m3 90 rfl) rfl
theorem q673 : (Jvm.Cond.codeWith ({ cls := "GrassFieldLaw", name := "ground", desc := "(LGrassField;III)I" } : Jvm.MethodName) method_3_code (5 : Nat) (Option.some Jvm.ClassFile.FieldType.int) [((0 : Nat), (7 : Nat), (10 : Nat), (13 : Nat)), ((0 : Nat), (7 : Nat), (14 : Nat), (15 : Nat))]) ∈ lw_all := lw_g (lw_at lw_m3 91 rfl) rfl
theorem q674 : (Jvm.Cond.classLink "GrassFieldLaw" (13 : Nat) "java/lang/IndexOutOfBoundsException") ∈ lw_all := lw_g (lw_at lw_m3 92 rfl) rfl
theorem q706 : (Jvm.Cond.classLink "GrassFieldLaw" (15 : Nat) "java/lang/IllegalArgumentException") ∈ lw_all := lw_g (lw_at lw_m3 124 rfl) rfl
theorem q707 : (Jvm.Cond.methodLink "GrassFieldLaw" (7 : Nat) ({ cls := "GrassField", name := "ground", desc := "(III)V" } : Jvm.MethodName)) ∈ lw_all := lw_g (lw_at lw_m3 125 rfl) rfl
theorem q763 : (Jvm.Cond.methodLink "GrassFieldLaw" (149 : Nat) ({ cls := "GrassFieldLaw", name := "height", desc := "(LGrassField;I[J)I" } : Jvm.MethodName)) ∈ lw_all := lw_g (lw_at lw_m3 181 rfl) rfl
theorem q764 : (Jvm.Cond.static ({ cls := "GrassFieldLaw", name := "height", desc := "(LGrassField;I[J)I" } : Jvm.MethodName)) ∈ lw_all := lw_g (lw_at lw_m3 182 rfl) rfl
theorem q765 : (Jvm.Cond.codeWith ({ cls := "GrassFieldLaw", name := "height", desc := "(LGrassField;I[J)I" } : Jvm.MethodName) method_4_code (4 : Nat) (Option.some Jvm.ClassFile.FieldType.int) [((0 : Nat), (9 : Nat), (12 : Nat), (13 : Nat))]) ∈ lw_all := lw_g (lw_at lw_m3 183 rfl) rfl
theorem q766 : (Jvm.Cond.methodLink "GrassFieldLaw" (17 : Nat) ({ cls := "GrassField", name := "height", desc := "(I)I" } : Jvm.MethodName)) ∈ lw_all := lw_g (lw_at lw_m3 184 rfl) rfl
theorem q770 : (Jvm.Cond.methodLink "GrassFieldLaw" (153 : Nat) ({ cls := "GrassFieldLaw", name := "sees", desc := "(LGrassField;II[J)I" } : Jvm.MethodName)) ∈ lw_all := lw_g (lw_at lw_m3 188 rfl) rfl
theorem q771 : (Jvm.Cond.static ({ cls := "GrassFieldLaw", name := "sees", desc := "(LGrassField;II[J)I" } : Jvm.MethodName)) ∈ lw_all := lw_g (lw_at lw_m3 189 rfl) rfl
theorem q772 : (Jvm.Cond.codeWith ({ cls := "GrassFieldLaw", name := "sees", desc := "(LGrassField;II[J)I" } : Jvm.MethodName) method_5_code (5 : Nat) (Option.some Jvm.ClassFile.FieldType.int) [((0 : Nat), (17 : Nat), (20 : Nat), (13 : Nat))]) ∈ lw_all := lw_g (lw_at lw_m3 190 rfl) rfl
theorem q773 : (Jvm.Cond.methodLink "GrassFieldLaw" (21 : Nat) ({ cls := "GrassField", name := "sees", desc := "(II)Z" } : Jvm.MethodName)) ∈ lw_all := lw_g (lw_at lw_m3 191 rfl) rfl
theorem q778 : (Jvm.Cond.methodLink "GrassFieldLaw" (157 : Nat) ({ cls := "GrassFieldLaw", name := "gun", desc := "(LGrassField;IIII[J)I" } : Jvm.MethodName)) ∈ lw_all := lw_g (lw_at lw_m3 196 rfl) rfl
theorem q779 : (Jvm.Cond.static ({ cls := "GrassFieldLaw", name := "gun", desc := "(LGrassField;IIII[J)I" } : Jvm.MethodName)) ∈ lw_all := lw_g (lw_at lw_m3 197 rfl) rfl
theorem q780 : (Jvm.Cond.codeWith ({ cls := "GrassFieldLaw", name := "gun", desc := "(LGrassField;IIII[J)I" } : Jvm.MethodName) method_6_code (7 : Nat) (Option.some Jvm.ClassFile.FieldType.int) [((0 : Nat), (14 : Nat), (17 : Nat), (15 : Nat)), ((0 : Nat), (14 : Nat), (21 : Nat), (29 : Nat))]) ∈ lw_all := lw_g (lw_at lw_m3 198 rfl) rfl
theorem q781 : (Jvm.Cond.classLink "GrassFieldLaw" (29 : Nat) "java/lang/UnsupportedOperationException") ∈ lw_all := lw_g (lw_at lw_m3 199 rfl) rfl
theorem q782 : (Jvm.Cond.methodLink "GrassFieldLaw" (25 : Nat) ({ cls := "GrassField", name := "gun", desc := "(IIII)I" } : Jvm.MethodName)) ∈ lw_all := lw_g (lw_at lw_m3 200 rfl) rfl
theorem q809 : (Jvm.Cond.methodLink "GrassFieldLaw" (161 : Nat) ({ cls := "GrassFieldLaw", name := "day", desc := "(LGrassField;I)I" } : Jvm.MethodName)) ∈ lw_all := lw_g (lw_at lw_m3 227 rfl) rfl
theorem q810 : (Jvm.Cond.static ({ cls := "GrassFieldLaw", name := "day", desc := "(LGrassField;I)I" } : Jvm.MethodName)) ∈ lw_all := lw_g (lw_at lw_m3 228 rfl) rfl
theorem q811 : (Jvm.Cond.codeWith ({ cls := "GrassFieldLaw", name := "day", desc := "(LGrassField;I)I" } : Jvm.MethodName) method_7_code (3 : Nat) (Option.some Jvm.ClassFile.FieldType.int) [((0 : Nat), (5 : Nat), (8 : Nat), (15 : Nat))]) ∈ lw_all := lw_g (lw_at lw_m3 229 rfl) rfl
theorem q812 : (Jvm.Cond.methodLink "GrassFieldLaw" (31 : Nat) ({ cls := "GrassField", name := "day", desc := "(I)V" } : Jvm.MethodName)) ∈ lw_all := lw_g (lw_at lw_m3 230 rfl) rfl
theorem q816 : (Jvm.Cond.methodLink "GrassFieldLaw" (165 : Nat) ({ cls := "GrassFieldLaw", name := "law", desc := "(LGrassField;[J)I" } : Jvm.MethodName)) ∈ lw_all := lw_g (lw_at lw_m3 234 rfl) rfl
theorem q817 : (Jvm.Cond.static ({ cls := "GrassFieldLaw", name := "law", desc := "(LGrassField;[J)I" } : Jvm.MethodName)) ∈ lw_all := lw_g (lw_at lw_m3 235 rfl) rfl
theorem q818 : (Jvm.Cond.codeWith ({ cls := "GrassFieldLaw", name := "law", desc := "(LGrassField;[J)I" } : Jvm.MethodName) method_8_code (3 : Nat) (Option.some Jvm.ClassFile.FieldType.int) [((0 : Nat), (8 : Nat), (11 : Nat), (15 : Nat)), ((0 : Nat), (8 : Nat), (14 : Nat), (29 : Nat))]) ∈ lw_all := lw_g (lw_at lw_m3 236 rfl) rfl
theorem q819 : (Jvm.Cond.methodLink "GrassFieldLaw" (35 : Nat) ({ cls := "GrassField", name := "law", desc := "()I" } : Jvm.MethodName)) ∈ lw_all := lw_g (lw_at lw_m3 237 rfl) rfl
theorem q1060 : (Jvm.Cond.methodLink "GrassFieldLaw" (173 : Nat) ({ cls := "GrassFieldLaw", name := "person", desc := "(LGrassField;IIII[J)I" } : Jvm.MethodName)) ∈ lw_all := lw_g (lw_at lw_m4 238 rfl) rfl
theorem q1061 : (Jvm.Cond.static ({ cls := "GrassFieldLaw", name := "person", desc := "(LGrassField;IIII[J)I" } : Jvm.MethodName)) ∈ lw_all := lw_g (lw_at lw_m4 239 rfl) rfl
theorem q1062 : (Jvm.Cond.codeWith ({ cls := "GrassFieldLaw", name := "person", desc := "(LGrassField;IIII[J)I" } : Jvm.MethodName) method_9_code (7 : Nat) (Option.some Jvm.ClassFile.FieldType.int) [((0 : Nat), (14 : Nat), (17 : Nat), (13 : Nat)), ((0 : Nat), (14 : Nat), (21 : Nat), (15 : Nat)), ((0 : Nat), (14 : Nat), (25 : Nat), (29 : Nat))]) ∈ lw_all := lw_g (lw_at lw_m5 0 rfl) rfl
theorem q1063 : (Jvm.Cond.methodLink "GrassFieldLaw" (39 : Nat) ({ cls := "GrassField", name := "person", desc := "(IIII)I" } : Jvm.MethodName)) ∈ lw_all := lw_g (lw_at lw_m5 1 rfl) rfl
theorem q1073 : (Jvm.Cond.methodLink "GrassFieldLaw" (176 : Nat) ({ cls := "GrassFieldLaw", name := "look", desc := "(LGrassField;II[J)I" } : Jvm.MethodName)) ∈ lw_all := lw_g (lw_at lw_m5 11 rfl) rfl
theorem q1074 : (Jvm.Cond.static ({ cls := "GrassFieldLaw", name := "look", desc := "(LGrassField;II[J)I" } : Jvm.MethodName)) ∈ lw_all := lw_g (lw_at lw_m5 12 rfl) rfl
theorem q1075 : (Jvm.Cond.codeWith ({ cls := "GrassFieldLaw", name := "look", desc := "(LGrassField;II[J)I" } : Jvm.MethodName) method_10_code (5 : Nat) (Option.some Jvm.ClassFile.FieldType.int) [((0 : Nat), (10 : Nat), (13 : Nat), (13 : Nat)), ((0 : Nat), (10 : Nat), (17 : Nat), (46 : Nat))]) ∈ lw_all := lw_g (lw_at lw_m5 13 rfl) rfl
theorem q1076 : (Jvm.Cond.classLink "GrassFieldLaw" (46 : Nat) "java/util/NoSuchElementException") ∈ lw_all := lw_g (lw_at lw_m5 14 rfl) rfl
theorem q1077 : (Jvm.Cond.methodLink "GrassFieldLaw" (42 : Nat) ({ cls := "GrassField", name := "look", desc := "(II)I" } : Jvm.MethodName)) ∈ lw_all := lw_g (lw_at lw_m5 15 rfl) rfl
theorem q1108 : (Jvm.Cond.methodLink "GrassFieldLaw" (183 : Nat) ({ cls := "GrassFieldLaw", name := "run", desc := "(LGrassField;I[J)I" } : Jvm.MethodName)) ∈ lw_all := lw_g (lw_at lw_m5 46 rfl) rfl
theorem q1109 : (Jvm.Cond.static ({ cls := "GrassFieldLaw", name := "run", desc := "(LGrassField;I[J)I" } : Jvm.MethodName)) ∈ lw_all := lw_g (lw_at lw_m5 47 rfl) rfl
theorem q1110 : (Jvm.Cond.codeWith ({ cls := "GrassFieldLaw", name := "run", desc := "(LGrassField;I[J)I" } : Jvm.MethodName) method_11_code (4 : Nat) (Option.some Jvm.ClassFile.FieldType.int) [((0 : Nat), (9 : Nat), (12 : Nat), (15 : Nat))]) ∈ lw_all := lw_g (lw_at lw_m5 48 rfl) rfl
theorem q1111 : (Jvm.Cond.methodLink "GrassFieldLaw" (48 : Nat) ({ cls := "GrassField", name := "run", desc := "(I)I" } : Jvm.MethodName)) ∈ lw_all := lw_g (lw_at lw_m5 49 rfl) rfl
theorem q1269 : (Jvm.Cond.methodLink "GrassFieldLaw" (186 : Nat) ({ cls := "GrassFieldLaw", name := "found", desc := "(LGrassField;III[J)I" } : Jvm.MethodName)) ∈ lw_all := lw_g (lw_at lw_m5 207 rfl) rfl
theorem q1270 : (Jvm.Cond.static ({ cls := "GrassFieldLaw", name := "found", desc := "(LGrassField;III[J)I" } : Jvm.MethodName)) ∈ lw_all := lw_g (lw_at lw_m5 208 rfl) rfl
theorem q1271 : (Jvm.Cond.codeWith ({ cls := "GrassFieldLaw", name := "found", desc := "(LGrassField;III[J)I" } : Jvm.MethodName) method_12_code (6 : Nat) (Option.some Jvm.ClassFile.FieldType.int) [((0 : Nat), (12 : Nat), (15 : Nat), (13 : Nat)), ((0 : Nat), (12 : Nat), (19 : Nat), (15 : Nat)), ((0 : Nat), (12 : Nat), (23 : Nat), (29 : Nat))]) ∈ lw_all := lw_g (lw_at lw_m5 209 rfl) rfl
theorem q1272 : (Jvm.Cond.methodLink "GrassFieldLaw" (51 : Nat) ({ cls := "GrassField", name := "found", desc := "(III)I" } : Jvm.MethodName)) ∈ lw_all := lw_g (lw_at lw_m5 210 rfl) rfl
theorem q1283 : (Jvm.Cond.methodLink "GrassFieldLaw" (190 : Nat) ({ cls := "GrassFieldLaw", name := "other", desc := "(LGrassField;IIII[J)I" } : Jvm.MethodName)) ∈ lw_all := lw_g (lw_at lw_m5 221 rfl) rfl
theorem q1284 : (Jvm.Cond.static ({ cls := "GrassFieldLaw", name := "other", desc := "(LGrassField;IIII[J)I" } : Jvm.MethodName)) ∈ lw_all := lw_g (lw_at lw_m5 222 rfl) rfl
theorem q1285 : (Jvm.Cond.codeWith ({ cls := "GrassFieldLaw", name := "other", desc := "(LGrassField;IIII[J)I" } : Jvm.MethodName) method_13_code (7 : Nat) (Option.some Jvm.ClassFile.FieldType.int) [((0 : Nat), (14 : Nat), (17 : Nat), (13 : Nat)), ((0 : Nat), (14 : Nat), (21 : Nat), (15 : Nat)), ((0 : Nat), (14 : Nat), (25 : Nat), (29 : Nat))]) ∈ lw_all := lw_g (lw_at lw_m5 223 rfl) rfl
theorem q1286 : (Jvm.Cond.methodLink "GrassFieldLaw" (55 : Nat) ({ cls := "GrassField", name := "other", desc := "(IIII)I" } : Jvm.MethodName)) ∈ lw_all := lw_g (lw_at lw_m5 224 rfl) rfl
theorem q1306 : (Jvm.Cond.methodLink "GrassFieldLaw" (193 : Nat) ({ cls := "GrassFieldLaw", name := "about", desc := "(LGrassField;II[J)I" } : Jvm.MethodName)) ∈ lw_all := lw_g (lw_at lw_m6 4 rfl) rfl
theorem q1307 : (Jvm.Cond.static ({ cls := "GrassFieldLaw", name := "about", desc := "(LGrassField;II[J)I" } : Jvm.MethodName)) ∈ lw_all := lw_g (lw_at lw_m6 5 rfl) rfl
theorem q1308 : (Jvm.Cond.codeWith ({ cls := "GrassFieldLaw", name := "about", desc := "(LGrassField;II[J)I" } : Jvm.MethodName) method_14_code (5 : Nat) (Option.some Jvm.ClassFile.FieldType.int) [((0 : Nat), (10 : Nat), (13 : Nat), (13 : Nat)), ((0 : Nat), (10 : Nat), (17 : Nat), (46 : Nat))]) ∈ lw_all := lw_g (lw_at lw_m6 6 rfl) rfl
theorem q1309 : (Jvm.Cond.methodLink "GrassFieldLaw" (58 : Nat) ({ cls := "GrassField", name := "about", desc := "(II)I" } : Jvm.MethodName)) ∈ lw_all := lw_g (lw_at lw_m6 7 rfl) rfl
theorem q1341 : (Jvm.Cond.methodLink "GrassFieldLaw" (196 : Nat) ({ cls := "GrassFieldLaw", name := "when", desc := "(LGrassField;III)I" } : Jvm.MethodName)) ∈ lw_all := lw_g (lw_at lw_m6 39 rfl) rfl
theorem q1342 : (Jvm.Cond.static ({ cls := "GrassFieldLaw", name := "when", desc := "(LGrassField;III)I" } : Jvm.MethodName)) ∈ lw_all := lw_g (lw_at lw_m6 40 rfl) rfl
theorem q1343 : (Jvm.Cond.codeWith ({ cls := "GrassFieldLaw", name := "when", desc := "(LGrassField;III)I" } : Jvm.MethodName) method_15_code (5 : Nat) (Option.some Jvm.ClassFile.FieldType.int) [((0 : Nat), (7 : Nat), (10 : Nat), (13 : Nat)), ((0 : Nat), (7 : Nat), (14 : Nat), (15 : Nat))]) ∈ lw_all := lw_g (lw_at lw_m6 41 rfl) rfl
theorem q1344 : (Jvm.Cond.methodLink "GrassFieldLaw" (61 : Nat) ({ cls := "GrassField", name := "when", desc := "(III)V" } : Jvm.MethodName)) ∈ lw_all := lw_g (lw_at lw_m6 42 rfl) rfl
theorem q1348 : (Jvm.Cond.methodLink "GrassFieldLaw" (199 : Nat) ({ cls := "GrassFieldLaw", name := "machine", desc := "(LGrassField;II)I" } : Jvm.MethodName)) ∈ lw_all := lw_g (lw_at lw_m6 46 rfl) rfl
theorem q1349 : (Jvm.Cond.static ({ cls := "GrassFieldLaw", name := "machine", desc := "(LGrassField;II)I" } : Jvm.MethodName)) ∈ lw_all := lw_g (lw_at lw_m6 47 rfl) rfl
theorem q1350 : (Jvm.Cond.codeWith ({ cls := "GrassFieldLaw", name := "machine", desc := "(LGrassField;II)I" } : Jvm.MethodName) method_16_code (4 : Nat) (Option.some Jvm.ClassFile.FieldType.int) [((0 : Nat), (6 : Nat), (9 : Nat), (15 : Nat))]) ∈ lw_all := lw_g (lw_at lw_m6 48 rfl) rfl
theorem q1351 : (Jvm.Cond.methodLink "GrassFieldLaw" (64 : Nat) ({ cls := "GrassField", name := "machine", desc := "(II)V" } : Jvm.MethodName)) ∈ lw_all := lw_g (lw_at lw_m6 49 rfl) rfl
theorem q1355 : (Jvm.Cond.methodLink "GrassFieldLaw" (203 : Nat) ({ cls := "GrassFieldLaw", name := "walk", desc := "(LGrassField;I[J)I" } : Jvm.MethodName)) ∈ lw_all := lw_g (lw_at lw_m6 53 rfl) rfl
theorem q1356 : (Jvm.Cond.static ({ cls := "GrassFieldLaw", name := "walk", desc := "(LGrassField;I[J)I" } : Jvm.MethodName)) ∈ lw_all := lw_g (lw_at lw_m6 54 rfl) rfl
theorem q1357 : (Jvm.Cond.codeWith ({ cls := "GrassFieldLaw", name := "walk", desc := "(LGrassField;I[J)I" } : Jvm.MethodName) method_17_code (4 : Nat) (Option.some Jvm.ClassFile.FieldType.int) [((0 : Nat), (9 : Nat), (12 : Nat), (13 : Nat))]) ∈ lw_all := lw_g (lw_at lw_m6 55 rfl) rfl
theorem q1358 : (Jvm.Cond.methodLink "GrassFieldLaw" (68 : Nat) ({ cls := "GrassField", name := "walk", desc := "(I)I" } : Jvm.MethodName)) ∈ lw_all := lw_g (lw_at lw_m6 56 rfl) rfl
theorem q1365 : (Jvm.Cond.methodLink "GrassFieldLaw" (210 : Nat) ({ cls := "GrassFieldLaw", name := "needed", desc := "(LGrassField;II[J)I" } : Jvm.MethodName)) ∈ lw_all := lw_g (lw_at lw_m6 63 rfl) rfl
theorem q1366 : (Jvm.Cond.static ({ cls := "GrassFieldLaw", name := "needed", desc := "(LGrassField;II[J)I" } : Jvm.MethodName)) ∈ lw_all := lw_g (lw_at lw_m6 64 rfl) rfl
theorem q1367 : (Jvm.Cond.codeWith ({ cls := "GrassFieldLaw", name := "needed", desc := "(LGrassField;II[J)I" } : Jvm.MethodName) method_18_code (5 : Nat) (Option.some Jvm.ClassFile.FieldType.int) [((0 : Nat), (10 : Nat), (13 : Nat), (13 : Nat))]) ∈ lw_all := lw_g (lw_at lw_m6 65 rfl) rfl
theorem q1368 : (Jvm.Cond.methodLink "GrassFieldLaw" (71 : Nat) ({ cls := "GrassField", name := "needed", desc := "(II)I" } : Jvm.MethodName)) ∈ lw_all := lw_g (lw_at lw_m6 66 rfl) rfl
theorem q1383 : (Jvm.Cond.methodLink "GrassFieldLaw" (213 : Nat) ({ cls := "GrassFieldLaw", name := "same", desc := "(LGrassField;III[J)I" } : Jvm.MethodName)) ∈ lw_all := lw_g (lw_at lw_m6 81 rfl) rfl
theorem q1384 : (Jvm.Cond.static ({ cls := "GrassFieldLaw", name := "same", desc := "(LGrassField;III[J)I" } : Jvm.MethodName)) ∈ lw_all := lw_g (lw_at lw_m6 82 rfl) rfl
theorem q1385 : (Jvm.Cond.codeWith ({ cls := "GrassFieldLaw", name := "same", desc := "(LGrassField;III[J)I" } : Jvm.MethodName) method_19_code (6 : Nat) (Option.some Jvm.ClassFile.FieldType.int) [((0 : Nat), (12 : Nat), (15 : Nat), (13 : Nat)), ((0 : Nat), (12 : Nat), (19 : Nat), (15 : Nat)), ((0 : Nat), (12 : Nat), (23 : Nat), (46 : Nat))]) ∈ lw_all := lw_g (lw_at lw_m6 83 rfl) rfl
theorem q1386 : (Jvm.Cond.methodLink "GrassFieldLaw" (74 : Nat) ({ cls := "GrassField", name := "same", desc := "(III)I" } : Jvm.MethodName)) ∈ lw_all := lw_g (lw_at lw_m6 84 rfl) rfl
theorem q1394 : (Jvm.Cond.methodLink "GrassFieldLaw" (216 : Nat) ({ cls := "GrassFieldLaw", name := "later", desc := "(LGrassField;I[J)I" } : Jvm.MethodName)) ∈ lw_all := lw_g (lw_at lw_m6 92 rfl) rfl
theorem q1395 : (Jvm.Cond.static ({ cls := "GrassFieldLaw", name := "later", desc := "(LGrassField;I[J)I" } : Jvm.MethodName)) ∈ lw_all := lw_g (lw_at lw_m6 93 rfl) rfl
theorem q1396 : (Jvm.Cond.codeWith ({ cls := "GrassFieldLaw", name := "later", desc := "(LGrassField;I[J)I" } : Jvm.MethodName) method_20_code (4 : Nat) (Option.some Jvm.ClassFile.FieldType.int) [((0 : Nat), (9 : Nat), (12 : Nat), (46 : Nat))]) ∈ lw_all := lw_g (lw_at lw_m6 94 rfl) rfl
theorem q1397 : (Jvm.Cond.methodLink "GrassFieldLaw" (77 : Nat) ({ cls := "GrassField", name := "later", desc := "(I)I" } : Jvm.MethodName)) ∈ lw_all := lw_g (lw_at lw_m6 95 rfl) rfl
theorem q1401 : (Jvm.Cond.methodLink "GrassFieldLaw" (219 : Nat) ({ cls := "GrassFieldLaw", name := "way", desc := "(LGrassField;II[J)I" } : Jvm.MethodName)) ∈ lw_all := lw_g (lw_at lw_m6 99 rfl) rfl
theorem q1402 : (Jvm.Cond.static ({ cls := "GrassFieldLaw", name := "way", desc := "(LGrassField;II[J)I" } : Jvm.MethodName)) ∈ lw_all := lw_g (lw_at lw_m6 100 rfl) rfl
theorem q1403 : (Jvm.Cond.codeWith ({ cls := "GrassFieldLaw", name := "way", desc := "(LGrassField;II[J)I" } : Jvm.MethodName) method_21_code (5 : Nat) (Option.some Jvm.ClassFile.FieldType.int) [((0 : Nat), (10 : Nat), (13 : Nat), (13 : Nat)), ((0 : Nat), (10 : Nat), (17 : Nat), (46 : Nat))]) ∈ lw_all := lw_g (lw_at lw_m6 101 rfl) rfl
theorem q1404 : (Jvm.Cond.methodLink "GrassFieldLaw" (80 : Nat) ({ cls := "GrassField", name := "way", desc := "(II)I" } : Jvm.MethodName)) ∈ lw_all := lw_g (lw_at lw_m6 102 rfl) rfl
theorem q1458 : (Jvm.Cond.methodLink "GrassFieldLaw" (222 : Nat) ({ cls := "GrassFieldLaw", name := "held", desc := "(LGrassField;IIIZ[J)I" } : Jvm.MethodName)) ∈ lw_all := lw_g (lw_at lw_m6 156 rfl) rfl
theorem q1459 : (Jvm.Cond.static ({ cls := "GrassFieldLaw", name := "held", desc := "(LGrassField;IIIZ[J)I" } : Jvm.MethodName)) ∈ lw_all := lw_g (lw_at lw_m6 157 rfl) rfl
theorem q1460 : (Jvm.Cond.codeWith ({ cls := "GrassFieldLaw", name := "held", desc := "(LGrassField;IIIZ[J)I" } : Jvm.MethodName) method_22_code (7 : Nat) (Option.some Jvm.ClassFile.FieldType.int) [((0 : Nat), (14 : Nat), (17 : Nat), (13 : Nat)), ((0 : Nat), (14 : Nat), (21 : Nat), (15 : Nat))]) ∈ lw_all := lw_g (lw_at lw_m6 158 rfl) rfl
theorem q1461 : (Jvm.Cond.methodLink "GrassFieldLaw" (83 : Nat) ({ cls := "GrassField", name := "held", desc := "(IIIZ)I" } : Jvm.MethodName)) ∈ lw_all := lw_g (lw_at lw_m6 159 rfl) rfl
theorem q1482 : (Jvm.Cond.methodLink "GrassFieldLaw" (226 : Nat) ({ cls := "GrassFieldLaw", name := "heaps", desc := "(LGrassField;IZ[J)I" } : Jvm.MethodName)) ∈ lw_all := lw_g (lw_at lw_m6 180 rfl) rfl
theorem q1483 : (Jvm.Cond.static ({ cls := "GrassFieldLaw", name := "heaps", desc := "(LGrassField;IZ[J)I" } : Jvm.MethodName)) ∈ lw_all := lw_g (lw_at lw_m6 181 rfl) rfl
theorem q1484 : (Jvm.Cond.codeWith ({ cls := "GrassFieldLaw", name := "heaps", desc := "(LGrassField;IZ[J)I" } : Jvm.MethodName) method_23_code (5 : Nat) (Option.some Jvm.ClassFile.FieldType.int) [((0 : Nat), (10 : Nat), (13 : Nat), (15 : Nat))]) ∈ lw_all := lw_g (lw_at lw_m6 182 rfl) rfl
theorem q1485 : (Jvm.Cond.methodLink "GrassFieldLaw" (87 : Nat) ({ cls := "GrassField", name := "heaps", desc := "(IZ)I" } : Jvm.MethodName)) ∈ lw_all := lw_g (lw_at lw_m6 183 rfl) rfl
theorem q1497 : (Jvm.Cond.methodLink "GrassFieldLaw" (230 : Nat) ({ cls := "GrassFieldLaw", name := "length", desc := "(LGrassField;IIIZ[J)I" } : Jvm.MethodName)) ∈ lw_all := lw_g (lw_at lw_m6 195 rfl) rfl
theorem q1498 : (Jvm.Cond.static ({ cls := "GrassFieldLaw", name := "length", desc := "(LGrassField;IIIZ[J)I" } : Jvm.MethodName)) ∈ lw_all := lw_g (lw_at lw_m6 196 rfl) rfl
theorem q1499 : (Jvm.Cond.codeWith ({ cls := "GrassFieldLaw", name := "length", desc := "(LGrassField;IIIZ[J)I" } : Jvm.MethodName) method_24_code (7 : Nat) (Option.some Jvm.ClassFile.FieldType.int) [((0 : Nat), (14 : Nat), (17 : Nat), (13 : Nat)), ((0 : Nat), (14 : Nat), (21 : Nat), (15 : Nat))]) ∈ lw_all := lw_g (lw_at lw_m6 197 rfl) rfl
theorem q1500 : (Jvm.Cond.methodLink "GrassFieldLaw" (91 : Nat) ({ cls := "GrassField", name := "length", desc := "(IIIZ)I" } : Jvm.MethodName)) ∈ lw_all := lw_g (lw_at lw_m6 198 rfl) rfl
theorem q1504 : (Jvm.Cond.methodLink "GrassFieldLaw" (233 : Nat) ({ cls := "GrassFieldLaw", name := "still", desc := "(LGrassField;II[J)I" } : Jvm.MethodName)) ∈ lw_all := lw_g (lw_at lw_m6 202 rfl) rfl
theorem q1505 : (Jvm.Cond.static ({ cls := "GrassFieldLaw", name := "still", desc := "(LGrassField;II[J)I" } : Jvm.MethodName)) ∈ lw_all := lw_g (lw_at lw_m6 203 rfl) rfl
theorem q1506 : (Jvm.Cond.codeWith ({ cls := "GrassFieldLaw", name := "still", desc := "(LGrassField;II[J)I" } : Jvm.MethodName) method_25_code (5 : Nat) (Option.some Jvm.ClassFile.FieldType.int) [((0 : Nat), (10 : Nat), (13 : Nat), (13 : Nat))]) ∈ lw_all := lw_g (lw_at lw_m6 204 rfl) rfl
theorem q1507 : (Jvm.Cond.methodLink "GrassFieldLaw" (94 : Nat) ({ cls := "GrassField", name := "still", desc := "(II)I" } : Jvm.MethodName)) ∈ lw_all := lw_g (lw_at lw_m6 205 rfl) rfl
theorem q1512 : (Jvm.Cond.methodLink "GrassFieldLaw" (236 : Nat) ({ cls := "GrassFieldLaw", name := "teller", desc := "(LGrassField;IIII[J)I" } : Jvm.MethodName)) ∈ lw_all := lw_g (lw_at lw_m6 210 rfl) rfl
theorem q1513 : (Jvm.Cond.static ({ cls := "GrassFieldLaw", name := "teller", desc := "(LGrassField;IIII[J)I" } : Jvm.MethodName)) ∈ lw_all := lw_g (lw_at lw_m6 211 rfl) rfl
theorem q1514 : (Jvm.Cond.codeWith ({ cls := "GrassFieldLaw", name := "teller", desc := "(LGrassField;IIII[J)I" } : Jvm.MethodName) method_26_code (7 : Nat) (Option.some Jvm.ClassFile.FieldType.int) [((0 : Nat), (14 : Nat), (17 : Nat), (13 : Nat)), ((0 : Nat), (14 : Nat), (21 : Nat), (15 : Nat)), ((0 : Nat), (14 : Nat), (25 : Nat), (29 : Nat))]) ∈ lw_all := lw_g (lw_at lw_m6 212 rfl) rfl
theorem q1515 : (Jvm.Cond.methodLink "GrassFieldLaw" (97 : Nat) ({ cls := "GrassField", name := "teller", desc := "(IIII)I" } : Jvm.MethodName)) ∈ lw_all := lw_g (lw_at lw_m6 213 rfl) rfl
theorem q1542 : (Jvm.Cond.methodLink "GrassFieldLaw" (239 : Nat) ({ cls := "GrassFieldLaw", name := "tells", desc := "(LGrassField;III[J)I" } : Jvm.MethodName)) ∈ lw_all := lw_g (lw_at lw_m7 0 rfl) rfl
theorem q1543 : (Jvm.Cond.static ({ cls := "GrassFieldLaw", name := "tells", desc := "(LGrassField;III[J)I" } : Jvm.MethodName)) ∈ lw_all := lw_g (lw_at lw_m7 1 rfl) rfl
theorem q1544 : (Jvm.Cond.codeWith ({ cls := "GrassFieldLaw", name := "tells", desc := "(LGrassField;III[J)I" } : Jvm.MethodName) method_27_code (6 : Nat) (Option.some Jvm.ClassFile.FieldType.int) [((0 : Nat), (12 : Nat), (15 : Nat), (13 : Nat)), ((0 : Nat), (12 : Nat), (19 : Nat), (15 : Nat)), ((0 : Nat), (12 : Nat), (23 : Nat), (29 : Nat))]) ∈ lw_all := lw_g (lw_at lw_m7 2 rfl) rfl
theorem q1545 : (Jvm.Cond.methodLink "GrassFieldLaw" (100 : Nat) ({ cls := "GrassField", name := "tells", desc := "(III)I" } : Jvm.MethodName)) ∈ lw_all := lw_g (lw_at lw_m7 3 rfl) rfl
theorem q1573 : (Jvm.Cond.methodLink "GrassFieldLaw" (242 : Nat) ({ cls := "GrassFieldLaw", name := "could", desc := "(LGrassField;IZ[J)I" } : Jvm.MethodName)) ∈ lw_all := lw_g (lw_at lw_m7 31 rfl) rfl
theorem q1574 : (Jvm.Cond.static ({ cls := "GrassFieldLaw", name := "could", desc := "(LGrassField;IZ[J)I" } : Jvm.MethodName)) ∈ lw_all := lw_g (lw_at lw_m7 32 rfl) rfl
theorem q1575 : (Jvm.Cond.codeWith ({ cls := "GrassFieldLaw", name := "could", desc := "(LGrassField;IZ[J)I" } : Jvm.MethodName) method_28_code (5 : Nat) (Option.some Jvm.ClassFile.FieldType.int) [((0 : Nat), (17 : Nat), (20 : Nat), (13 : Nat))]) ∈ lw_all := lw_g (lw_at lw_m7 33 rfl) rfl
theorem q1576 : (Jvm.Cond.methodLink "GrassFieldLaw" (103 : Nat) ({ cls := "GrassField", name := "could", desc := "(IZ)Z" } : Jvm.MethodName)) ∈ lw_all := lw_g (lw_at lw_m7 34 rfl) rfl
theorem q1581 : (Jvm.Cond.methodLink "GrassFieldLaw" (245 : Nat) ({ cls := "GrassFieldLaw", name := "talked", desc := "(LGrassField;II[J)I" } : Jvm.MethodName)) ∈ lw_all := lw_g (lw_at lw_m7 39 rfl) rfl
theorem q1582 : (Jvm.Cond.static ({ cls := "GrassFieldLaw", name := "talked", desc := "(LGrassField;II[J)I" } : Jvm.MethodName)) ∈ lw_all := lw_g (lw_at lw_m7 40 rfl) rfl
theorem q1583 : (Jvm.Cond.codeWith ({ cls := "GrassFieldLaw", name := "talked", desc := "(LGrassField;II[J)I" } : Jvm.MethodName) method_29_code (5 : Nat) (Option.some Jvm.ClassFile.FieldType.int) [((0 : Nat), (17 : Nat), (20 : Nat), (13 : Nat))]) ∈ lw_all := lw_g (lw_at lw_m7 41 rfl) rfl
theorem q1584 : (Jvm.Cond.methodLink "GrassFieldLaw" (107 : Nat) ({ cls := "GrassField", name := "talked", desc := "(II)Z" } : Jvm.MethodName)) ∈ lw_all := lw_g (lw_at lw_m7 42 rfl) rfl
theorem q1588 : (Jvm.Cond.methodLink "GrassFieldLaw" (252 : Nat) ({ cls := "GrassFieldLaw", name := "who", desc := "(LGrassField;I[J)I" } : Jvm.MethodName)) ∈ lw_all := lw_g (lw_at lw_m7 46 rfl) rfl
theorem q1589 : (Jvm.Cond.static ({ cls := "GrassFieldLaw", name := "who", desc := "(LGrassField;I[J)I" } : Jvm.MethodName)) ∈ lw_all := lw_g (lw_at lw_m7 47 rfl) rfl
theorem q1590 : (Jvm.Cond.codeWith ({ cls := "GrassFieldLaw", name := "who", desc := "(LGrassField;I[J)I" } : Jvm.MethodName) method_30_code (4 : Nat) (Option.some Jvm.ClassFile.FieldType.int) [((0 : Nat), (9 : Nat), (12 : Nat), (13 : Nat)), ((0 : Nat), (9 : Nat), (15 : Nat), (15 : Nat))]) ∈ lw_all := lw_g (lw_at lw_m7 48 rfl) rfl
theorem q1591 : (Jvm.Cond.methodLink "GrassFieldLaw" (110 : Nat) ({ cls := "GrassField", name := "who", desc := "(I)I" } : Jvm.MethodName)) ∈ lw_all := lw_g (lw_at lw_m7 49 rfl) rfl
theorem q1599 : (Jvm.Cond.methodLink "GrassFieldLaw" (255 : Nat) ({ cls := "GrassFieldLaw", name := "joined", desc := "(LGrassField;IIIIZ[J)I" } : Jvm.MethodName)) ∈ lw_all := lw_g (lw_at lw_m7 57 rfl) rfl
theorem q1600 : (Jvm.Cond.static ({ cls := "GrassFieldLaw", name := "joined", desc := "(LGrassField;IIIIZ[J)I" } : Jvm.MethodName)) ∈ lw_all := lw_g (lw_at lw_m7 58 rfl) rfl
theorem q1601 : (Jvm.Cond.codeWith ({ cls := "GrassFieldLaw", name := "joined", desc := "(LGrassField;IIIIZ[J)I" } : Jvm.MethodName) method_31_code (8 : Nat) (Option.some Jvm.ClassFile.FieldType.int) [((0 : Nat), (16 : Nat), (19 : Nat), (13 : Nat))]) ∈ lw_all := lw_g (lw_at lw_m7 59 rfl) rfl
theorem q1602 : (Jvm.Cond.methodLink "GrassFieldLaw" (113 : Nat) ({ cls := "GrassField", name := "joined", desc := "(IIIIZ)I" } : Jvm.MethodName)) ∈ lw_all := lw_g (lw_at lw_m7 60 rfl) rfl
theorem q1610 : (Jvm.Cond.methodLink "GrassFieldLaw" (259 : Nat) ({ cls := "GrassFieldLaw", name := "story", desc := "(LGrassField;I[J)I" } : Jvm.MethodName)) ∈ lw_all := lw_g (lw_at lw_m7 68 rfl) rfl
theorem q1611 : (Jvm.Cond.static ({ cls := "GrassFieldLaw", name := "story", desc := "(LGrassField;I[J)I" } : Jvm.MethodName)) ∈ lw_all := lw_g (lw_at lw_m7 69 rfl) rfl
theorem q1612 : (Jvm.Cond.codeWith ({ cls := "GrassFieldLaw", name := "story", desc := "(LGrassField;I[J)I" } : Jvm.MethodName) method_32_code (4 : Nat) (Option.some Jvm.ClassFile.FieldType.int) [((0 : Nat), (9 : Nat), (12 : Nat), (15 : Nat)), ((0 : Nat), (9 : Nat), (15 : Nat), (29 : Nat))]) ∈ lw_all := lw_g (lw_at lw_m7 70 rfl) rfl
theorem q1613 : (Jvm.Cond.methodLink "GrassFieldLaw" (117 : Nat) ({ cls := "GrassField", name := "story", desc := "(I)I" } : Jvm.MethodName)) ∈ lw_all := lw_g (lw_at lw_m7 71 rfl) rfl
theorem q1636 : (Jvm.Cond.methodLink "GrassFieldLaw" (262 : Nat) ({ cls := "GrassFieldLaw", name := "holds", desc := "(LGrassField;I[J)I" } : Jvm.MethodName)) ∈ lw_all := lw_g (lw_at lw_m7 94 rfl) rfl
theorem q1637 : (Jvm.Cond.static ({ cls := "GrassFieldLaw", name := "holds", desc := "(LGrassField;I[J)I" } : Jvm.MethodName)) ∈ lw_all := lw_g (lw_at lw_m7 95 rfl) rfl
theorem q1638 : (Jvm.Cond.codeWith ({ cls := "GrassFieldLaw", name := "holds", desc := "(LGrassField;I[J)I" } : Jvm.MethodName) method_33_code (4 : Nat) (Option.some Jvm.ClassFile.FieldType.int) [((0 : Nat), (16 : Nat), (19 : Nat), (13 : Nat))]) ∈ lw_all := lw_g (lw_at lw_m7 96 rfl) rfl
theorem q1639 : (Jvm.Cond.methodLink "GrassFieldLaw" (120 : Nat) ({ cls := "GrassField", name := "holds", desc := "(I)Z" } : Jvm.MethodName)) ∈ lw_all := lw_g (lw_at lw_m7 97 rfl) rfl
theorem q1653 : (Jvm.Cond.methodLink "GrassFieldLaw" (265 : Nat) ({ cls := "GrassFieldLaw", name := "odds", desc := "(LGrassField;I[J)I" } : Jvm.MethodName)) ∈ lw_all := lw_g (lw_at lw_m7 111 rfl) rfl
theorem q1654 : (Jvm.Cond.static ({ cls := "GrassFieldLaw", name := "odds", desc := "(LGrassField;I[J)I" } : Jvm.MethodName)) ∈ lw_all := lw_g (lw_at lw_m7 112 rfl) rfl
theorem q1655 : (Jvm.Cond.codeWith ({ cls := "GrassFieldLaw", name := "odds", desc := "(LGrassField;I[J)I" } : Jvm.MethodName) method_34_code (4 : Nat) (Option.some Jvm.ClassFile.FieldType.int) [((0 : Nat), (9 : Nat), (12 : Nat), (13 : Nat))]) ∈ lw_all := lw_g (lw_at lw_m7 113 rfl) rfl
theorem q1656 : (Jvm.Cond.methodLink "GrassFieldLaw" (124 : Nat) ({ cls := "GrassField", name := "odds", desc := "(I)I" } : Jvm.MethodName)) ∈ lw_all := lw_g (lw_at lw_m7 114 rfl) rfl
theorem q1660 : (Jvm.Cond.methodLink "GrassFieldLaw" (146 : Nat) ({ cls := "GrassFieldModel", name := "thrown", desc := "()I" } : Jvm.MethodName)) ∈ lw_all := lw_g (lw_at lw_m7 118 rfl) rfl
theorem q1664 : (Jvm.Cond.classLink "GrassFieldLaw" (128 : Nat) "GrassFieldModel") ∈ lw_all := lw_g (lw_at lw_m7 122 rfl) rfl
theorem q1666 : (Jvm.Cond.methodLink "GrassFieldLaw" (130 : Nat) ({ cls := "GrassFieldModel", name := "<init>", desc := "()V" } : Jvm.MethodName)) ∈ lw_all := lw_g (lw_at lw_m7 124 rfl) rfl
theorem q1756 : (Jvm.Cond.methodLink "GrassFieldLaw" (271 : Nat) ({ cls := "GrassFieldModel", name := "image", desc := "()V" } : Jvm.MethodName)) ∈ lw_all := lw_g (lw_at lw_m7 214 rfl) rfl
theorem q1760 : (Jvm.Cond.methodLink "GrassFieldLaw" (276 : Nat) ({ cls := "GrassFieldModel", name := "back", desc := "()Z" } : Jvm.MethodName)) ∈ lw_all := lw_g (lw_at lw_m7 218 rfl) rfl
theorem q1764 : (Jvm.Cond.methodLink "GrassFieldLaw" (145 : Nat) ({ cls := "GrassFieldModel", name := "ground", desc := "(III)V" } : Jvm.MethodName)) ∈ lw_all := lw_g (lw_at lw_m7 222 rfl) rfl
theorem q1783 : (Jvm.Cond.methodLink "GrassFieldLaw" (152 : Nat) ({ cls := "GrassFieldModel", name := "height", desc := "(I)I" } : Jvm.MethodName)) ∈ lw_all := lw_g (lw_at lw_m8 1 rfl) rfl
theorem q1787 : (Jvm.Cond.methodLink "GrassFieldLaw" (156 : Nat) ({ cls := "GrassFieldModel", name := "sees", desc := "(II)Z" } : Jvm.MethodName)) ∈ lw_all := lw_g (lw_at lw_m8 5 rfl) rfl
theorem q1803 : (Jvm.Cond.methodLink "GrassFieldLaw" (160 : Nat) ({ cls := "GrassFieldModel", name := "gun", desc := "(IIII)I" } : Jvm.MethodName)) ∈ lw_all := lw_g (lw_at lw_m8 21 rfl) rfl
theorem q1810 : (Jvm.Cond.methodLink "GrassFieldLaw" (164 : Nat) ({ cls := "GrassFieldModel", name := "day", desc := "(I)V" } : Jvm.MethodName)) ∈ lw_all := lw_g (lw_at lw_m8 28 rfl) rfl
theorem q1814 : (Jvm.Cond.methodLink "GrassFieldLaw" (135 : Nat) ({ cls := "GrassFieldModel", name := "feed", desc := "(IIIII)I" } : Jvm.MethodName)) ∈ lw_all := lw_g (lw_at lw_m8 32 rfl) rfl
theorem q1818 : (Jvm.Cond.methodLink "GrassFieldLaw" (139 : Nat) ({ cls := "GrassFieldModel", name := "end", desc := "(I)Z" } : Jvm.MethodName)) ∈ lw_all := lw_g (lw_at lw_m8 36 rfl) rfl
theorem q1822 : (Jvm.Cond.methodLink "GrassFieldLaw" (172 : Nat) ({ cls := "GrassFieldModel", name := "fault", desc := "()I" } : Jvm.MethodName)) ∈ lw_all := lw_g (lw_at lw_m8 40 rfl) rfl
theorem q1826 : (Jvm.Cond.methodLink "GrassFieldLaw" (168 : Nat) ({ cls := "GrassFieldModel", name := "law", desc := "()I" } : Jvm.MethodName)) ∈ lw_all := lw_g (lw_at lw_m8 44 rfl) rfl
theorem q1956 : (Jvm.Cond.methodLink "GrassFieldLaw" (261 : Nat) ({ cls := "GrassFieldModel", name := "story", desc := "(I)I" } : Jvm.MethodName)) ∈ lw_all := lw_g (lw_at lw_m8 174 rfl) rfl
theorem q1960 : (Jvm.Cond.methodLink "GrassFieldLaw" (175 : Nat) ({ cls := "GrassFieldModel", name := "person", desc := "(IIII)I" } : Jvm.MethodName)) ∈ lw_all := lw_g (lw_at lw_m8 178 rfl) rfl
theorem q1976 : (Jvm.Cond.methodLink "GrassFieldLaw" (178 : Nat) ({ cls := "GrassFieldModel", name := "look", desc := "(II)I" } : Jvm.MethodName)) ∈ lw_all := lw_g (lw_at lw_m8 194 rfl) rfl
theorem q1992 : (Jvm.Cond.methodLink "GrassFieldLaw" (182 : Nat) ({ cls := "GrassFieldModel", name := "seed", desc := "(I)V" } : Jvm.MethodName)) ∈ lw_all := lw_g (lw_at lw_m8 210 rfl) rfl
theorem q1996 : (Jvm.Cond.methodLink "GrassFieldLaw" (185 : Nat) ({ cls := "GrassFieldModel", name := "run", desc := "(I)I" } : Jvm.MethodName)) ∈ lw_all := lw_g (lw_at lw_m8 214 rfl) rfl
theorem q2037 : (Jvm.Cond.methodLink "GrassFieldLaw" (189 : Nat) ({ cls := "GrassFieldModel", name := "found", desc := "(III)I" } : Jvm.MethodName)) ∈ lw_all := lw_g (lw_at lw_m9 15 rfl) rfl
theorem q2046 : (Jvm.Cond.methodLink "GrassFieldLaw" (192 : Nat) ({ cls := "GrassFieldModel", name := "other", desc := "(IIII)I" } : Jvm.MethodName)) ∈ lw_all := lw_g (lw_at lw_m9 24 rfl) rfl
theorem q2050 : (Jvm.Cond.methodLink "GrassFieldLaw" (195 : Nat) ({ cls := "GrassFieldModel", name := "about", desc := "(II)I" } : Jvm.MethodName)) ∈ lw_all := lw_g (lw_at lw_m9 28 rfl) rfl
theorem q2074 : (Jvm.Cond.methodLink "GrassFieldLaw" (198 : Nat) ({ cls := "GrassFieldModel", name := "when", desc := "(III)V" } : Jvm.MethodName)) ∈ lw_all := lw_g (lw_at lw_m9 52 rfl) rfl
theorem q2078 : (Jvm.Cond.methodLink "GrassFieldLaw" (202 : Nat) ({ cls := "GrassFieldModel", name := "machine", desc := "(II)V" } : Jvm.MethodName)) ∈ lw_all := lw_g (lw_at lw_m9 56 rfl) rfl
theorem q2082 : (Jvm.Cond.methodLink "GrassFieldLaw" (205 : Nat) ({ cls := "GrassFieldModel", name := "walk", desc := "(I)I" } : Jvm.MethodName)) ∈ lw_all := lw_g (lw_at lw_m9 60 rfl) rfl
theorem q2093 : (Jvm.Cond.methodLink "GrassFieldLaw" (209 : Nat) ({ cls := "GrassFieldModel", name := "next", desc := "()I" } : Jvm.MethodName)) ∈ lw_all := lw_g (lw_at lw_m9 71 rfl) rfl
theorem q2097 : (Jvm.Cond.methodLink "GrassFieldLaw" (212 : Nat) ({ cls := "GrassFieldModel", name := "needed", desc := "(II)I" } : Jvm.MethodName)) ∈ lw_all := lw_g (lw_at lw_m9 75 rfl) rfl
theorem q2110 : (Jvm.Cond.methodLink "GrassFieldLaw" (215 : Nat) ({ cls := "GrassFieldModel", name := "same", desc := "(III)I" } : Jvm.MethodName)) ∈ lw_all := lw_g (lw_at lw_m9 88 rfl) rfl
theorem q2114 : (Jvm.Cond.methodLink "GrassFieldLaw" (218 : Nat) ({ cls := "GrassFieldModel", name := "later", desc := "(I)I" } : Jvm.MethodName)) ∈ lw_all := lw_g (lw_at lw_m9 92 rfl) rfl
theorem q2122 : (Jvm.Cond.methodLink "GrassFieldLaw" (221 : Nat) ({ cls := "GrassFieldModel", name := "way", desc := "(II)I" } : Jvm.MethodName)) ∈ lw_all := lw_g (lw_at lw_m9 100 rfl) rfl
theorem q2152 : (Jvm.Cond.methodLink "GrassFieldLaw" (225 : Nat) ({ cls := "GrassFieldModel", name := "held", desc := "(IIIZ)I" } : Jvm.MethodName)) ∈ lw_all := lw_g (lw_at lw_m9 130 rfl) rfl
theorem q2167 : (Jvm.Cond.methodLink "GrassFieldLaw" (229 : Nat) ({ cls := "GrassFieldModel", name := "heaps", desc := "(IZ)I" } : Jvm.MethodName)) ∈ lw_all := lw_g (lw_at lw_m9 145 rfl) rfl
theorem q2179 : (Jvm.Cond.methodLink "GrassFieldLaw" (232 : Nat) ({ cls := "GrassFieldModel", name := "length", desc := "(IIIZ)I" } : Jvm.MethodName)) ∈ lw_all := lw_g (lw_at lw_m9 157 rfl) rfl
theorem q2183 : (Jvm.Cond.methodLink "GrassFieldLaw" (235 : Nat) ({ cls := "GrassFieldModel", name := "still", desc := "(II)I" } : Jvm.MethodName)) ∈ lw_all := lw_g (lw_at lw_m9 161 rfl) rfl
theorem q2187 : (Jvm.Cond.methodLink "GrassFieldLaw" (238 : Nat) ({ cls := "GrassFieldModel", name := "teller", desc := "(IIII)I" } : Jvm.MethodName)) ∈ lw_all := lw_g (lw_at lw_m9 165 rfl) rfl
theorem q2191 : (Jvm.Cond.methodLink "GrassFieldLaw" (241 : Nat) ({ cls := "GrassFieldModel", name := "tells", desc := "(III)I" } : Jvm.MethodName)) ∈ lw_all := lw_g (lw_at lw_m9 169 rfl) rfl
theorem q2195 : (Jvm.Cond.methodLink "GrassFieldLaw" (244 : Nat) ({ cls := "GrassFieldModel", name := "could", desc := "(IZ)Z" } : Jvm.MethodName)) ∈ lw_all := lw_g (lw_at lw_m9 173 rfl) rfl
theorem q2215 : (Jvm.Cond.methodLink "GrassFieldLaw" (247 : Nat) ({ cls := "GrassFieldModel", name := "talked", desc := "(II)Z" } : Jvm.MethodName)) ∈ lw_all := lw_g (lw_at lw_m9 193 rfl) rfl
theorem q2223 : (Jvm.Cond.methodLink "GrassFieldLaw" (251 : Nat) ({ cls := "GrassFieldModel", name := "apart", desc := "()I" } : Jvm.MethodName)) ∈ lw_all := lw_g (lw_at lw_m9 201 rfl) rfl
theorem q2227 : (Jvm.Cond.methodLink "GrassFieldLaw" (254 : Nat) ({ cls := "GrassFieldModel", name := "who", desc := "(I)I" } : Jvm.MethodName)) ∈ lw_all := lw_g (lw_at lw_m9 205 rfl) rfl
theorem q2235 : (Jvm.Cond.methodLink "GrassFieldLaw" (258 : Nat) ({ cls := "GrassFieldModel", name := "joined", desc := "(IIIIZ)I" } : Jvm.MethodName)) ∈ lw_all := lw_g (lw_at lw_m9 213 rfl) rfl
theorem q2243 : (Jvm.Cond.methodLink "GrassFieldLaw" (264 : Nat) ({ cls := "GrassFieldModel", name := "holds", desc := "(I)Z" } : Jvm.MethodName)) ∈ lw_all := lw_g (lw_at lw_m9 221 rfl) rfl
theorem q2251 : (Jvm.Cond.methodLink "GrassFieldLaw" (267 : Nat) ({ cls := "GrassFieldModel", name := "odds", desc := "(I)I" } : Jvm.MethodName)) ∈ lw_all := lw_g (lw_at lw_m9 229 rfl) rfl
theorem q2255 : (Jvm.Cond.methodLink "GrassFieldLaw" (280 : Nat) ({ cls := "GrassFieldModel", name := "count", desc := "(I)I" } : Jvm.MethodName)) ∈ lw_all := lw_g (lw_at lw_m9 233 rfl) rfl
theorem q103 : (Jvm.Cond.initialized "GrassField") ∈ lw_all := lw_g (lw_at lw_m1 1 rfl) rfl
theorem q147 : (Jvm.Cond.instantiable "GrassField" (11 : Nat)) ∈ lw_all := lw_g (lw_at lw_m1 45 rfl) rfl
theorem q149 : (Jvm.Cond.instanceMethod ({ cls := "GrassField", name := "<init>", desc := "()V" } : Jvm.MethodName)) ∈ lw_all := lw_g (lw_at lw_m1 47 rfl) rfl
theorem q150 : (Jvm.Cond.code ({ cls := "GrassField", name := "<init>", desc := "()V" } : Jvm.MethodName) prog_1_method_2_code (1 : Nat) (Option.none : Option Jvm.ClassFile.FieldType)) ∈ lw_all := lw_g (lw_at lw_m1 48 rfl) rfl
theorem q151 : (Jvm.Cond.methodLink "GrassField" (13 : Nat) ({ cls := "java/lang/Object", name := "<init>", desc := "()V" } : Jvm.MethodName)) ∈ lw_all := lw_g (lw_at lw_m1 49 rfl) rfl
theorem q154 : (Jvm.Cond.classLink "GrassField" (19 : Nat) "GrassField$Reader") ∈ lw_all := lw_g (lw_at lw_m1 52 rfl) rfl
theorem q156 : (Jvm.Cond.methodLinkNest "GrassField" (21 : Nat) ({ cls := "GrassField$Reader", name := "<init>", desc := "()V" } : Jvm.MethodName) "GrassField") ∈ lw_tbl := lw_at lw_m1 54 rfl
theorem q240 : (Jvm.Cond.fieldLinkNest "GrassField" (143 : Nat) "GrassField$Wrong" "place" "I" "GrassField") ∈ lw_tbl := lw_at lw_m1 138 rfl
theorem q258 : (Jvm.Cond.fieldLinkNest "GrassField" (89 : Nat) "GrassField$Reader" "tape" "[B" "GrassField") ∈ lw_tbl := lw_at lw_m1 156 rfl
theorem q263 : (Jvm.Cond.fieldLinkNest "GrassField" (93 : Nat) "GrassField$Reader" "size" "I" "GrassField") ∈ lw_tbl := lw_at lw_m1 161 rfl
theorem q289 : (Jvm.Cond.classLink "GrassField" (26 : Nat) "GrassField$House") ∈ lw_all := lw_g (lw_at lw_m1 187 rfl) rfl
theorem q291 : (Jvm.Cond.methodLinkNest "GrassField" (28 : Nat) ({ cls := "GrassField$House", name := "<init>", desc := "()V" } : Jvm.MethodName) "GrassField") ∈ lw_tbl := lw_at lw_m1 189 rfl
theorem q311 : (Jvm.Cond.fieldLinkNest "GrassField" (107 : Nat) "GrassField$House" "heights" "[I" "GrassField") ∈ lw_tbl := lw_at lw_m1 209 rfl
theorem q314 : (Jvm.Cond.fieldLinkNest "GrassField" (121 : Nat) "GrassField$House" "guns" "[LGrassField$Gun;" "GrassField") ∈ lw_tbl := lw_at lw_m1 212 rfl
theorem q319 : (Jvm.Cond.fieldLinkNest "GrassField" (159 : Nat) "GrassField$House" "people" "[LGrassField$Person;" "GrassField") ∈ lw_tbl := lw_at lw_m1 217 rfl
theorem q321 : (Jvm.Cond.fieldLinkNest "GrassField" (149 : Nat) "GrassField$House" "laws" "[LGrassField$Law;" "GrassField") ∈ lw_tbl := lw_at lw_m1 219 rfl
theorem q324 : (Jvm.Cond.fieldLinkNest "GrassField" (82 : Nat) "GrassField$House" "finds" "[LGrassField$Find;" "GrassField") ∈ lw_tbl := lw_at lw_m1 222 rfl
theorem q326 : (Jvm.Cond.fieldLinkNest "GrassField" (322 : Nat) "GrassField$House" "tellers" "[LGrassField$Teller;" "GrassField") ∈ lw_tbl := lw_at lw_m1 224 rfl
theorem q328 : (Jvm.Cond.fieldLinkNest "GrassField" (335 : Nat) "GrassField$House" "tellings" "[LGrassField$Telling;" "GrassField") ∈ lw_tbl := lw_at lw_m1 226 rfl
theorem q330 : (Jvm.Cond.fieldLinkNest "GrassField" (376 : Nat) "GrassField$House" "stories" "[LGrassField$Story;" "GrassField") ∈ lw_tbl := lw_at lw_m1 228 rfl
theorem q332 : (Jvm.Cond.fieldLinkNest "GrassField" (385 : Nat) "GrassField$House" "facts" "[I" "GrassField") ∈ lw_tbl := lw_at lw_m1 230 rfl
theorem q334 : (Jvm.Cond.fieldLinkNest "GrassField" (76 : Nat) "GrassField$House" "gunMany" "I" "GrassField") ∈ lw_tbl := lw_at lw_m1 232 rfl
theorem q336 : (Jvm.Cond.fieldLinkNest "GrassField" (156 : Nat) "GrassField$House" "personMany" "I" "GrassField") ∈ lw_tbl := lw_at lw_m1 234 rfl
theorem q338 : (Jvm.Cond.fieldLinkNest "GrassField" (146 : Nat) "GrassField$House" "lawMany" "I" "GrassField") ∈ lw_tbl := lw_at lw_m1 236 rfl
theorem q341 : (Jvm.Cond.fieldLinkNest "GrassField" (79 : Nat) "GrassField$House" "findMany" "I" "GrassField") ∈ lw_tbl := lw_at lw_m1 239 rfl
theorem q343 : (Jvm.Cond.fieldLinkNest "GrassField" (86 : Nat) "GrassField$House" "tellerMany" "I" "GrassField") ∈ lw_tbl := lw_at lw_m2 1 rfl
theorem q345 : (Jvm.Cond.fieldLinkNest "GrassField" (332 : Nat) "GrassField$House" "tellingMany" "I" "GrassField") ∈ lw_tbl := lw_at lw_m2 3 rfl
theorem q347 : (Jvm.Cond.fieldLinkNest "GrassField" (373 : Nat) "GrassField$House" "storyMany" "I" "GrassField") ∈ lw_tbl := lw_at lw_m2 5 rfl
theorem q349 : (Jvm.Cond.fieldLinkNest "GrassField" (130 : Nat) "GrassField$House" "day" "I" "GrassField") ∈ lw_tbl := lw_at lw_m2 7 rfl
theorem q351 : (Jvm.Cond.fieldLinkNest "GrassField" (191 : Nat) "GrassField$House" "seed" "I" "GrassField") ∈ lw_tbl := lw_at lw_m2 9 rfl
theorem q353 : (Jvm.Cond.fieldLinkNest "GrassField" (194 : Nat) "GrassField$House" "minute" "I" "GrassField") ∈ lw_tbl := lw_at lw_m2 11 rfl
theorem q355 : (Jvm.Cond.fieldLinkNest "GrassField" (247 : Nat) "GrassField$House" "deepest" "I" "GrassField") ∈ lw_tbl := lw_at lw_m2 13 rfl
theorem q357 : (Jvm.Cond.fieldLinkNest "GrassField" (250 : Nat) "GrassField$House" "wide" "I" "GrassField") ∈ lw_tbl := lw_at lw_m2 15 rfl
theorem q359 : (Jvm.Cond.fieldLinkNest "GrassField" (259 : Nat) "GrassField$House" "walked" "I" "GrassField") ∈ lw_tbl := lw_at lw_m2 17 rfl
theorem q406 : (Jvm.Cond.classLink "GrassField" (36 : Nat) "GrassField$Track") ∈ lw_all := lw_g (lw_at lw_m2 64 rfl) rfl
theorem q408 : (Jvm.Cond.methodLink "GrassField" (38 : Nat) ({ cls := "GrassField$Track", name := "<init>", desc := "(LGrassField$House;)V" } : Jvm.MethodName)) ∈ lw_all := lw_g (lw_at lw_m2 66 rfl) rfl
theorem q430 : (Jvm.Cond.fieldLink "GrassField" (22 : Nat) "GrassField" "reader" "LGrassField$Reader;") ∈ lw_all := lw_g (lw_at lw_m2 88 rfl) rfl
theorem q431 : (Jvm.Cond.fieldLink "GrassField" (29 : Nat) "GrassField" "now" "LGrassField$House;") ∈ lw_all := lw_g (lw_at lw_m2 89 rfl) rfl
theorem q432 : (Jvm.Cond.fieldLink "GrassField" (33 : Nat) "GrassField" "image" "LGrassField$House;") ∈ lw_all := lw_g (lw_at lw_m2 90 rfl) rfl
theorem q433 : (Jvm.Cond.fieldLink "GrassField" (41 : Nat) "GrassField" "track" "LGrassField$Track;") ∈ lw_all := lw_g (lw_at lw_m2 91 rfl) rfl
theorem q434 : (Jvm.Cond.fieldLink "GrassField" (45 : Nat) "GrassField" "xs" "[I") ∈ lw_all := lw_g (lw_at lw_m2 92 rfl) rfl
theorem q435 : (Jvm.Cond.fieldLink "GrassField" (49 : Nat) "GrassField" "bones" "[I") ∈ lw_all := lw_g (lw_at lw_m2 93 rfl) rfl
theorem q436 : (Jvm.Cond.fieldLink "GrassField" (52 : Nat) "GrassField" "wrongAt" "I") ∈ lw_all := lw_g (lw_at lw_m2 94 rfl) rfl
theorem q437 : (Jvm.Cond.fieldLink "GrassField" (291 : Nat) "GrassField" "xMany" "I") ∈ lw_all := lw_g (lw_at lw_m2 95 rfl) rfl
theorem q438 : (Jvm.Cond.fieldLink "GrassField" (355 : Nat) "GrassField" "boneMany" "I") ∈ lw_all := lw_g (lw_at lw_m2 96 rfl) rfl
theorem q439 : (Jvm.Cond.fieldLink "GrassField" (358 : Nat) "GrassField" "whoBits" "I") ∈ lw_all := lw_g (lw_at lw_m2 97 rfl) rfl
theorem q440 : (Jvm.Cond.fieldLink "GrassField" (410 : Nat) "GrassField" "kept" "Z") ∈ lw_all := lw_g (lw_at lw_m2 98 rfl) rfl
theorem q441 : (Jvm.Cond.laysFinal "GrassField" "GrassField" "reader" "LGrassField$Reader;") ∈ lw_all := lw_g (lw_at lw_m2 99 rfl) rfl
theorem q442 : (Jvm.Cond.soleField "GrassField" "reader") ∈ lw_all := lw_g (lw_at lw_m2 100 rfl) rfl
theorem q443 : (Jvm.Cond.laysFinal "GrassField" "GrassField" "now" "LGrassField$House;") ∈ lw_all := lw_g (lw_at lw_m2 101 rfl) rfl
theorem q444 : (Jvm.Cond.soleField "GrassField" "now") ∈ lw_all := lw_g (lw_at lw_m2 102 rfl) rfl
theorem q445 : (Jvm.Cond.laysFinal "GrassField" "GrassField" "image" "LGrassField$House;") ∈ lw_all := lw_g (lw_at lw_m2 103 rfl) rfl
theorem q446 : (Jvm.Cond.soleField "GrassField" "image") ∈ lw_all := lw_g (lw_at lw_m2 104 rfl) rfl
theorem q447 : (Jvm.Cond.laysFinal "GrassField" "GrassField" "track" "LGrassField$Track;") ∈ lw_all := lw_g (lw_at lw_m2 105 rfl) rfl
theorem q448 : (Jvm.Cond.soleField "GrassField" "track") ∈ lw_all := lw_g (lw_at lw_m2 106 rfl) rfl
theorem q449 : (Jvm.Cond.laysFinal "GrassField" "GrassField" "xs" "[I") ∈ lw_all := lw_g (lw_at lw_m2 107 rfl) rfl
theorem q450 : (Jvm.Cond.soleField "GrassField" "xs") ∈ lw_all := lw_g (lw_at lw_m2 108 rfl) rfl
theorem q451 : (Jvm.Cond.laysFinal "GrassField" "GrassField" "bones" "[I") ∈ lw_all := lw_g (lw_at lw_m2 109 rfl) rfl
theorem q452 : (Jvm.Cond.soleField "GrassField" "bones") ∈ lw_all := lw_g (lw_at lw_m2 110 rfl) rfl
theorem q453 : (Jvm.Cond.lays "GrassField" "GrassField" "wrongAt" "I") ∈ lw_all := lw_g (lw_at lw_m2 111 rfl) rfl
theorem q454 : (Jvm.Cond.soleField "GrassField" "wrongAt") ∈ lw_all := lw_g (lw_at lw_m2 112 rfl) rfl
theorem q455 : (Jvm.Cond.lays "GrassField" "GrassField" "xMany" "I") ∈ lw_all := lw_g (lw_at lw_m2 113 rfl) rfl
theorem q456 : (Jvm.Cond.soleField "GrassField" "xMany") ∈ lw_all := lw_g (lw_at lw_m2 114 rfl) rfl
theorem q457 : (Jvm.Cond.lays "GrassField" "GrassField" "boneMany" "I") ∈ lw_all := lw_g (lw_at lw_m2 115 rfl) rfl
theorem q458 : (Jvm.Cond.soleField "GrassField" "boneMany") ∈ lw_all := lw_g (lw_at lw_m2 116 rfl) rfl
theorem q459 : (Jvm.Cond.lays "GrassField" "GrassField" "whoBits" "I") ∈ lw_all := lw_g (lw_at lw_m2 117 rfl) rfl
theorem q460 : (Jvm.Cond.soleField "GrassField" "whoBits") ∈ lw_all := lw_g (lw_at lw_m2 118 rfl) rfl
theorem q461 : (Jvm.Cond.lays "GrassField" "GrassField" "kept" "Z") ∈ lw_all := lw_g (lw_at lw_m2 119 rfl) rfl
theorem q462 : (Jvm.Cond.soleField "GrassField" "kept") ∈ lw_all := lw_g (lw_at lw_m2 120 rfl) rfl
theorem q463 : (Jvm.Cond.superclass "GrassField" "java/lang/Object") ∈ lw_all := lw_g (lw_at lw_m2 121 rfl) rfl
theorem q465 : (Jvm.Cond.instanceMethod ({ cls := "GrassField", name := "feed", desc := "(IIIII)I" } : Jvm.MethodName)) ∈ lw_all := lw_g (lw_at lw_m2 123 rfl) rfl
theorem q466 : (Jvm.Cond.selects "GrassField" ({ cls := "GrassField", name := "feed", desc := "(IIIII)I" } : Jvm.MethodName) ({ cls := "GrassField", name := "feed", desc := "(IIIII)I" } : Jvm.MethodName)) ∈ lw_all := lw_g (lw_at lw_m2 124 rfl) rfl
theorem q467 : (Jvm.Cond.code ({ cls := "GrassField", name := "feed", desc := "(IIIII)I" } : Jvm.MethodName) prog_1_method_15_code (6 : Nat) (Option.some Jvm.ClassFile.FieldType.int)) ∈ lw_all := lw_g (lw_at lw_m2 125 rfl) rfl
theorem q468 : (Jvm.Cond.methodLink "GrassField" (96 : Nat) ({ cls := "GrassField", name := "four", desc := "(I)V" } : Jvm.MethodName)) ∈ lw_all := lw_g (lw_at lw_m2 126 rfl) rfl
theorem q469 : (Jvm.Cond.privateMethod ({ cls := "GrassField", name := "four", desc := "(I)V" } : Jvm.MethodName)) ∈ lw_tbl := lw_at lw_m2 127 rfl
theorem q470 : (Jvm.Cond.instanceMethod ({ cls := "GrassField", name := "four", desc := "(I)V" } : Jvm.MethodName)) ∈ lw_all := lw_g (lw_at lw_m2 128 rfl) rfl
theorem q471 : (Jvm.Cond.code ({ cls := "GrassField", name := "four", desc := "(I)V" } : Jvm.MethodName) prog_1_method_14_code (3 : Nat) (Option.none : Option Jvm.ClassFile.FieldType)) ∈ lw_all := lw_g (lw_at lw_m2 129 rfl) rfl
theorem q473 : (Jvm.Cond.instanceMethod ({ cls := "GrassField", name := "end", desc := "(I)Z" } : Jvm.MethodName)) ∈ lw_all := lw_g (lw_at lw_m2 131 rfl) rfl
theorem q474 : (Jvm.Cond.selects "GrassField" ({ cls := "GrassField", name := "end", desc := "(I)Z" } : Jvm.MethodName) ({ cls := "GrassField", name := "end", desc := "(I)Z" } : Jvm.MethodName)) ∈ lw_all := lw_g (lw_at lw_m2 132 rfl) rfl
theorem q475 : (Jvm.Cond.code ({ cls := "GrassField", name := "end", desc := "(I)Z" } : Jvm.MethodName) prog_1_method_16_code (2 : Nat) (Option.some Jvm.ClassFile.FieldType.boolean)) ∈ lw_all := lw_g (lw_at lw_m2 133 rfl) rfl
theorem q476 : (Jvm.Cond.methodLink "GrassField" (68 : Nat) ({ cls := "GrassField", name := "isIn", desc := "(III)Z" } : Jvm.MethodName)) ∈ lw_all := lw_g (lw_at lw_m2 134 rfl) rfl
theorem q477 : (Jvm.Cond.static ({ cls := "GrassField", name := "isIn", desc := "(III)Z" } : Jvm.MethodName)) ∈ lw_all := lw_g (lw_at lw_m2 135 rfl) rfl
theorem q478 : (Jvm.Cond.code ({ cls := "GrassField", name := "isIn", desc := "(III)Z" } : Jvm.MethodName) prog_1_method_7_code (3 : Nat) (Option.some Jvm.ClassFile.FieldType.boolean)) ∈ lw_all := lw_g (lw_at lw_m2 136 rfl) rfl
theorem q480 : (Jvm.Cond.instanceMethod ({ cls := "GrassField", name := "fault", desc := "()I" } : Jvm.MethodName)) ∈ lw_all := lw_g (lw_at lw_m2 138 rfl) rfl
theorem q481 : (Jvm.Cond.selects "GrassField" ({ cls := "GrassField", name := "fault", desc := "()I" } : Jvm.MethodName) ({ cls := "GrassField", name := "fault", desc := "()I" } : Jvm.MethodName)) ∈ lw_all := lw_g (lw_at lw_m2 139 rfl) rfl
theorem q482 : (Jvm.Cond.code ({ cls := "GrassField", name := "fault", desc := "()I" } : Jvm.MethodName) prog_1_method_25_code (1 : Nat) (Option.some Jvm.ClassFile.FieldType.int)) ∈ lw_all := lw_g (lw_at lw_m2 140 rfl) rfl
theorem q484 : (Jvm.Cond.instanceMethod ({ cls := "GrassField", name := "seed", desc := "(I)V" } : Jvm.MethodName)) ∈ lw_all := lw_g (lw_at lw_m2 142 rfl) rfl
theorem q485 : (Jvm.Cond.selects "GrassField" ({ cls := "GrassField", name := "seed", desc := "(I)V" } : Jvm.MethodName) ({ cls := "GrassField", name := "seed", desc := "(I)V" } : Jvm.MethodName)) ∈ lw_all := lw_g (lw_at lw_m2 143 rfl) rfl
theorem q486 : (Jvm.Cond.code ({ cls := "GrassField", name := "seed", desc := "(I)V" } : Jvm.MethodName) prog_1_method_28_code (2 : Nat) (Option.none : Option Jvm.ClassFile.FieldType)) ∈ lw_all := lw_g (lw_at lw_m2 144 rfl) rfl
theorem q488 : (Jvm.Cond.instanceMethod ({ cls := "GrassField", name := "next", desc := "()I" } : Jvm.MethodName)) ∈ lw_all := lw_g (lw_at lw_m2 146 rfl) rfl
theorem q489 : (Jvm.Cond.selects "GrassField" ({ cls := "GrassField", name := "next", desc := "()I" } : Jvm.MethodName) ({ cls := "GrassField", name := "next", desc := "()I" } : Jvm.MethodName)) ∈ lw_all := lw_g (lw_at lw_m2 147 rfl) rfl
theorem q490 : (Jvm.Cond.code ({ cls := "GrassField", name := "next", desc := "()I" } : Jvm.MethodName) prog_1_method_37_code (6 : Nat) (Option.some Jvm.ClassFile.FieldType.int)) ∈ lw_all := lw_g (lw_at lw_m2 148 rfl) rfl
theorem q491 : (Jvm.Cond.methodLink "GrassField" (256 : Nat) ({ cls := "GrassField$House", name := "seen", desc := "()I" } : Jvm.MethodName)) ∈ lw_all := lw_g (lw_at lw_m2 149 rfl) rfl
theorem q523 : (Jvm.Cond.instanceMethod ({ cls := "GrassField", name := "apart", desc := "()I" } : Jvm.MethodName)) ∈ lw_all := lw_g (lw_at lw_m2 181 rfl) rfl
theorem q524 : (Jvm.Cond.selects "GrassField" ({ cls := "GrassField", name := "apart", desc := "()I" } : Jvm.MethodName) ({ cls := "GrassField", name := "apart", desc := "()I" } : Jvm.MethodName)) ∈ lw_all := lw_g (lw_at lw_m2 182 rfl) rfl
theorem q525 : (Jvm.Cond.code ({ cls := "GrassField", name := "apart", desc := "()I" } : Jvm.MethodName) prog_1_method_54_code (7 : Nat) (Option.some Jvm.ClassFile.FieldType.int)) ∈ lw_all := lw_g (lw_at lw_m2 183 rfl) rfl
theorem q526 : (Jvm.Cond.methodLink "GrassField" (342 : Nat) ({ cls := "GrassField$House", name := "fits", desc := "(LGrassField$Telling;)Z" } : Jvm.MethodName)) ∈ lw_all := lw_g (lw_at lw_m2 184 rfl) rfl
theorem q554 : (Jvm.Cond.static ({ cls := "GrassField", name := "far", desc := "(II)I" } : Jvm.MethodName)) ∈ lw_all := lw_g (lw_at lw_m2 212 rfl) rfl
theorem q555 : (Jvm.Cond.code ({ cls := "GrassField", name := "far", desc := "(II)I" } : Jvm.MethodName) prog_1_method_1_code (2 : Nat) (Option.some Jvm.ClassFile.FieldType.int)) ∈ lw_all := lw_g (lw_at lw_m2 213 rfl) rfl
theorem q556 : (Jvm.Cond.methodLink "GrassField" (3 : Nat) ({ cls := "java/lang/Math", name := "abs", desc := "(I)I" } : Jvm.MethodName)) ∈ lw_all := lw_g (lw_at lw_m2 214 rfl) rfl
theorem q557 : (Jvm.Cond.methodLink "GrassField" (9 : Nat) ({ cls := "java/lang/Math", name := "max", desc := "(II)I" } : Jvm.MethodName)) ∈ lw_all := lw_g (lw_at lw_m2 215 rfl) rfl
theorem q571 : (Jvm.Cond.methodLink "GrassField" (271 : Nat) ({ cls := "java/lang/Integer", name := "bitCount", desc := "(I)I" } : Jvm.MethodName)) ∈ lw_all := lw_g (lw_at lw_m2 229 rfl) rfl
theorem q577 : (Jvm.Cond.methodLink "GrassField" (349 : Nat) ({ cls := "GrassField$House", name := "talked", desc := "(II)Z" } : Jvm.MethodName)) ∈ lw_all := lw_g (lw_at lw_m2 235 rfl) rfl
theorem q582 : (Jvm.Cond.instanceMethod ({ cls := "GrassField", name := "image", desc := "()V" } : Jvm.MethodName)) ∈ lw_all := lw_g (lw_at lw_m3 0 rfl) rfl
theorem q583 : (Jvm.Cond.selects "GrassField" ({ cls := "GrassField", name := "image", desc := "()V" } : Jvm.MethodName) ({ cls := "GrassField", name := "image", desc := "()V" } : Jvm.MethodName)) ∈ lw_all := lw_g (lw_at lw_m3 1 rfl) rfl
theorem q584 : (Jvm.Cond.code ({ cls := "GrassField", name := "image", desc := "()V" } : Jvm.MethodName) prog_1_method_64_code (1 : Nat) (Option.none : Option Jvm.ClassFile.FieldType)) ∈ lw_all := lw_g (lw_at lw_m3 2 rfl) rfl
theorem q585 : (Jvm.Cond.methodLink "GrassField" (407 : Nat) ({ cls := "GrassField$House", name := "be", desc := "(LGrassField$House;)V" } : Jvm.MethodName)) ∈ lw_all := lw_g (lw_at lw_m3 3 rfl) rfl
theorem q599 : (Jvm.Cond.fieldLinkNest "GrassField" (168 : Nat) "GrassField$Gun" "side" "I" "GrassField") ∈ lw_tbl := lw_at lw_m3 17 rfl
theorem q604 : (Jvm.Cond.fieldLinkNest "GrassField" (276 : Nat) "GrassField$Gun" "year" "I" "GrassField") ∈ lw_tbl := lw_at lw_m3 22 rfl
theorem q608 : (Jvm.Cond.fieldLinkNest "GrassField" (413 : Nat) "GrassField$Gun" "rounds" "I" "GrassField") ∈ lw_tbl := lw_at lw_m3 26 rfl
theorem q628 : (Jvm.Cond.fieldLinkNest "GrassField" (184 : Nat) "GrassField$Person" "side" "I" "GrassField") ∈ lw_tbl := lw_at lw_m3 46 rfl
theorem q631 : (Jvm.Cond.fieldLinkNest "GrassField" (185 : Nat) "GrassField$Person" "law" "I" "GrassField") ∈ lw_tbl := lw_at lw_m3 49 rfl
theorem q636 : (Jvm.Cond.fieldLinkNest "GrassField" (163 : Nat) "GrassField$Person" "gun" "I" "GrassField") ∈ lw_tbl := lw_at lw_m3 54 rfl
theorem q642 : (Jvm.Cond.fieldLinkNest "GrassField" (174 : Nat) "GrassField$Person" "cell" "I" "GrassField") ∈ lw_tbl := lw_at lw_m3 60 rfl
theorem q646 : (Jvm.Cond.fieldLinkNest "GrassField" (177 : Nat) "GrassField$Person" "fear" "I" "GrassField") ∈ lw_tbl := lw_at lw_m3 64 rfl
theorem q649 : (Jvm.Cond.fieldLinkNest "GrassField" (180 : Nat) "GrassField$Person" "living" "Z" "GrassField") ∈ lw_tbl := lw_at lw_m3 67 rfl
theorem q664 : (Jvm.Cond.instanceMethod ({ cls := "GrassField", name := "back", desc := "()Z" } : Jvm.MethodName)) ∈ lw_all := lw_g (lw_at lw_m3 82 rfl) rfl
theorem q665 : (Jvm.Cond.selects "GrassField" ({ cls := "GrassField", name := "back", desc := "()Z" } : Jvm.MethodName) ({ cls := "GrassField", name := "back", desc := "()Z" } : Jvm.MethodName)) ∈ lw_all := lw_g (lw_at lw_m3 83 rfl) rfl
theorem q666 : (Jvm.Cond.code ({ cls := "GrassField", name := "back", desc := "()Z" } : Jvm.MethodName) prog_1_method_65_code (1 : Nat) (Option.some Jvm.ClassFile.FieldType.boolean)) ∈ lw_all := lw_g (lw_at lw_m3 84 rfl) rfl
theorem q668 : (Jvm.Cond.instanceMethod ({ cls := "GrassField", name := "count", desc := "(I)I" } : Jvm.MethodName)) ∈ lw_all := lw_g (lw_at lw_m3 86 rfl) rfl
theorem q669 : (Jvm.Cond.selects "GrassField" ({ cls := "GrassField", name := "count", desc := "(I)I" } : Jvm.MethodName) ({ cls := "GrassField", name := "count", desc := "(I)I" } : Jvm.MethodName)) ∈ lw_all := lw_g (lw_at lw_m3 87 rfl) rfl
theorem q670 : (Jvm.Cond.code ({ cls := "GrassField", name := "count", desc := "(I)I" } : Jvm.MethodName) prog_1_method_66_code (4 : Nat) (Option.some Jvm.ClassFile.FieldType.int)) ∈ lw_all := lw_g (lw_at lw_m3 88 rfl) rfl
theorem q708 : (Jvm.Cond.instanceMethod ({ cls := "GrassField", name := "ground", desc := "(III)V" } : Jvm.MethodName)) ∈ lw_all := lw_g (lw_at lw_m3 126 rfl) rfl
theorem q709 : (Jvm.Cond.selects "GrassField" ({ cls := "GrassField", name := "ground", desc := "(III)V" } : Jvm.MethodName) ({ cls := "GrassField", name := "ground", desc := "(III)V" } : Jvm.MethodName)) ∈ lw_all := lw_g (lw_at lw_m3 127 rfl) rfl
theorem q710 : (Jvm.Cond.code ({ cls := "GrassField", name := "ground", desc := "(III)V" } : Jvm.MethodName) prog_1_method_18_code (5 : Nat) (Option.none : Option Jvm.ClassFile.FieldType)) ∈ lw_all := lw_g (lw_at lw_m3 128 rfl) rfl
theorem q711 : (Jvm.Cond.methodLink "GrassField" (100 : Nat) ({ cls := "GrassField", name := "isCell", desc := "(I)V" } : Jvm.MethodName)) ∈ lw_all := lw_g (lw_at lw_m3 129 rfl) rfl
theorem q712 : (Jvm.Cond.static ({ cls := "GrassField", name := "isCell", desc := "(I)V" } : Jvm.MethodName)) ∈ lw_all := lw_g (lw_at lw_m3 130 rfl) rfl
theorem q713 : (Jvm.Cond.code ({ cls := "GrassField", name := "isCell", desc := "(I)V" } : Jvm.MethodName) prog_1_method_8_code (1 : Nat) (Option.none : Option Jvm.ClassFile.FieldType)) ∈ lw_all := lw_g (lw_at lw_m3 131 rfl) rfl
theorem q714 : (Jvm.Cond.methodLink "GrassField" (72 : Nat) ({ cls := "GrassField", name := "mustBe", desc := "(Z)V" } : Jvm.MethodName)) ∈ lw_all := lw_g (lw_at lw_m3 132 rfl) rfl
theorem q715 : (Jvm.Cond.static ({ cls := "GrassField", name := "mustBe", desc := "(Z)V" } : Jvm.MethodName)) ∈ lw_all := lw_g (lw_at lw_m3 133 rfl) rfl
theorem q716 : (Jvm.Cond.code ({ cls := "GrassField", name := "mustBe", desc := "(Z)V" } : Jvm.MethodName) prog_1_method_5_code (1 : Nat) (Option.none : Option Jvm.ClassFile.FieldType)) ∈ lw_all := lw_g (lw_at lw_m3 134 rfl) rfl
theorem q717 : (Jvm.Cond.classLink "GrassField" (62 : Nat) "java/lang/IndexOutOfBoundsException") ∈ lw_all := lw_g (lw_at lw_m3 135 rfl) rfl
theorem q726 : (Jvm.Cond.methodLink "GrassField" (64 : Nat) ({ cls := "java/lang/IndexOutOfBoundsException", name := "<init>", desc := "()V" } : Jvm.MethodName)) ∈ lw_all := lw_g (lw_at lw_m3 144 rfl) rfl
theorem q738 : (Jvm.Cond.methodLink "GrassField" (103 : Nat) ({ cls := "GrassField", name := "must", desc := "(Z)V" } : Jvm.MethodName)) ∈ lw_all := lw_g (lw_at lw_m3 156 rfl) rfl
theorem q739 : (Jvm.Cond.static ({ cls := "GrassField", name := "must", desc := "(Z)V" } : Jvm.MethodName)) ∈ lw_all := lw_g (lw_at lw_m3 157 rfl) rfl
theorem q740 : (Jvm.Cond.code ({ cls := "GrassField", name := "must", desc := "(Z)V" } : Jvm.MethodName) prog_1_method_3_code (1 : Nat) (Option.none : Option Jvm.ClassFile.FieldType)) ∈ lw_all := lw_g (lw_at lw_m3 158 rfl) rfl
theorem q741 : (Jvm.Cond.classLink "GrassField" (56 : Nat) "java/lang/IllegalArgumentException") ∈ lw_all := lw_g (lw_at lw_m3 159 rfl) rfl
theorem q750 : (Jvm.Cond.methodLink "GrassField" (58 : Nat) ({ cls := "java/lang/IllegalArgumentException", name := "<init>", desc := "()V" } : Jvm.MethodName)) ∈ lw_all := lw_g (lw_at lw_m3 168 rfl) rfl
theorem q756 : (Jvm.Cond.methodLink "GrassField" (106 : Nat) ({ cls := "GrassField$House", name := "isIn", desc := "(III)Z" } : Jvm.MethodName)) ∈ lw_all := lw_g (lw_at lw_m3 174 rfl) rfl
theorem q767 : (Jvm.Cond.instanceMethod ({ cls := "GrassField", name := "height", desc := "(I)I" } : Jvm.MethodName)) ∈ lw_all := lw_g (lw_at lw_m3 185 rfl) rfl
theorem q768 : (Jvm.Cond.selects "GrassField" ({ cls := "GrassField", name := "height", desc := "(I)I" } : Jvm.MethodName) ({ cls := "GrassField", name := "height", desc := "(I)I" } : Jvm.MethodName)) ∈ lw_all := lw_g (lw_at lw_m3 186 rfl) rfl
theorem q769 : (Jvm.Cond.code ({ cls := "GrassField", name := "height", desc := "(I)I" } : Jvm.MethodName) prog_1_method_19_code (2 : Nat) (Option.some Jvm.ClassFile.FieldType.int)) ∈ lw_all := lw_g (lw_at lw_m3 187 rfl) rfl
theorem q774 : (Jvm.Cond.instanceMethod ({ cls := "GrassField", name := "sees", desc := "(II)Z" } : Jvm.MethodName)) ∈ lw_all := lw_g (lw_at lw_m3 192 rfl) rfl
theorem q775 : (Jvm.Cond.selects "GrassField" ({ cls := "GrassField", name := "sees", desc := "(II)Z" } : Jvm.MethodName) ({ cls := "GrassField", name := "sees", desc := "(II)Z" } : Jvm.MethodName)) ∈ lw_all := lw_g (lw_at lw_m3 193 rfl) rfl
theorem q776 : (Jvm.Cond.code ({ cls := "GrassField", name := "sees", desc := "(II)Z" } : Jvm.MethodName) prog_1_method_20_code (3 : Nat) (Option.some Jvm.ClassFile.FieldType.boolean)) ∈ lw_all := lw_g (lw_at lw_m3 194 rfl) rfl
theorem q777 : (Jvm.Cond.methodLink "GrassField" (110 : Nat) ({ cls := "GrassField$House", name := "sees", desc := "(II)Z" } : Jvm.MethodName)) ∈ lw_all := lw_g (lw_at lw_m3 195 rfl) rfl
theorem q783 : (Jvm.Cond.instanceMethod ({ cls := "GrassField", name := "gun", desc := "(IIII)I" } : Jvm.MethodName)) ∈ lw_all := lw_g (lw_at lw_m3 201 rfl) rfl
theorem q784 : (Jvm.Cond.selects "GrassField" ({ cls := "GrassField", name := "gun", desc := "(IIII)I" } : Jvm.MethodName) ({ cls := "GrassField", name := "gun", desc := "(IIII)I" } : Jvm.MethodName)) ∈ lw_all := lw_g (lw_at lw_m3 202 rfl) rfl
theorem q785 : (Jvm.Cond.code ({ cls := "GrassField", name := "gun", desc := "(IIII)I" } : Jvm.MethodName) prog_1_method_22_code (5 : Nat) (Option.some Jvm.ClassFile.FieldType.int)) ∈ lw_all := lw_g (lw_at lw_m3 203 rfl) rfl
theorem q786 : (Jvm.Cond.methodLink "GrassField" (114 : Nat) ({ cls := "GrassField", name := "isYear", desc := "(I)Z" } : Jvm.MethodName)) ∈ lw_all := lw_g (lw_at lw_m3 204 rfl) rfl
theorem q787 : (Jvm.Cond.static ({ cls := "GrassField", name := "isYear", desc := "(I)Z" } : Jvm.MethodName)) ∈ lw_all := lw_g (lw_at lw_m3 205 rfl) rfl
theorem q788 : (Jvm.Cond.code ({ cls := "GrassField", name := "isYear", desc := "(I)Z" } : Jvm.MethodName) prog_1_method_21_code (1 : Nat) (Option.some Jvm.ClassFile.FieldType.boolean)) ∈ lw_all := lw_g (lw_at lw_m3 206 rfl) rfl
theorem q789 : (Jvm.Cond.methodLink "GrassField" (118 : Nat) ({ cls := "GrassField", name := "mayBe", desc := "(Z)V" } : Jvm.MethodName)) ∈ lw_all := lw_g (lw_at lw_m3 207 rfl) rfl
theorem q790 : (Jvm.Cond.static ({ cls := "GrassField", name := "mayBe", desc := "(Z)V" } : Jvm.MethodName)) ∈ lw_all := lw_g (lw_at lw_m3 208 rfl) rfl
theorem q791 : (Jvm.Cond.code ({ cls := "GrassField", name := "mayBe", desc := "(Z)V" } : Jvm.MethodName) prog_1_method_4_code (1 : Nat) (Option.none : Option Jvm.ClassFile.FieldType)) ∈ lw_all := lw_g (lw_at lw_m3 209 rfl) rfl
theorem q792 : (Jvm.Cond.classLink "GrassField" (59 : Nat) "java/lang/UnsupportedOperationException") ∈ lw_all := lw_g (lw_at lw_m3 210 rfl) rfl
theorem q801 : (Jvm.Cond.methodLink "GrassField" (61 : Nat) ({ cls := "java/lang/UnsupportedOperationException", name := "<init>", desc := "()V" } : Jvm.MethodName)) ∈ lw_all := lw_g (lw_at lw_m3 219 rfl) rfl
theorem q807 : (Jvm.Cond.classLink "GrassField" (125 : Nat) "GrassField$Gun") ∈ lw_all := lw_g (lw_at lw_m3 225 rfl) rfl
theorem q808 : (Jvm.Cond.methodLink "GrassField" (127 : Nat) ({ cls := "GrassField$Gun", name := "<init>", desc := "(IIII)V" } : Jvm.MethodName)) ∈ lw_all := lw_g (lw_at lw_m3 226 rfl) rfl
theorem q813 : (Jvm.Cond.instanceMethod ({ cls := "GrassField", name := "day", desc := "(I)V" } : Jvm.MethodName)) ∈ lw_all := lw_g (lw_at lw_m3 231 rfl) rfl
theorem q814 : (Jvm.Cond.selects "GrassField" ({ cls := "GrassField", name := "day", desc := "(I)V" } : Jvm.MethodName) ({ cls := "GrassField", name := "day", desc := "(I)V" } : Jvm.MethodName)) ∈ lw_all := lw_g (lw_at lw_m3 232 rfl) rfl
theorem q815 : (Jvm.Cond.code ({ cls := "GrassField", name := "day", desc := "(I)V" } : Jvm.MethodName) prog_1_method_23_code (2 : Nat) (Option.none : Option Jvm.ClassFile.FieldType)) ∈ lw_all := lw_g (lw_at lw_m3 233 rfl) rfl
theorem q820 : (Jvm.Cond.instanceMethod ({ cls := "GrassField", name := "law", desc := "()I" } : Jvm.MethodName)) ∈ lw_all := lw_g (lw_at lw_m3 238 rfl) rfl
theorem q821 : (Jvm.Cond.selects "GrassField" ({ cls := "GrassField", name := "law", desc := "()I" } : Jvm.MethodName) ({ cls := "GrassField", name := "law", desc := "()I" } : Jvm.MethodName)) ∈ lw_all := lw_g (lw_at lw_m3 239 rfl) rfl
theorem q822 : (Jvm.Cond.codeWith ({ cls := "GrassField", name := "law", desc := "()I" } : Jvm.MethodName) prog_1_method_24_code (4 : Nat) (Option.some Jvm.ClassFile.FieldType.int) [((10 : Nat), (19 : Nat), (22 : Nat), (141 : Nat))]) ∈ lw_all := lw_g (lw_at lw_m4 0 rfl) rfl
theorem q823 : (Jvm.Cond.classLink "GrassField" (141 : Nat) "GrassField$Wrong") ∈ lw_all := lw_g (lw_at lw_m4 1 rfl) rfl
theorem q824 : (Jvm.Cond.methodLink "GrassField" (133 : Nat) ({ cls := "GrassField", name := "use", desc := "()I" } : Jvm.MethodName)) ∈ lw_all := lw_g (lw_at lw_m4 2 rfl) rfl
theorem q825 : (Jvm.Cond.privateMethod ({ cls := "GrassField", name := "use", desc := "()I" } : Jvm.MethodName)) ∈ lw_tbl := lw_at lw_m4 3 rfl
theorem q826 : (Jvm.Cond.instanceMethod ({ cls := "GrassField", name := "use", desc := "()I" } : Jvm.MethodName)) ∈ lw_all := lw_g (lw_at lw_m4 4 rfl) rfl
theorem q827 : (Jvm.Cond.code ({ cls := "GrassField", name := "use", desc := "()I" } : Jvm.MethodName) prog_1_method_17_code (2 : Nat) (Option.some Jvm.ClassFile.FieldType.int)) ∈ lw_all := lw_g (lw_at lw_m4 5 rfl) rfl
theorem q828 : (Jvm.Cond.methodLink "GrassField" (137 : Nat) ({ cls := "GrassField$Reader", name := "law", desc := "(I)LGrassField$Law;" } : Jvm.MethodName)) ∈ lw_all := lw_g (lw_at lw_m4 6 rfl) rfl
theorem q1064 : (Jvm.Cond.instanceMethod ({ cls := "GrassField", name := "person", desc := "(IIII)I" } : Jvm.MethodName)) ∈ lw_all := lw_g (lw_at lw_m5 2 rfl) rfl
theorem q1065 : (Jvm.Cond.selects "GrassField" ({ cls := "GrassField", name := "person", desc := "(IIII)I" } : Jvm.MethodName) ({ cls := "GrassField", name := "person", desc := "(IIII)I" } : Jvm.MethodName)) ∈ lw_all := lw_g (lw_at lw_m5 3 rfl) rfl
theorem q1066 : (Jvm.Cond.code ({ cls := "GrassField", name := "person", desc := "(IIII)I" } : Jvm.MethodName) prog_1_method_26_code (7 : Nat) (Option.some Jvm.ClassFile.FieldType.int)) ∈ lw_all := lw_g (lw_at lw_m5 4 rfl) rfl
theorem q1067 : (Jvm.Cond.methodLink "GrassField" (153 : Nat) ({ cls := "GrassField", name := "isGun", desc := "(I)V" } : Jvm.MethodName)) ∈ lw_all := lw_g (lw_at lw_m5 5 rfl) rfl
theorem q1068 : (Jvm.Cond.privateMethod ({ cls := "GrassField", name := "isGun", desc := "(I)V" } : Jvm.MethodName)) ∈ lw_tbl := lw_at lw_m5 6 rfl
theorem q1069 : (Jvm.Cond.instanceMethod ({ cls := "GrassField", name := "isGun", desc := "(I)V" } : Jvm.MethodName)) ∈ lw_all := lw_g (lw_at lw_m5 7 rfl) rfl
theorem q1070 : (Jvm.Cond.code ({ cls := "GrassField", name := "isGun", desc := "(I)V" } : Jvm.MethodName) prog_1_method_11_code (2 : Nat) (Option.none : Option Jvm.ClassFile.FieldType)) ∈ lw_all := lw_g (lw_at lw_m5 8 rfl) rfl
theorem q1071 : (Jvm.Cond.classLink "GrassField" (164 : Nat) "GrassField$Person") ∈ lw_all := lw_g (lw_at lw_m5 9 rfl) rfl
theorem q1072 : (Jvm.Cond.methodLink "GrassField" (171 : Nat) ({ cls := "GrassField$Person", name := "<init>", desc := "(IIIII)V" } : Jvm.MethodName)) ∈ lw_all := lw_g (lw_at lw_m5 10 rfl) rfl
theorem q1078 : (Jvm.Cond.instanceMethod ({ cls := "GrassField", name := "look", desc := "(II)I" } : Jvm.MethodName)) ∈ lw_all := lw_g (lw_at lw_m5 16 rfl) rfl
theorem q1079 : (Jvm.Cond.selects "GrassField" ({ cls := "GrassField", name := "look", desc := "(II)I" } : Jvm.MethodName) ({ cls := "GrassField", name := "look", desc := "(II)I" } : Jvm.MethodName)) ∈ lw_all := lw_g (lw_at lw_m5 17 rfl) rfl
theorem q1080 : (Jvm.Cond.code ({ cls := "GrassField", name := "look", desc := "(II)I" } : Jvm.MethodName) prog_1_method_27_code (4 : Nat) (Option.some Jvm.ClassFile.FieldType.int)) ∈ lw_all := lw_g (lw_at lw_m5 18 rfl) rfl
theorem q1081 : (Jvm.Cond.methodLink "GrassField" (187 : Nat) ({ cls := "GrassField$House", name := "within", desc := "(LGrassField$Person;Z)I" } : Jvm.MethodName)) ∈ lw_all := lw_g (lw_at lw_m5 19 rfl) rfl
theorem q1093 : (Jvm.Cond.classLink "GrassField" (65 : Nat) "java/util/NoSuchElementException") ∈ lw_all := lw_g (lw_at lw_m5 31 rfl) rfl
theorem q1102 : (Jvm.Cond.methodLink "GrassField" (67 : Nat) ({ cls := "java/util/NoSuchElementException", name := "<init>", desc := "()V" } : Jvm.MethodName)) ∈ lw_all := lw_g (lw_at lw_m5 40 rfl) rfl
theorem q1112 : (Jvm.Cond.instanceMethod ({ cls := "GrassField", name := "run", desc := "(I)I" } : Jvm.MethodName)) ∈ lw_all := lw_g (lw_at lw_m5 50 rfl) rfl
theorem q1113 : (Jvm.Cond.selects "GrassField" ({ cls := "GrassField", name := "run", desc := "(I)I" } : Jvm.MethodName) ({ cls := "GrassField", name := "run", desc := "(I)I" } : Jvm.MethodName)) ∈ lw_all := lw_g (lw_at lw_m5 51 rfl) rfl
theorem q1114 : (Jvm.Cond.code ({ cls := "GrassField", name := "run", desc := "(I)I" } : Jvm.MethodName) prog_1_method_29_code (3 : Nat) (Option.some Jvm.ClassFile.FieldType.int)) ∈ lw_all := lw_g (lw_at lw_m5 52 rfl) rfl
theorem q1115 : (Jvm.Cond.methodLink "GrassField" (197 : Nat) ({ cls := "GrassField$House", name := "goes", desc := "()V" } : Jvm.MethodName)) ∈ lw_all := lw_g (lw_at lw_m5 53 rfl) rfl
theorem q1219 : (Jvm.Cond.fieldLinkNest "GrassField" (241 : Nat) "GrassField$Case" "from" "I" "GrassField") ∈ lw_tbl := lw_at lw_m5 157 rfl
theorem q1222 : (Jvm.Cond.fieldLinkNest "GrassField" (244 : Nat) "GrassField$Case" "till" "I" "GrassField") ∈ lw_tbl := lw_at lw_m5 160 rfl
theorem q1273 : (Jvm.Cond.instanceMethod ({ cls := "GrassField", name := "found", desc := "(III)I" } : Jvm.MethodName)) ∈ lw_all := lw_g (lw_at lw_m5 211 rfl) rfl
theorem q1274 : (Jvm.Cond.selects "GrassField" ({ cls := "GrassField", name := "found", desc := "(III)I" } : Jvm.MethodName) ({ cls := "GrassField", name := "found", desc := "(III)I" } : Jvm.MethodName)) ∈ lw_all := lw_g (lw_at lw_m5 212 rfl) rfl
theorem q1275 : (Jvm.Cond.code ({ cls := "GrassField", name := "found", desc := "(III)I" } : Jvm.MethodName) prog_1_method_31_code (4 : Nat) (Option.some Jvm.ClassFile.FieldType.int)) ∈ lw_all := lw_g (lw_at lw_m5 213 rfl) rfl
theorem q1276 : (Jvm.Cond.constant "GrassField" (200 : Nat) (65535 : Int32)) ∈ lw_all := lw_g (lw_at lw_m5 214 rfl) rfl
theorem q1277 : (Jvm.Cond.classLink "GrassField" (201 : Nat) "GrassField$Case") ∈ lw_all := lw_g (lw_at lw_m5 215 rfl) rfl
theorem q1278 : (Jvm.Cond.methodLink "GrassField" (203 : Nat) ({ cls := "GrassField$Case", name := "<init>", desc := "(IIIII)V" } : Jvm.MethodName)) ∈ lw_all := lw_g (lw_at lw_m5 216 rfl) rfl
theorem q1279 : (Jvm.Cond.methodLink "GrassField" (204 : Nat) ({ cls := "GrassField", name := "comes", desc := "(LGrassField$Find;)I" } : Jvm.MethodName)) ∈ lw_all := lw_g (lw_at lw_m5 217 rfl) rfl
theorem q1280 : (Jvm.Cond.privateMethod ({ cls := "GrassField", name := "comes", desc := "(LGrassField$Find;)I" } : Jvm.MethodName)) ∈ lw_tbl := lw_at lw_m5 218 rfl
theorem q1281 : (Jvm.Cond.instanceMethod ({ cls := "GrassField", name := "comes", desc := "(LGrassField$Find;)I" } : Jvm.MethodName)) ∈ lw_all := lw_g (lw_at lw_m5 219 rfl) rfl
theorem q1282 : (Jvm.Cond.code ({ cls := "GrassField", name := "comes", desc := "(LGrassField$Find;)I" } : Jvm.MethodName) prog_1_method_30_code (2 : Nat) (Option.some Jvm.ClassFile.FieldType.int)) ∈ lw_all := lw_g (lw_at lw_m5 220 rfl) rfl
theorem q1287 : (Jvm.Cond.instanceMethod ({ cls := "GrassField", name := "other", desc := "(IIII)I" } : Jvm.MethodName)) ∈ lw_all := lw_g (lw_at lw_m5 225 rfl) rfl
theorem q1288 : (Jvm.Cond.selects "GrassField" ({ cls := "GrassField", name := "other", desc := "(IIII)I" } : Jvm.MethodName) ({ cls := "GrassField", name := "other", desc := "(IIII)I" } : Jvm.MethodName)) ∈ lw_all := lw_g (lw_at lw_m5 226 rfl) rfl
theorem q1289 : (Jvm.Cond.code ({ cls := "GrassField", name := "other", desc := "(IIII)I" } : Jvm.MethodName) prog_1_method_32_code (5 : Nat) (Option.some Jvm.ClassFile.FieldType.int)) ∈ lw_all := lw_g (lw_at lw_m5 227 rfl) rfl
theorem q1290 : (Jvm.Cond.classLink "GrassField" (208 : Nat) "GrassField$Ball") ∈ lw_all := lw_g (lw_at lw_m5 228 rfl) rfl
theorem q1291 : (Jvm.Cond.methodLink "GrassField" (210 : Nat) ({ cls := "GrassField$Ball", name := "<init>", desc := "(III)V" } : Jvm.MethodName)) ∈ lw_all := lw_g (lw_at lw_m5 229 rfl) rfl
theorem q1292 : (Jvm.Cond.classLink "GrassField" (213 : Nat) "GrassField$Bones") ∈ lw_all := lw_g (lw_at lw_m5 230 rfl) rfl
theorem q1293 : (Jvm.Cond.methodLink "GrassField" (215 : Nat) ({ cls := "GrassField$Bones", name := "<init>", desc := "(III)V" } : Jvm.MethodName)) ∈ lw_all := lw_g (lw_at lw_m5 231 rfl) rfl
theorem q1294 : (Jvm.Cond.classLink "GrassField" (216 : Nat) "GrassField$Late") ∈ lw_all := lw_g (lw_at lw_m5 232 rfl) rfl
theorem q1296 : (Jvm.Cond.methodLink "GrassField" (218 : Nat) ({ cls := "GrassField$Late", name := "<init>", desc := "(III)V" } : Jvm.MethodName)) ∈ lw_all := lw_g (lw_at lw_m5 234 rfl) rfl
theorem q1310 : (Jvm.Cond.instanceMethod ({ cls := "GrassField", name := "about", desc := "(II)I" } : Jvm.MethodName)) ∈ lw_all := lw_g (lw_at lw_m6 8 rfl) rfl
theorem q1311 : (Jvm.Cond.selects "GrassField" ({ cls := "GrassField", name := "about", desc := "(II)I" } : Jvm.MethodName) ({ cls := "GrassField", name := "about", desc := "(II)I" } : Jvm.MethodName)) ∈ lw_all := lw_g (lw_at lw_m6 9 rfl) rfl
theorem q1312 : (Jvm.Cond.code ({ cls := "GrassField", name := "about", desc := "(II)I" } : Jvm.MethodName) prog_1_method_33_code (4 : Nat) (Option.some Jvm.ClassFile.FieldType.int)) ∈ lw_all := lw_g (lw_at lw_m6 10 rfl) rfl
theorem q1313 : (Jvm.Cond.methodLink "GrassField" (219 : Nat) ({ cls := "GrassField", name := "findAt", desc := "(I)LGrassField$Find;" } : Jvm.MethodName)) ∈ lw_all := lw_g (lw_at lw_m6 11 rfl) rfl
theorem q1314 : (Jvm.Cond.privateMethod ({ cls := "GrassField", name := "findAt", desc := "(I)LGrassField$Find;" } : Jvm.MethodName)) ∈ lw_tbl := lw_at lw_m6 12 rfl
theorem q1315 : (Jvm.Cond.instanceMethod ({ cls := "GrassField", name := "findAt", desc := "(I)LGrassField$Find;" } : Jvm.MethodName)) ∈ lw_all := lw_g (lw_at lw_m6 13 rfl) rfl
theorem q1316 : (Jvm.Cond.code ({ cls := "GrassField", name := "findAt", desc := "(I)LGrassField$Find;" } : Jvm.MethodName) prog_1_method_12_code (2 : Nat) (Option.some (Jvm.ClassFile.FieldType.object "GrassField$Find"))) ∈ lw_all := lw_g (lw_at lw_m6 14 rfl) rfl
theorem q1317 : (Jvm.Cond.methodLink "GrassField" (223 : Nat) ({ cls := "GrassField$Find", name := "kind", desc := "()I" } : Jvm.MethodName)) ∈ lw_all := lw_g (lw_at lw_m6 15 rfl) rfl
theorem q1318 : (Jvm.Cond.methodLink "GrassField" (228 : Nat) ({ cls := "GrassField$Find", name := "cell", desc := "()I" } : Jvm.MethodName)) ∈ lw_all := lw_g (lw_at lw_m6 16 rfl) rfl
theorem q1319 : (Jvm.Cond.methodLink "GrassField" (230 : Nat) ({ cls := "GrassField$Find", name := "depth", desc := "()I" } : Jvm.MethodName)) ∈ lw_all := lw_g (lw_at lw_m6 17 rfl) rfl
theorem q1320 : (Jvm.Cond.methodLink "GrassField" (233 : Nat) ({ cls := "GrassField$Find", name := "tells", desc := "()I" } : Jvm.MethodName)) ∈ lw_all := lw_g (lw_at lw_m6 18 rfl) rfl
theorem q1335 : (Jvm.Cond.methodLink "GrassField" (236 : Nat) ({ cls := "GrassField$House", name := "isSeen", desc := "(I)Z" } : Jvm.MethodName)) ∈ lw_all := lw_g (lw_at lw_m6 33 rfl) rfl
theorem q1336 : (Jvm.Cond.methodLink "GrassField" (239 : Nat) ({ cls := "GrassField$House", name := "mayBe", desc := "(LGrassField$Find;)I" } : Jvm.MethodName)) ∈ lw_all := lw_g (lw_at lw_m6 34 rfl) rfl
theorem q1345 : (Jvm.Cond.instanceMethod ({ cls := "GrassField", name := "when", desc := "(III)V" } : Jvm.MethodName)) ∈ lw_all := lw_g (lw_at lw_m6 43 rfl) rfl
theorem q1346 : (Jvm.Cond.selects "GrassField" ({ cls := "GrassField", name := "when", desc := "(III)V" } : Jvm.MethodName) ({ cls := "GrassField", name := "when", desc := "(III)V" } : Jvm.MethodName)) ∈ lw_all := lw_g (lw_at lw_m6 44 rfl) rfl
theorem q1347 : (Jvm.Cond.code ({ cls := "GrassField", name := "when", desc := "(III)V" } : Jvm.MethodName) prog_1_method_34_code (5 : Nat) (Option.none : Option Jvm.ClassFile.FieldType)) ∈ lw_all := lw_g (lw_at lw_m6 45 rfl) rfl
theorem q1352 : (Jvm.Cond.instanceMethod ({ cls := "GrassField", name := "machine", desc := "(II)V" } : Jvm.MethodName)) ∈ lw_all := lw_g (lw_at lw_m6 50 rfl) rfl
theorem q1353 : (Jvm.Cond.selects "GrassField" ({ cls := "GrassField", name := "machine", desc := "(II)V" } : Jvm.MethodName) ({ cls := "GrassField", name := "machine", desc := "(II)V" } : Jvm.MethodName)) ∈ lw_all := lw_g (lw_at lw_m6 51 rfl) rfl
theorem q1354 : (Jvm.Cond.code ({ cls := "GrassField", name := "machine", desc := "(II)V" } : Jvm.MethodName) prog_1_method_35_code (3 : Nat) (Option.none : Option Jvm.ClassFile.FieldType)) ∈ lw_all := lw_g (lw_at lw_m6 52 rfl) rfl
theorem q1359 : (Jvm.Cond.instanceMethod ({ cls := "GrassField", name := "walk", desc := "(I)I" } : Jvm.MethodName)) ∈ lw_all := lw_g (lw_at lw_m6 57 rfl) rfl
theorem q1360 : (Jvm.Cond.selects "GrassField" ({ cls := "GrassField", name := "walk", desc := "(I)I" } : Jvm.MethodName) ({ cls := "GrassField", name := "walk", desc := "(I)I" } : Jvm.MethodName)) ∈ lw_all := lw_g (lw_at lw_m6 58 rfl) rfl
theorem q1361 : (Jvm.Cond.code ({ cls := "GrassField", name := "walk", desc := "(I)I" } : Jvm.MethodName) prog_1_method_36_code (3 : Nat) (Option.some Jvm.ClassFile.FieldType.int)) ∈ lw_all := lw_g (lw_at lw_m6 59 rfl) rfl
theorem q1362 : (Jvm.Cond.methodLink "GrassField" (253 : Nat) ({ cls := "GrassField", name := "isRow", desc := "(I)V" } : Jvm.MethodName)) ∈ lw_all := lw_g (lw_at lw_m6 60 rfl) rfl
theorem q1363 : (Jvm.Cond.static ({ cls := "GrassField", name := "isRow", desc := "(I)V" } : Jvm.MethodName)) ∈ lw_all := lw_g (lw_at lw_m6 61 rfl) rfl
theorem q1364 : (Jvm.Cond.code ({ cls := "GrassField", name := "isRow", desc := "(I)V" } : Jvm.MethodName) prog_1_method_9_code (1 : Nat) (Option.none : Option Jvm.ClassFile.FieldType)) ∈ lw_all := lw_g (lw_at lw_m6 62 rfl) rfl
theorem q1369 : (Jvm.Cond.instanceMethod ({ cls := "GrassField", name := "needed", desc := "(II)I" } : Jvm.MethodName)) ∈ lw_all := lw_g (lw_at lw_m6 67 rfl) rfl
theorem q1370 : (Jvm.Cond.selects "GrassField" ({ cls := "GrassField", name := "needed", desc := "(II)I" } : Jvm.MethodName) ({ cls := "GrassField", name := "needed", desc := "(II)I" } : Jvm.MethodName)) ∈ lw_all := lw_g (lw_at lw_m6 68 rfl) rfl
theorem q1371 : (Jvm.Cond.code ({ cls := "GrassField", name := "needed", desc := "(II)I" } : Jvm.MethodName) prog_1_method_38_code (3 : Nat) (Option.some Jvm.ClassFile.FieldType.int)) ∈ lw_all := lw_g (lw_at lw_m6 69 rfl) rfl
theorem q1372 : (Jvm.Cond.methodLink "GrassField" (262 : Nat) ({ cls := "GrassField$House", name := "needed", desc := "(II)I" } : Jvm.MethodName)) ∈ lw_all := lw_g (lw_at lw_m6 70 rfl) rfl
theorem q1387 : (Jvm.Cond.instanceMethod ({ cls := "GrassField", name := "same", desc := "(III)I" } : Jvm.MethodName)) ∈ lw_all := lw_g (lw_at lw_m6 85 rfl) rfl
theorem q1388 : (Jvm.Cond.selects "GrassField" ({ cls := "GrassField", name := "same", desc := "(III)I" } : Jvm.MethodName) ({ cls := "GrassField", name := "same", desc := "(III)I" } : Jvm.MethodName)) ∈ lw_all := lw_g (lw_at lw_m6 86 rfl) rfl
theorem q1389 : (Jvm.Cond.code ({ cls := "GrassField", name := "same", desc := "(III)I" } : Jvm.MethodName) prog_1_method_39_code (6 : Nat) (Option.some Jvm.ClassFile.FieldType.int)) ∈ lw_all := lw_g (lw_at lw_m6 87 rfl) rfl
theorem q1390 : (Jvm.Cond.methodLink "GrassField" (265 : Nat) ({ cls := "GrassField$House", name := "isCase", desc := "(I)Z" } : Jvm.MethodName)) ∈ lw_all := lw_g (lw_at lw_m6 88 rfl) rfl
theorem q1391 : (Jvm.Cond.methodLink "GrassField" (268 : Nat) ({ cls := "GrassField", name := "thereIs", desc := "(Z)V" } : Jvm.MethodName)) ∈ lw_all := lw_g (lw_at lw_m6 89 rfl) rfl
theorem q1392 : (Jvm.Cond.static ({ cls := "GrassField", name := "thereIs", desc := "(Z)V" } : Jvm.MethodName)) ∈ lw_all := lw_g (lw_at lw_m6 90 rfl) rfl
theorem q1393 : (Jvm.Cond.code ({ cls := "GrassField", name := "thereIs", desc := "(Z)V" } : Jvm.MethodName) prog_1_method_6_code (1 : Nat) (Option.none : Option Jvm.ClassFile.FieldType)) ∈ lw_all := lw_g (lw_at lw_m6 91 rfl) rfl
theorem q1398 : (Jvm.Cond.instanceMethod ({ cls := "GrassField", name := "later", desc := "(I)I" } : Jvm.MethodName)) ∈ lw_all := lw_g (lw_at lw_m6 96 rfl) rfl
theorem q1399 : (Jvm.Cond.selects "GrassField" ({ cls := "GrassField", name := "later", desc := "(I)I" } : Jvm.MethodName) ({ cls := "GrassField", name := "later", desc := "(I)I" } : Jvm.MethodName)) ∈ lw_all := lw_g (lw_at lw_m6 97 rfl) rfl
theorem q1400 : (Jvm.Cond.code ({ cls := "GrassField", name := "later", desc := "(I)I" } : Jvm.MethodName) prog_1_method_40_code (10 : Nat) (Option.some Jvm.ClassFile.FieldType.int)) ∈ lw_all := lw_g (lw_at lw_m6 98 rfl) rfl
theorem q1405 : (Jvm.Cond.instanceMethod ({ cls := "GrassField", name := "way", desc := "(II)I" } : Jvm.MethodName)) ∈ lw_all := lw_g (lw_at lw_m6 103 rfl) rfl
theorem q1406 : (Jvm.Cond.selects "GrassField" ({ cls := "GrassField", name := "way", desc := "(II)I" } : Jvm.MethodName) ({ cls := "GrassField", name := "way", desc := "(II)I" } : Jvm.MethodName)) ∈ lw_all := lw_g (lw_at lw_m6 104 rfl) rfl
theorem q1407 : (Jvm.Cond.code ({ cls := "GrassField", name := "way", desc := "(II)I" } : Jvm.MethodName) prog_1_method_41_code (3 : Nat) (Option.some Jvm.ClassFile.FieldType.int)) ∈ lw_all := lw_g (lw_at lw_m6 105 rfl) rfl
theorem q1408 : (Jvm.Cond.methodLink "GrassField" (279 : Nat) ({ cls := "GrassField$Track", name := "gather", desc := "(I)V" } : Jvm.MethodName)) ∈ lw_all := lw_g (lw_at lw_m6 106 rfl) rfl
theorem q1420 : (Jvm.Cond.methodLink "GrassField" (282 : Nat) ({ cls := "GrassField$Track", name := "hands", desc := "()I" } : Jvm.MethodName)) ∈ lw_all := lw_g (lw_at lw_m6 118 rfl) rfl
theorem q1449 : (Jvm.Cond.methodLink "GrassField" (285 : Nat) ({ cls := "GrassField$Track", name := "last", desc := "()I" } : Jvm.MethodName)) ∈ lw_all := lw_g (lw_at lw_m6 147 rfl) rfl
theorem q1453 : (Jvm.Cond.methodLink "GrassField" (288 : Nat) ({ cls := "GrassField$Track", name := "first", desc := "()I" } : Jvm.MethodName)) ∈ lw_all := lw_g (lw_at lw_m6 151 rfl) rfl
theorem q1462 : (Jvm.Cond.instanceMethod ({ cls := "GrassField", name := "held", desc := "(IIIZ)I" } : Jvm.MethodName)) ∈ lw_all := lw_g (lw_at lw_m6 160 rfl) rfl
theorem q1463 : (Jvm.Cond.selects "GrassField" ({ cls := "GrassField", name := "held", desc := "(IIIZ)I" } : Jvm.MethodName) ({ cls := "GrassField", name := "held", desc := "(IIIZ)I" } : Jvm.MethodName)) ∈ lw_all := lw_g (lw_at lw_m6 161 rfl) rfl
theorem q1464 : (Jvm.Cond.code ({ cls := "GrassField", name := "held", desc := "(IIIZ)I" } : Jvm.MethodName) prog_1_method_45_code (6 : Nat) (Option.some Jvm.ClassFile.FieldType.int)) ∈ lw_all := lw_g (lw_at lw_m6 162 rfl) rfl
theorem q1465 : (Jvm.Cond.methodLink "GrassField" (303 : Nat) ({ cls := "GrassField", name := "isSide", desc := "(I)V" } : Jvm.MethodName)) ∈ lw_all := lw_g (lw_at lw_m6 163 rfl) rfl
theorem q1466 : (Jvm.Cond.static ({ cls := "GrassField", name := "isSide", desc := "(I)V" } : Jvm.MethodName)) ∈ lw_all := lw_g (lw_at lw_m6 164 rfl) rfl
theorem q1467 : (Jvm.Cond.code ({ cls := "GrassField", name := "isSide", desc := "(I)V" } : Jvm.MethodName) prog_1_method_10_code (1 : Nat) (Option.none : Option Jvm.ClassFile.FieldType)) ∈ lw_all := lw_g (lw_at lw_m6 165 rfl) rfl
theorem q1468 : (Jvm.Cond.methodLink "GrassField" (306 : Nat) ({ cls := "GrassField", name := "gathers", desc := "(II)V" } : Jvm.MethodName)) ∈ lw_all := lw_g (lw_at lw_m6 166 rfl) rfl
theorem q1469 : (Jvm.Cond.privateMethod ({ cls := "GrassField", name := "gathers", desc := "(II)V" } : Jvm.MethodName)) ∈ lw_tbl := lw_at lw_m6 167 rfl
theorem q1470 : (Jvm.Cond.instanceMethod ({ cls := "GrassField", name := "gathers", desc := "(II)V" } : Jvm.MethodName)) ∈ lw_all := lw_g (lw_at lw_m6 168 rfl) rfl
theorem q1471 : (Jvm.Cond.code ({ cls := "GrassField", name := "gathers", desc := "(II)V" } : Jvm.MethodName) prog_1_method_42_code (7 : Nat) (Option.none : Option Jvm.ClassFile.FieldType)) ∈ lw_all := lw_g (lw_at lw_m6 169 rfl) rfl
theorem q1472 : (Jvm.Cond.methodLink "GrassField" (294 : Nat) ({ cls := "GrassField$House", name := "sure", desc := "(I)I" } : Jvm.MethodName)) ∈ lw_all := lw_g (lw_at lw_m6 170 rfl) rfl
theorem q1473 : (Jvm.Cond.methodLink "GrassField" (310 : Nat) ({ cls := "GrassField", name := "longest", desc := "(I)I" } : Jvm.MethodName)) ∈ lw_all := lw_g (lw_at lw_m6 171 rfl) rfl
theorem q1474 : (Jvm.Cond.privateMethod ({ cls := "GrassField", name := "longest", desc := "(I)I" } : Jvm.MethodName)) ∈ lw_tbl := lw_at lw_m6 172 rfl
theorem q1475 : (Jvm.Cond.instanceMethod ({ cls := "GrassField", name := "longest", desc := "(I)I" } : Jvm.MethodName)) ∈ lw_all := lw_g (lw_at lw_m6 173 rfl) rfl
theorem q1476 : (Jvm.Cond.code ({ cls := "GrassField", name := "longest", desc := "(I)I" } : Jvm.MethodName) prog_1_method_44_code (7 : Nat) (Option.some Jvm.ClassFile.FieldType.int)) ∈ lw_all := lw_g (lw_at lw_m6 174 rfl) rfl
theorem q1477 : (Jvm.Cond.methodLink "GrassField" (297 : Nat) ({ cls := "GrassField", name := "step", desc := "(I)I" } : Jvm.MethodName)) ∈ lw_all := lw_g (lw_at lw_m6 175 rfl) rfl
theorem q1478 : (Jvm.Cond.privateMethod ({ cls := "GrassField", name := "step", desc := "(I)I" } : Jvm.MethodName)) ∈ lw_tbl := lw_at lw_m6 176 rfl
theorem q1479 : (Jvm.Cond.instanceMethod ({ cls := "GrassField", name := "step", desc := "(I)I" } : Jvm.MethodName)) ∈ lw_all := lw_g (lw_at lw_m6 177 rfl) rfl
theorem q1480 : (Jvm.Cond.code ({ cls := "GrassField", name := "step", desc := "(I)I" } : Jvm.MethodName) prog_1_method_43_code (2 : Nat) (Option.some Jvm.ClassFile.FieldType.int)) ∈ lw_all := lw_g (lw_at lw_m6 178 rfl) rfl
theorem q1481 : (Jvm.Cond.methodLink "GrassField" (300 : Nat) ({ cls := "java/lang/Math", name := "min", desc := "(II)I" } : Jvm.MethodName)) ∈ lw_all := lw_g (lw_at lw_m6 179 rfl) rfl
theorem q1486 : (Jvm.Cond.instanceMethod ({ cls := "GrassField", name := "heaps", desc := "(IZ)I" } : Jvm.MethodName)) ∈ lw_all := lw_g (lw_at lw_m6 184 rfl) rfl
theorem q1487 : (Jvm.Cond.selects "GrassField" ({ cls := "GrassField", name := "heaps", desc := "(IZ)I" } : Jvm.MethodName) ({ cls := "GrassField", name := "heaps", desc := "(IZ)I" } : Jvm.MethodName)) ∈ lw_all := lw_g (lw_at lw_m6 185 rfl) rfl
theorem q1488 : (Jvm.Cond.code ({ cls := "GrassField", name := "heaps", desc := "(IZ)I" } : Jvm.MethodName) prog_1_method_47_code (4 : Nat) (Option.some Jvm.ClassFile.FieldType.int)) ∈ lw_all := lw_g (lw_at lw_m6 186 rfl) rfl
theorem q1489 : (Jvm.Cond.methodLink "GrassField" (316 : Nat) ({ cls := "GrassField", name := "heapsOf", desc := "(I)I" } : Jvm.MethodName)) ∈ lw_all := lw_g (lw_at lw_m6 187 rfl) rfl
theorem q1490 : (Jvm.Cond.privateMethod ({ cls := "GrassField", name := "heapsOf", desc := "(I)I" } : Jvm.MethodName)) ∈ lw_tbl := lw_at lw_m6 188 rfl
theorem q1491 : (Jvm.Cond.instanceMethod ({ cls := "GrassField", name := "heapsOf", desc := "(I)I" } : Jvm.MethodName)) ∈ lw_all := lw_g (lw_at lw_m6 189 rfl) rfl
theorem q1492 : (Jvm.Cond.code ({ cls := "GrassField", name := "heapsOf", desc := "(I)I" } : Jvm.MethodName) prog_1_method_46_code (4 : Nat) (Option.some Jvm.ClassFile.FieldType.int)) ∈ lw_all := lw_g (lw_at lw_m6 190 rfl) rfl
theorem q1493 : (Jvm.Cond.methodLink "GrassField" (313 : Nat) ({ cls := "GrassField$House", name := "heap", desc := "(I)I" } : Jvm.MethodName)) ∈ lw_all := lw_g (lw_at lw_m6 191 rfl) rfl
theorem q1501 : (Jvm.Cond.instanceMethod ({ cls := "GrassField", name := "length", desc := "(IIIZ)I" } : Jvm.MethodName)) ∈ lw_all := lw_g (lw_at lw_m6 199 rfl) rfl
theorem q1502 : (Jvm.Cond.selects "GrassField" ({ cls := "GrassField", name := "length", desc := "(IIIZ)I" } : Jvm.MethodName) ({ cls := "GrassField", name := "length", desc := "(IIIZ)I" } : Jvm.MethodName)) ∈ lw_all := lw_g (lw_at lw_m6 200 rfl) rfl
theorem q1503 : (Jvm.Cond.code ({ cls := "GrassField", name := "length", desc := "(IIIZ)I" } : Jvm.MethodName) prog_1_method_48_code (10 : Nat) (Option.some Jvm.ClassFile.FieldType.int)) ∈ lw_all := lw_g (lw_at lw_m6 201 rfl) rfl
theorem q1508 : (Jvm.Cond.instanceMethod ({ cls := "GrassField", name := "still", desc := "(II)I" } : Jvm.MethodName)) ∈ lw_all := lw_g (lw_at lw_m6 206 rfl) rfl
theorem q1509 : (Jvm.Cond.selects "GrassField" ({ cls := "GrassField", name := "still", desc := "(II)I" } : Jvm.MethodName) ({ cls := "GrassField", name := "still", desc := "(II)I" } : Jvm.MethodName)) ∈ lw_all := lw_g (lw_at lw_m6 207 rfl) rfl
theorem q1510 : (Jvm.Cond.code ({ cls := "GrassField", name := "still", desc := "(II)I" } : Jvm.MethodName) prog_1_method_49_code (8 : Nat) (Option.some Jvm.ClassFile.FieldType.int)) ∈ lw_all := lw_g (lw_at lw_m6 208 rfl) rfl
theorem q1511 : (Jvm.Cond.methodLink "GrassField" (319 : Nat) ({ cls := "GrassField$House", name := "isNear", desc := "(I)Z" } : Jvm.MethodName)) ∈ lw_all := lw_g (lw_at lw_m6 209 rfl) rfl
theorem q1516 : (Jvm.Cond.instanceMethod ({ cls := "GrassField", name := "teller", desc := "(IIII)I" } : Jvm.MethodName)) ∈ lw_all := lw_g (lw_at lw_m6 214 rfl) rfl
theorem q1517 : (Jvm.Cond.selects "GrassField" ({ cls := "GrassField", name := "teller", desc := "(IIII)I" } : Jvm.MethodName) ({ cls := "GrassField", name := "teller", desc := "(IIII)I" } : Jvm.MethodName)) ∈ lw_all := lw_g (lw_at lw_m6 215 rfl) rfl
theorem q1518 : (Jvm.Cond.code ({ cls := "GrassField", name := "teller", desc := "(IIII)I" } : Jvm.MethodName) prog_1_method_50_code (5 : Nat) (Option.some Jvm.ClassFile.FieldType.int)) ∈ lw_all := lw_g (lw_at lw_m6 216 rfl) rfl
theorem q1519 : (Jvm.Cond.classLink "GrassField" (326 : Nat) "GrassField$Teller") ∈ lw_all := lw_g (lw_at lw_m6 217 rfl) rfl
theorem q1521 : (Jvm.Cond.methodLink "GrassField" (328 : Nat) ({ cls := "GrassField$Teller", name := "<init>", desc := "(IIII)V" } : Jvm.MethodName)) ∈ lw_all := lw_g (lw_at lw_m6 219 rfl) rfl
theorem q1546 : (Jvm.Cond.instanceMethod ({ cls := "GrassField", name := "tells", desc := "(III)I" } : Jvm.MethodName)) ∈ lw_all := lw_g (lw_at lw_m7 4 rfl) rfl
theorem q1547 : (Jvm.Cond.selects "GrassField" ({ cls := "GrassField", name := "tells", desc := "(III)I" } : Jvm.MethodName) ({ cls := "GrassField", name := "tells", desc := "(III)I" } : Jvm.MethodName)) ∈ lw_all := lw_g (lw_at lw_m7 5 rfl) rfl
theorem q1548 : (Jvm.Cond.code ({ cls := "GrassField", name := "tells", desc := "(III)I" } : Jvm.MethodName) prog_1_method_51_code (4 : Nat) (Option.some Jvm.ClassFile.FieldType.int)) ∈ lw_all := lw_g (lw_at lw_m7 6 rfl) rfl
theorem q1549 : (Jvm.Cond.methodLink "GrassField" (329 : Nat) ({ cls := "GrassField", name := "isTeller", desc := "(I)V" } : Jvm.MethodName)) ∈ lw_all := lw_g (lw_at lw_m7 7 rfl) rfl
theorem q1550 : (Jvm.Cond.privateMethod ({ cls := "GrassField", name := "isTeller", desc := "(I)V" } : Jvm.MethodName)) ∈ lw_tbl := lw_at lw_m7 8 rfl
theorem q1551 : (Jvm.Cond.instanceMethod ({ cls := "GrassField", name := "isTeller", desc := "(I)V" } : Jvm.MethodName)) ∈ lw_all := lw_g (lw_at lw_m7 9 rfl) rfl
theorem q1552 : (Jvm.Cond.code ({ cls := "GrassField", name := "isTeller", desc := "(I)V" } : Jvm.MethodName) prog_1_method_13_code (2 : Nat) (Option.none : Option Jvm.ClassFile.FieldType)) ∈ lw_all := lw_g (lw_at lw_m7 10 rfl) rfl
theorem q1553 : (Jvm.Cond.classLink "GrassField" (339 : Nat) "GrassField$Telling") ∈ lw_all := lw_g (lw_at lw_m7 11 rfl) rfl
theorem q1555 : (Jvm.Cond.methodLink "GrassField" (341 : Nat) ({ cls := "GrassField$Telling", name := "<init>", desc := "(III)V" } : Jvm.MethodName)) ∈ lw_all := lw_g (lw_at lw_m7 13 rfl) rfl
theorem q1561 : (Jvm.Cond.fieldLinkNest "GrassField" (352 : Nat) "GrassField$Telling" "teller" "I" "GrassField") ∈ lw_tbl := lw_at lw_m7 19 rfl
theorem q1577 : (Jvm.Cond.instanceMethod ({ cls := "GrassField", name := "could", desc := "(IZ)Z" } : Jvm.MethodName)) ∈ lw_all := lw_g (lw_at lw_m7 35 rfl) rfl
theorem q1578 : (Jvm.Cond.selects "GrassField" ({ cls := "GrassField", name := "could", desc := "(IZ)Z" } : Jvm.MethodName) ({ cls := "GrassField", name := "could", desc := "(IZ)Z" } : Jvm.MethodName)) ∈ lw_all := lw_g (lw_at lw_m7 36 rfl) rfl
theorem q1579 : (Jvm.Cond.code ({ cls := "GrassField", name := "could", desc := "(IZ)Z" } : Jvm.MethodName) prog_1_method_52_code (4 : Nat) (Option.some Jvm.ClassFile.FieldType.boolean)) ∈ lw_all := lw_g (lw_at lw_m7 37 rfl) rfl
theorem q1580 : (Jvm.Cond.methodLink "GrassField" (346 : Nat) ({ cls := "GrassField$House", name := "could", desc := "(LGrassField$Telling;)Z" } : Jvm.MethodName)) ∈ lw_all := lw_g (lw_at lw_m7 38 rfl) rfl
theorem q1585 : (Jvm.Cond.instanceMethod ({ cls := "GrassField", name := "talked", desc := "(II)Z" } : Jvm.MethodName)) ∈ lw_all := lw_g (lw_at lw_m7 43 rfl) rfl
theorem q1586 : (Jvm.Cond.selects "GrassField" ({ cls := "GrassField", name := "talked", desc := "(II)Z" } : Jvm.MethodName) ({ cls := "GrassField", name := "talked", desc := "(II)Z" } : Jvm.MethodName)) ∈ lw_all := lw_g (lw_at lw_m7 44 rfl) rfl
theorem q1587 : (Jvm.Cond.code ({ cls := "GrassField", name := "talked", desc := "(II)Z" } : Jvm.MethodName) prog_1_method_53_code (3 : Nat) (Option.some Jvm.ClassFile.FieldType.boolean)) ∈ lw_all := lw_g (lw_at lw_m7 45 rfl) rfl
theorem q1592 : (Jvm.Cond.instanceMethod ({ cls := "GrassField", name := "who", desc := "(I)I" } : Jvm.MethodName)) ∈ lw_all := lw_g (lw_at lw_m7 50 rfl) rfl
theorem q1593 : (Jvm.Cond.selects "GrassField" ({ cls := "GrassField", name := "who", desc := "(I)I" } : Jvm.MethodName) ({ cls := "GrassField", name := "who", desc := "(I)I" } : Jvm.MethodName)) ∈ lw_all := lw_g (lw_at lw_m7 51 rfl) rfl
theorem q1594 : (Jvm.Cond.code ({ cls := "GrassField", name := "who", desc := "(I)I" } : Jvm.MethodName) prog_1_method_56_code (5 : Nat) (Option.some Jvm.ClassFile.FieldType.int)) ∈ lw_all := lw_g (lw_at lw_m7 52 rfl) rfl
theorem q1595 : (Jvm.Cond.methodLink "GrassField" (361 : Nat) ({ cls := "GrassField", name := "rows", desc := "(IIII)Z" } : Jvm.MethodName)) ∈ lw_all := lw_g (lw_at lw_m7 53 rfl) rfl
theorem q1596 : (Jvm.Cond.privateMethod ({ cls := "GrassField", name := "rows", desc := "(IIII)Z" } : Jvm.MethodName)) ∈ lw_tbl := lw_at lw_m7 54 rfl
theorem q1597 : (Jvm.Cond.instanceMethod ({ cls := "GrassField", name := "rows", desc := "(IIII)Z" } : Jvm.MethodName)) ∈ lw_all := lw_g (lw_at lw_m7 55 rfl) rfl
theorem q1598 : (Jvm.Cond.code ({ cls := "GrassField", name := "rows", desc := "(IIII)Z" } : Jvm.MethodName) prog_1_method_55_code (8 : Nat) (Option.some Jvm.ClassFile.FieldType.boolean)) ∈ lw_all := lw_g (lw_at lw_m7 56 rfl) rfl
theorem q1603 : (Jvm.Cond.instanceMethod ({ cls := "GrassField", name := "joined", desc := "(IIIIZ)I" } : Jvm.MethodName)) ∈ lw_all := lw_g (lw_at lw_m7 61 rfl) rfl
theorem q1604 : (Jvm.Cond.selects "GrassField" ({ cls := "GrassField", name := "joined", desc := "(IIIIZ)I" } : Jvm.MethodName) ({ cls := "GrassField", name := "joined", desc := "(IIIIZ)I" } : Jvm.MethodName)) ∈ lw_all := lw_g (lw_at lw_m7 62 rfl) rfl
theorem q1605 : (Jvm.Cond.code ({ cls := "GrassField", name := "joined", desc := "(IIIIZ)I" } : Jvm.MethodName) prog_1_method_58_code (6 : Nat) (Option.some Jvm.ClassFile.FieldType.int)) ∈ lw_all := lw_g (lw_at lw_m7 63 rfl) rfl
theorem q1606 : (Jvm.Cond.methodLink "GrassField" (365 : Nat) ({ cls := "GrassField", name := "gunsIn", desc := "(IIZ)I" } : Jvm.MethodName)) ∈ lw_all := lw_g (lw_at lw_m7 64 rfl) rfl
theorem q1607 : (Jvm.Cond.privateMethod ({ cls := "GrassField", name := "gunsIn", desc := "(IIZ)I" } : Jvm.MethodName)) ∈ lw_tbl := lw_at lw_m7 65 rfl
theorem q1608 : (Jvm.Cond.instanceMethod ({ cls := "GrassField", name := "gunsIn", desc := "(IIZ)I" } : Jvm.MethodName)) ∈ lw_all := lw_g (lw_at lw_m7 66 rfl) rfl
theorem q1609 : (Jvm.Cond.code ({ cls := "GrassField", name := "gunsIn", desc := "(IIZ)I" } : Jvm.MethodName) prog_1_method_57_code (7 : Nat) (Option.some Jvm.ClassFile.FieldType.int)) ∈ lw_all := lw_g (lw_at lw_m7 67 rfl) rfl
theorem q1614 : (Jvm.Cond.instanceMethod ({ cls := "GrassField", name := "story", desc := "(I)I" } : Jvm.MethodName)) ∈ lw_all := lw_g (lw_at lw_m7 72 rfl) rfl
theorem q1615 : (Jvm.Cond.selects "GrassField" ({ cls := "GrassField", name := "story", desc := "(I)I" } : Jvm.MethodName) ({ cls := "GrassField", name := "story", desc := "(I)I" } : Jvm.MethodName)) ∈ lw_all := lw_g (lw_at lw_m7 73 rfl) rfl
theorem q1616 : (Jvm.Cond.codeWith ({ cls := "GrassField", name := "story", desc := "(I)I" } : Jvm.MethodName) prog_1_method_59_code (5 : Nat) (Option.some Jvm.ClassFile.FieldType.int) [((10 : Nat), (19 : Nat), (22 : Nat), (141 : Nat))]) ∈ lw_all := lw_g (lw_at lw_m7 74 rfl) rfl
theorem q1617 : (Jvm.Cond.methodLink "GrassField" (369 : Nat) ({ cls := "GrassField$Reader", name := "story", desc := "(I)LGrassField$Cond;" } : Jvm.MethodName)) ∈ lw_all := lw_g (lw_at lw_m7 75 rfl) rfl
theorem q1621 : (Jvm.Cond.classLink "GrassField" (380 : Nat) "GrassField$Story") ∈ lw_all := lw_g (lw_at lw_m7 79 rfl) rfl
theorem q1623 : (Jvm.Cond.methodLink "GrassField" (382 : Nat) ({ cls := "GrassField$Story", name := "<init>", desc := "(ILGrassField$Cond;)V" } : Jvm.MethodName)) ∈ lw_all := lw_g (lw_at lw_m7 81 rfl) rfl
theorem q1628 : (Jvm.Cond.fieldLinkNest "GrassField" (404 : Nat) "GrassField$Story" "weight" "I" "GrassField") ∈ lw_tbl := lw_at lw_m7 86 rfl
theorem q1630 : (Jvm.Cond.fieldLinkNest "GrassField" (394 : Nat) "GrassField$Story" "cond" "LGrassField$Cond;" "GrassField") ∈ lw_tbl := lw_at lw_m7 88 rfl
theorem q1640 : (Jvm.Cond.instanceMethod ({ cls := "GrassField", name := "holds", desc := "(I)Z" } : Jvm.MethodName)) ∈ lw_all := lw_g (lw_at lw_m7 98 rfl) rfl
theorem q1641 : (Jvm.Cond.selects "GrassField" ({ cls := "GrassField", name := "holds", desc := "(I)Z" } : Jvm.MethodName) ({ cls := "GrassField", name := "holds", desc := "(I)Z" } : Jvm.MethodName)) ∈ lw_all := lw_g (lw_at lw_m7 99 rfl) rfl
theorem q1642 : (Jvm.Cond.code ({ cls := "GrassField", name := "holds", desc := "(I)Z" } : Jvm.MethodName) prog_1_method_62_code (2 : Nat) (Option.some Jvm.ClassFile.FieldType.boolean)) ∈ lw_all := lw_g (lw_at lw_m7 100 rfl) rfl
theorem q1643 : (Jvm.Cond.methodLink "GrassField" (388 : Nat) ({ cls := "GrassField", name := "isStory", desc := "(I)V" } : Jvm.MethodName)) ∈ lw_all := lw_g (lw_at lw_m7 101 rfl) rfl
theorem q1644 : (Jvm.Cond.privateMethod ({ cls := "GrassField", name := "isStory", desc := "(I)V" } : Jvm.MethodName)) ∈ lw_tbl := lw_at lw_m7 102 rfl
theorem q1645 : (Jvm.Cond.instanceMethod ({ cls := "GrassField", name := "isStory", desc := "(I)V" } : Jvm.MethodName)) ∈ lw_all := lw_g (lw_at lw_m7 103 rfl) rfl
theorem q1646 : (Jvm.Cond.code ({ cls := "GrassField", name := "isStory", desc := "(I)V" } : Jvm.MethodName) prog_1_method_61_code (2 : Nat) (Option.none : Option Jvm.ClassFile.FieldType)) ∈ lw_all := lw_g (lw_at lw_m7 104 rfl) rfl
theorem q1647 : (Jvm.Cond.methodLink "GrassField" (391 : Nat) ({ cls := "GrassField", name := "stands", desc := "()V" } : Jvm.MethodName)) ∈ lw_all := lw_g (lw_at lw_m7 105 rfl) rfl
theorem q1648 : (Jvm.Cond.privateMethod ({ cls := "GrassField", name := "stands", desc := "()V" } : Jvm.MethodName)) ∈ lw_tbl := lw_at lw_m7 106 rfl
theorem q1649 : (Jvm.Cond.instanceMethod ({ cls := "GrassField", name := "stands", desc := "()V" } : Jvm.MethodName)) ∈ lw_all := lw_g (lw_at lw_m7 107 rfl) rfl
theorem q1650 : (Jvm.Cond.code ({ cls := "GrassField", name := "stands", desc := "()V" } : Jvm.MethodName) prog_1_method_60_code (3 : Nat) (Option.none : Option Jvm.ClassFile.FieldType)) ∈ lw_all := lw_g (lw_at lw_m7 108 rfl) rfl
theorem q1651 : (Jvm.Cond.interfaceEntry "GrassField" (398 : Nat)) ∈ lw_tbl := lw_at lw_m7 109 rfl
theorem q1652 : (Jvm.Cond.methodLink "GrassField" (398 : Nat) ({ cls := "GrassField$Cond", name := "holds", desc := "([I)Z" } : Jvm.MethodName)) ∈ lw_all := lw_g (lw_at lw_m7 110 rfl) rfl
theorem q1657 : (Jvm.Cond.instanceMethod ({ cls := "GrassField", name := "odds", desc := "(I)I" } : Jvm.MethodName)) ∈ lw_all := lw_g (lw_at lw_m7 115 rfl) rfl
theorem q1658 : (Jvm.Cond.selects "GrassField" ({ cls := "GrassField", name := "odds", desc := "(I)I" } : Jvm.MethodName) ({ cls := "GrassField", name := "odds", desc := "(I)I" } : Jvm.MethodName)) ∈ lw_all := lw_g (lw_at lw_m7 116 rfl) rfl
theorem q1659 : (Jvm.Cond.code ({ cls := "GrassField", name := "odds", desc := "(I)I" } : Jvm.MethodName) prog_1_method_63_code (4 : Nat) (Option.some Jvm.ClassFile.FieldType.int)) ∈ lw_all := lw_g (lw_at lw_m7 117 rfl) rfl
theorem q2263 : (Jvm.Cond.castable "GrassField" "java/lang/Object") ∈ lw_tbl := lw_at lw_m10 1 rfl
theorem in_X1 : ∀ w ∈ wsX10, w ∈ lw_all := lw_in wsX10 [441, 443, 445, 447, 449, 451, 453, 455, 457, 459, 461] (by decide +kernel) (by decide +kernel)
theorem q104 : (Jvm.Cond.initialized "GrassField$Reader") ∈ lw_all := lw_g (lw_at lw_m1 2 rfl) rfl
theorem q155 : (Jvm.Cond.instantiable "GrassField$Reader" (10 : Nat)) ∈ lw_all := lw_g (lw_at lw_m1 53 rfl) rfl
theorem q157 : (Jvm.Cond.instanceMethod ({ cls := "GrassField$Reader", name := "<init>", desc := "()V" } : Jvm.MethodName)) ∈ lw_all := lw_g (lw_at lw_m1 55 rfl) rfl
theorem q158 : (Jvm.Cond.code ({ cls := "GrassField$Reader", name := "<init>", desc := "()V" } : Jvm.MethodName) prog_20_method_1_code (1 : Nat) (Option.none : Option Jvm.ClassFile.FieldType)) ∈ lw_all := lw_g (lw_at lw_m1 56 rfl) rfl
theorem q159 : (Jvm.Cond.methodLink "GrassField$Reader" (3 : Nat) ({ cls := "java/lang/Object", name := "<init>", desc := "()V" } : Jvm.MethodName)) ∈ lw_all := lw_g (lw_at lw_m1 57 rfl) rfl
theorem q160 : (Jvm.Cond.classLink "GrassField$Reader" (15 : Nat) "java/lang/String") ∈ lw_all := lw_g (lw_at lw_m1 58 rfl) rfl
theorem q162 : (Jvm.Cond.stringRef "GrassField$Reader" (17 : Nat) "foes") ∈ lw_tbl := lw_at lw_m1 60 rfl
theorem q163 : (Jvm.Cond.stringRef "GrassField$Reader" (19 : Nat) "friends") ∈ lw_tbl := lw_at lw_m1 61 rfl
theorem q164 : (Jvm.Cond.stringRef "GrassField$Reader" (21 : Nat) "fear") ∈ lw_tbl := lw_at lw_m1 62 rfl
theorem q165 : (Jvm.Cond.stringRef "GrassField$Reader" (23 : Nat) "minute") ∈ lw_tbl := lw_at lw_m1 63 rfl
theorem q166 : (Jvm.Cond.stringRef "GrassField$Reader" (25 : Nat) "height") ∈ lw_tbl := lw_at lw_m1 64 rfl
theorem q167 : (Jvm.Cond.stringRef "GrassField$Reader" (27 : Nat) "rounds") ∈ lw_tbl := lw_at lw_m1 65 rfl
theorem q168 : (Jvm.Cond.stringRef "GrassField$Reader" (29 : Nat) "far") ∈ lw_tbl := lw_at lw_m1 66 rfl
theorem q169 : (Jvm.Cond.stringRef "GrassField$Reader" (31 : Nat) "cases") ∈ lw_tbl := lw_at lw_m1 67 rfl
theorem q170 : (Jvm.Cond.stringRef "GrassField$Reader" (33 : Nat) "balls") ∈ lw_tbl := lw_at lw_m1 68 rfl
theorem q171 : (Jvm.Cond.stringRef "GrassField$Reader" (35 : Nat) "bones") ∈ lw_tbl := lw_at lw_m1 69 rfl
theorem q172 : (Jvm.Cond.stringRef "GrassField$Reader" (37 : Nat) "later") ∈ lw_tbl := lw_at lw_m1 70 rfl
theorem q173 : (Jvm.Cond.stringRef "GrassField$Reader" (39 : Nat) "guns") ∈ lw_tbl := lw_at lw_m1 71 rfl
theorem q174 : (Jvm.Cond.stringRef "GrassField$Reader" (41 : Nat) "fits") ∈ lw_tbl := lw_at lw_m1 72 rfl
theorem q175 : (Jvm.Cond.stringRef "GrassField$Reader" (43 : Nat) "heaps") ∈ lw_tbl := lw_at lw_m1 73 rfl
theorem q176 : (Jvm.Cond.stringRef "GrassField$Reader" (49 : Nat) "shoot") ∈ lw_tbl := lw_at lw_m1 74 rfl
theorem q177 : (Jvm.Cond.stringRef "GrassField$Reader" (51 : Nat) "flee") ∈ lw_tbl := lw_at lw_m1 75 rfl
theorem q178 : (Jvm.Cond.stringRef "GrassField$Reader" (53 : Nat) "join") ∈ lw_tbl := lw_at lw_m1 76 rfl
theorem q179 : (Jvm.Cond.stringRef "GrassField$Reader" (55 : Nat) "hold") ∈ lw_tbl := lw_at lw_m1 77 rfl
theorem q180 : (Jvm.Cond.stringRef "GrassField$Reader" (57 : Nat) "drop") ∈ lw_tbl := lw_at lw_m1 78 rfl
theorem q181 : (Jvm.Cond.classLink "GrassField$Reader" (62 : Nat) "GrassField$Line") ∈ lw_all := lw_g (lw_at lw_m1 79 rfl) rfl
theorem q183 : (Jvm.Cond.classLink "GrassField$Reader" (68 : Nat) "GrassField$Wrong") ∈ lw_all := lw_g (lw_at lw_m1 81 rfl) rfl
theorem q227 : (Jvm.Cond.methodLink "GrassField$Reader" (70 : Nat) ({ cls := "GrassField$Wrong", name := "<init>", desc := "()V" } : Jvm.MethodName)) ∈ lw_all := lw_g (lw_at lw_m1 125 rfl) rfl
theorem q239 : (Jvm.Cond.fieldLinkNest "GrassField$Reader" (75 : Nat) "GrassField$Wrong" "place" "I" "GrassField") ∈ lw_tbl := lw_at lw_m1 137 rfl
theorem q257 : (Jvm.Cond.fieldLink "GrassField$Reader" (9 : Nat) "GrassField$Reader" "tape" "[B") ∈ lw_all := lw_g (lw_at lw_m1 155 rfl) rfl
theorem q259 : (Jvm.Cond.fieldLink "GrassField$Reader" (45 : Nat) "GrassField$Reader" "words" "[Ljava/lang/String;") ∈ lw_all := lw_g (lw_at lw_m1 157 rfl) rfl
theorem q260 : (Jvm.Cond.fieldLink "GrassField$Reader" (59 : Nat) "GrassField$Reader" "acts" "[Ljava/lang/String;") ∈ lw_all := lw_g (lw_at lw_m1 158 rfl) rfl
theorem q261 : (Jvm.Cond.fieldLink "GrassField$Reader" (64 : Nat) "GrassField$Reader" "row" "[LGrassField$Line;") ∈ lw_all := lw_g (lw_at lw_m1 159 rfl) rfl
theorem q262 : (Jvm.Cond.fieldLink "GrassField$Reader" (71 : Nat) "GrassField$Reader" "wrong" "LGrassField$Wrong;") ∈ lw_all := lw_g (lw_at lw_m1 160 rfl) rfl
theorem q264 : (Jvm.Cond.fieldLink "GrassField$Reader" (82 : Nat) "GrassField$Reader" "end" "I") ∈ lw_all := lw_g (lw_at lw_m1 162 rfl) rfl
theorem q265 : (Jvm.Cond.fieldLink "GrassField$Reader" (79 : Nat) "GrassField$Reader" "at" "I") ∈ lw_all := lw_g (lw_at lw_m1 163 rfl) rfl
theorem q266 : (Jvm.Cond.fieldLink "GrassField$Reader" (100 : Nat) "GrassField$Reader" "deep" "I") ∈ lw_all := lw_g (lw_at lw_m1 164 rfl) rfl
theorem q267 : (Jvm.Cond.fieldLink "GrassField$Reader" (103 : Nat) "GrassField$Reader" "law" "Z") ∈ lw_all := lw_g (lw_at lw_m1 165 rfl) rfl
theorem q268 : (Jvm.Cond.laysFinal "GrassField$Reader" "GrassField$Reader" "tape" "[B") ∈ lw_all := lw_g (lw_at lw_m1 166 rfl) rfl
theorem q269 : (Jvm.Cond.soleField "GrassField$Reader" "tape") ∈ lw_all := lw_g (lw_at lw_m1 167 rfl) rfl
theorem q270 : (Jvm.Cond.laysFinal "GrassField$Reader" "GrassField$Reader" "words" "[Ljava/lang/String;") ∈ lw_all := lw_g (lw_at lw_m1 168 rfl) rfl
theorem q271 : (Jvm.Cond.soleField "GrassField$Reader" "words") ∈ lw_all := lw_g (lw_at lw_m1 169 rfl) rfl
theorem q272 : (Jvm.Cond.laysFinal "GrassField$Reader" "GrassField$Reader" "acts" "[Ljava/lang/String;") ∈ lw_all := lw_g (lw_at lw_m1 170 rfl) rfl
theorem q273 : (Jvm.Cond.soleField "GrassField$Reader" "acts") ∈ lw_all := lw_g (lw_at lw_m1 171 rfl) rfl
theorem q274 : (Jvm.Cond.laysFinal "GrassField$Reader" "GrassField$Reader" "row" "[LGrassField$Line;") ∈ lw_all := lw_g (lw_at lw_m1 172 rfl) rfl
theorem q275 : (Jvm.Cond.soleField "GrassField$Reader" "row") ∈ lw_all := lw_g (lw_at lw_m1 173 rfl) rfl
theorem q276 : (Jvm.Cond.laysFinal "GrassField$Reader" "GrassField$Reader" "wrong" "LGrassField$Wrong;") ∈ lw_all := lw_g (lw_at lw_m1 174 rfl) rfl
theorem q277 : (Jvm.Cond.soleField "GrassField$Reader" "wrong") ∈ lw_all := lw_g (lw_at lw_m1 175 rfl) rfl
theorem q278 : (Jvm.Cond.lays "GrassField$Reader" "GrassField$Reader" "size" "I") ∈ lw_all := lw_g (lw_at lw_m1 176 rfl) rfl
theorem q279 : (Jvm.Cond.soleField "GrassField$Reader" "size") ∈ lw_all := lw_g (lw_at lw_m1 177 rfl) rfl
theorem q280 : (Jvm.Cond.lays "GrassField$Reader" "GrassField$Reader" "end" "I") ∈ lw_all := lw_g (lw_at lw_m1 178 rfl) rfl
theorem q281 : (Jvm.Cond.soleField "GrassField$Reader" "end") ∈ lw_all := lw_g (lw_at lw_m1 179 rfl) rfl
theorem q282 : (Jvm.Cond.lays "GrassField$Reader" "GrassField$Reader" "at" "I") ∈ lw_all := lw_g (lw_at lw_m1 180 rfl) rfl
theorem q283 : (Jvm.Cond.soleField "GrassField$Reader" "at") ∈ lw_all := lw_g (lw_at lw_m1 181 rfl) rfl
theorem q284 : (Jvm.Cond.lays "GrassField$Reader" "GrassField$Reader" "deep" "I") ∈ lw_all := lw_g (lw_at lw_m1 182 rfl) rfl
theorem q285 : (Jvm.Cond.soleField "GrassField$Reader" "deep") ∈ lw_all := lw_g (lw_at lw_m1 183 rfl) rfl
theorem q286 : (Jvm.Cond.lays "GrassField$Reader" "GrassField$Reader" "law" "Z") ∈ lw_all := lw_g (lw_at lw_m1 184 rfl) rfl
theorem q287 : (Jvm.Cond.soleField "GrassField$Reader" "law") ∈ lw_all := lw_g (lw_at lw_m1 185 rfl) rfl
theorem q288 : (Jvm.Cond.superclass "GrassField$Reader" "java/lang/Object") ∈ lw_all := lw_g (lw_at lw_m1 186 rfl) rfl
theorem q829 : (Jvm.Cond.instanceMethod ({ cls := "GrassField$Reader", name := "law", desc := "(I)LGrassField$Law;" } : Jvm.MethodName)) ∈ lw_all := lw_g (lw_at lw_m4 7 rfl) rfl
theorem q830 : (Jvm.Cond.selects "GrassField$Reader" ({ cls := "GrassField$Reader", name := "law", desc := "(I)LGrassField$Law;" } : Jvm.MethodName) ({ cls := "GrassField$Reader", name := "law", desc := "(I)LGrassField$Law;" } : Jvm.MethodName)) ∈ lw_all := lw_g (lw_at lw_m4 8 rfl) rfl
theorem q831 : (Jvm.Cond.code ({ cls := "GrassField$Reader", name := "law", desc := "(I)LGrassField$Law;" } : Jvm.MethodName) prog_20_method_7_code (5 : Nat) (Option.some (Jvm.ClassFile.FieldType.object "GrassField$Law"))) ∈ lw_all := lw_g (lw_at lw_m4 9 rfl) rfl
theorem q832 : (Jvm.Cond.methodLink "GrassField$Reader" (107 : Nat) ({ cls := "GrassField$Reader", name := "begins", desc := "(IZ)V" } : Jvm.MethodName)) ∈ lw_all := lw_g (lw_at lw_m4 10 rfl) rfl
theorem q833 : (Jvm.Cond.privateMethod ({ cls := "GrassField$Reader", name := "begins", desc := "(IZ)V" } : Jvm.MethodName)) ∈ lw_tbl := lw_at lw_m4 11 rfl
theorem q834 : (Jvm.Cond.instanceMethod ({ cls := "GrassField$Reader", name := "begins", desc := "(IZ)V" } : Jvm.MethodName)) ∈ lw_all := lw_g (lw_at lw_m4 12 rfl) rfl
theorem q835 : (Jvm.Cond.code ({ cls := "GrassField$Reader", name := "begins", desc := "(IZ)V" } : Jvm.MethodName) prog_20_method_6_code (3 : Nat) (Option.none : Option Jvm.ClassFile.FieldType)) ∈ lw_all := lw_g (lw_at lw_m4 13 rfl) rfl
theorem q836 : (Jvm.Cond.methodLink "GrassField$Reader" (85 : Nat) ({ cls := "GrassField$Reader", name := "sign", desc := "()I" } : Jvm.MethodName)) ∈ lw_all := lw_g (lw_at lw_m4 14 rfl) rfl
theorem q837 : (Jvm.Cond.privateMethod ({ cls := "GrassField$Reader", name := "sign", desc := "()I" } : Jvm.MethodName)) ∈ lw_tbl := lw_at lw_m4 15 rfl
theorem q838 : (Jvm.Cond.instanceMethod ({ cls := "GrassField$Reader", name := "sign", desc := "()I" } : Jvm.MethodName)) ∈ lw_all := lw_g (lw_at lw_m4 16 rfl) rfl
theorem q839 : (Jvm.Cond.code ({ cls := "GrassField$Reader", name := "sign", desc := "()I" } : Jvm.MethodName) prog_20_method_3_code (1 : Nat) (Option.some Jvm.ClassFile.FieldType.int)) ∈ lw_all := lw_g (lw_at lw_m4 17 rfl) rfl
theorem q840 : (Jvm.Cond.methodLink "GrassField$Reader" (96 : Nat) ({ cls := "GrassField$Reader", name := "fail", desc := "(I)V" } : Jvm.MethodName)) ∈ lw_all := lw_g (lw_at lw_m4 18 rfl) rfl
theorem q841 : (Jvm.Cond.privateMethod ({ cls := "GrassField$Reader", name := "fail", desc := "(I)V" } : Jvm.MethodName)) ∈ lw_tbl := lw_at lw_m4 19 rfl
theorem q842 : (Jvm.Cond.instanceMethod ({ cls := "GrassField$Reader", name := "fail", desc := "(I)V" } : Jvm.MethodName)) ∈ lw_all := lw_g (lw_at lw_m4 20 rfl) rfl
theorem q843 : (Jvm.Cond.code ({ cls := "GrassField$Reader", name := "fail", desc := "(I)V" } : Jvm.MethodName) prog_20_method_2_code (2 : Nat) (Option.none : Option Jvm.ClassFile.FieldType)) ∈ lw_all := lw_g (lw_at lw_m4 21 rfl) rfl
theorem q844 : (Jvm.Cond.methodLink "GrassField$Reader" (111 : Nat) ({ cls := "GrassField$Reader", name := "line", desc := "()LGrassField$Line;" } : Jvm.MethodName)) ∈ lw_all := lw_g (lw_at lw_m4 22 rfl) rfl
theorem q845 : (Jvm.Cond.privateMethod ({ cls := "GrassField$Reader", name := "line", desc := "()LGrassField$Line;" } : Jvm.MethodName)) ∈ lw_tbl := lw_at lw_m4 23 rfl
theorem q846 : (Jvm.Cond.instanceMethod ({ cls := "GrassField$Reader", name := "line", desc := "()LGrassField$Line;" } : Jvm.MethodName)) ∈ lw_all := lw_g (lw_at lw_m4 24 rfl) rfl
theorem q847 : (Jvm.Cond.code ({ cls := "GrassField$Reader", name := "line", desc := "()LGrassField$Line;" } : Jvm.MethodName) prog_20_method_9_code (3 : Nat) (Option.some (Jvm.ClassFile.FieldType.object "GrassField$Line"))) ∈ lw_all := lw_g (lw_at lw_m4 25 rfl) rfl
theorem q848 : (Jvm.Cond.methodLink "GrassField$Reader" (123 : Nat) ({ cls := "GrassField$Reader", name := "takes", desc := "(Ljava/lang/String;)Z" } : Jvm.MethodName)) ∈ lw_all := lw_g (lw_at lw_m4 26 rfl) rfl
theorem q849 : (Jvm.Cond.privateMethod ({ cls := "GrassField$Reader", name := "takes", desc := "(Ljava/lang/String;)Z" } : Jvm.MethodName)) ∈ lw_tbl := lw_at lw_m4 27 rfl
theorem q850 : (Jvm.Cond.instanceMethod ({ cls := "GrassField$Reader", name := "takes", desc := "(Ljava/lang/String;)Z" } : Jvm.MethodName)) ∈ lw_all := lw_g (lw_at lw_m4 28 rfl) rfl
theorem q851 : (Jvm.Cond.code ({ cls := "GrassField$Reader", name := "takes", desc := "(Ljava/lang/String;)Z" } : Jvm.MethodName) prog_20_method_4_code (6 : Nat) (Option.some Jvm.ClassFile.FieldType.boolean)) ∈ lw_all := lw_g (lw_at lw_m4 29 rfl) rfl
theorem q852 : (Jvm.Cond.methodLink "GrassField$Reader" (89 : Nat) ({ cls := "java/lang/String", name := "length", desc := "()I" } : Jvm.MethodName)) ∈ lw_all := lw_g (lw_at lw_m4 30 rfl) rfl
theorem q862 : (Jvm.Cond.methodLink "GrassField$Reader" (92 : Nat) ({ cls := "java/lang/String", name := "charAt", desc := "(I)C" } : Jvm.MethodName)) ∈ lw_all := lw_g (lw_at lw_m4 40 rfl) rfl
theorem q900 : (Jvm.Cond.stringRef "GrassField$Reader" (127 : Nat) "if") ∈ lw_tbl := lw_at lw_m4 78 rfl
theorem q901 : (Jvm.Cond.methodLink "GrassField$Reader" (120 : Nat) ({ cls := "GrassField$Reader", name := "row", desc := "(Z)LGrassField$Cond;" } : Jvm.MethodName)) ∈ lw_all := lw_g (lw_at lw_m4 79 rfl) rfl
theorem q902 : (Jvm.Cond.privateMethod ({ cls := "GrassField$Reader", name := "row", desc := "(Z)LGrassField$Cond;" } : Jvm.MethodName)) ∈ lw_tbl := lw_at lw_m4 80 rfl
theorem q903 : (Jvm.Cond.instanceMethod ({ cls := "GrassField$Reader", name := "row", desc := "(Z)LGrassField$Cond;" } : Jvm.MethodName)) ∈ lw_all := lw_g (lw_at lw_m4 81 rfl) rfl
theorem q904 : (Jvm.Cond.code ({ cls := "GrassField$Reader", name := "row", desc := "(Z)LGrassField$Cond;" } : Jvm.MethodName) prog_20_method_10_code (4 : Nat) (Option.some (Jvm.ClassFile.FieldType.object "GrassField$Cond"))) ∈ lw_all := lw_g (lw_at lw_m4 82 rfl) rfl
theorem q905 : (Jvm.Cond.classLink "GrassField$Reader" (146 : Nat) "GrassField$Chain") ∈ lw_all := lw_g (lw_at lw_m4 83 rfl) rfl
theorem q907 : (Jvm.Cond.methodLink "GrassField$Reader" (148 : Nat) ({ cls := "GrassField$Reader", name := "atom", desc := "()LGrassField$Cond;" } : Jvm.MethodName)) ∈ lw_all := lw_g (lw_at lw_m4 85 rfl) rfl
theorem q908 : (Jvm.Cond.privateMethod ({ cls := "GrassField$Reader", name := "atom", desc := "()LGrassField$Cond;" } : Jvm.MethodName)) ∈ lw_tbl := lw_at lw_m4 86 rfl
theorem q909 : (Jvm.Cond.instanceMethod ({ cls := "GrassField$Reader", name := "atom", desc := "()LGrassField$Cond;" } : Jvm.MethodName)) ∈ lw_all := lw_g (lw_at lw_m4 87 rfl) rfl
theorem q910 : (Jvm.Cond.code ({ cls := "GrassField$Reader", name := "atom", desc := "()LGrassField$Cond;" } : Jvm.MethodName) prog_20_method_11_code (5 : Nat) (Option.some (Jvm.ClassFile.FieldType.object "GrassField$Cond"))) ∈ lw_all := lw_g (lw_at lw_m4 88 rfl) rfl
theorem q911 : (Jvm.Cond.stringRef "GrassField$Reader" (163 : Nat) "not") ∈ lw_tbl := lw_at lw_m4 89 rfl
theorem q912 : (Jvm.Cond.methodLink "GrassField$Reader" (165 : Nat) ({ cls := "GrassField$Reader", name := "tag", desc := "()LGrassField$Cond;" } : Jvm.MethodName)) ∈ lw_all := lw_g (lw_at lw_m4 90 rfl) rfl
theorem q913 : (Jvm.Cond.privateMethod ({ cls := "GrassField$Reader", name := "tag", desc := "()LGrassField$Cond;" } : Jvm.MethodName)) ∈ lw_tbl := lw_at lw_m4 91 rfl
theorem q914 : (Jvm.Cond.instanceMethod ({ cls := "GrassField$Reader", name := "tag", desc := "()LGrassField$Cond;" } : Jvm.MethodName)) ∈ lw_all := lw_g (lw_at lw_m4 92 rfl) rfl
theorem q915 : (Jvm.Cond.code ({ cls := "GrassField$Reader", name := "tag", desc := "()LGrassField$Cond;" } : Jvm.MethodName) prog_20_method_12_code (4 : Nat) (Option.some (Jvm.ClassFile.FieldType.object "GrassField$Cond"))) ∈ lw_all := lw_g (lw_at lw_m4 93 rfl) rfl
theorem q916 : (Jvm.Cond.stringRef "GrassField$Reader" (171 : Nat) "armed") ∈ lw_tbl := lw_at lw_m4 94 rfl
theorem q917 : (Jvm.Cond.classLink "GrassField$Reader" (173 : Nat) "GrassField$Tag") ∈ lw_all := lw_g (lw_at lw_m4 95 rfl) rfl
theorem q919 : (Jvm.Cond.methodLink "GrassField$Reader" (175 : Nat) ({ cls := "GrassField$Tag", name := "<init>", desc := "(II)V" } : Jvm.MethodName)) ∈ lw_all := lw_g (lw_at lw_m4 97 rfl) rfl
theorem q930 : (Jvm.Cond.stringRef "GrassField$Reader" (178 : Nat) "alone") ∈ lw_tbl := lw_at lw_m4 108 rfl
theorem q931 : (Jvm.Cond.stringRef "GrassField$Reader" (180 : Nat) "held") ∈ lw_tbl := lw_at lw_m4 109 rfl
theorem q932 : (Jvm.Cond.methodLink "GrassField$Reader" (182 : Nat) ({ cls := "GrassField$Reader", name := "number", desc := "()I" } : Jvm.MethodName)) ∈ lw_all := lw_g (lw_at lw_m4 110 rfl) rfl
theorem q933 : (Jvm.Cond.privateMethod ({ cls := "GrassField$Reader", name := "number", desc := "()I" } : Jvm.MethodName)) ∈ lw_tbl := lw_at lw_m4 111 rfl
theorem q934 : (Jvm.Cond.instanceMethod ({ cls := "GrassField$Reader", name := "number", desc := "()I" } : Jvm.MethodName)) ∈ lw_all := lw_g (lw_at lw_m4 112 rfl) rfl
theorem q935 : (Jvm.Cond.code ({ cls := "GrassField$Reader", name := "number", desc := "()I" } : Jvm.MethodName) prog_20_method_5_code (4 : Nat) (Option.some Jvm.ClassFile.FieldType.int)) ∈ lw_all := lw_g (lw_at lw_m4 113 rfl) rfl
theorem q936 : (Jvm.Cond.methodLink "GrassField$Reader" (185 : Nat) ({ cls := "GrassField$Reader", name := "sum", desc := "()LGrassField$Sum;" } : Jvm.MethodName)) ∈ lw_all := lw_g (lw_at lw_m4 114 rfl) rfl
theorem q937 : (Jvm.Cond.privateMethod ({ cls := "GrassField$Reader", name := "sum", desc := "()LGrassField$Sum;" } : Jvm.MethodName)) ∈ lw_tbl := lw_at lw_m4 115 rfl
theorem q938 : (Jvm.Cond.instanceMethod ({ cls := "GrassField$Reader", name := "sum", desc := "()LGrassField$Sum;" } : Jvm.MethodName)) ∈ lw_all := lw_g (lw_at lw_m4 116 rfl) rfl
theorem q939 : (Jvm.Cond.code ({ cls := "GrassField$Reader", name := "sum", desc := "()LGrassField$Sum;" } : Jvm.MethodName) prog_20_method_13_code (2 : Nat) (Option.some (Jvm.ClassFile.FieldType.object "GrassField$Sum"))) ∈ lw_all := lw_g (lw_at lw_m4 117 rfl) rfl
theorem q940 : (Jvm.Cond.classLink "GrassField$Reader" (194 : Nat) "GrassField$Sum") ∈ lw_all := lw_g (lw_at lw_m4 118 rfl) rfl
theorem q942 : (Jvm.Cond.methodLinkNest "GrassField$Reader" (196 : Nat) ({ cls := "GrassField$Sum", name := "<init>", desc := "()V" } : Jvm.MethodName) "GrassField") ∈ lw_tbl := lw_at lw_m4 120 rfl
theorem q947 : (Jvm.Cond.fieldLinkNest "GrassField$Reader" (201 : Nat) "GrassField$Sum" "times" "[I" "GrassField") ∈ lw_tbl := lw_at lw_m4 125 rfl
theorem q949 : (Jvm.Cond.fieldLinkNest "GrassField$Reader" (208 : Nat) "GrassField$Sum" "number" "I" "GrassField") ∈ lw_tbl := lw_at lw_m4 127 rfl
theorem q955 : (Jvm.Cond.methodLink "GrassField$Reader" (197 : Nat) ({ cls := "GrassField$Reader", name := "part", desc := "(LGrassField$Sum;)V" } : Jvm.MethodName)) ∈ lw_all := lw_g (lw_at lw_m4 133 rfl) rfl
theorem q956 : (Jvm.Cond.privateMethod ({ cls := "GrassField$Reader", name := "part", desc := "(LGrassField$Sum;)V" } : Jvm.MethodName)) ∈ lw_tbl := lw_at lw_m4 134 rfl
theorem q957 : (Jvm.Cond.instanceMethod ({ cls := "GrassField$Reader", name := "part", desc := "(LGrassField$Sum;)V" } : Jvm.MethodName)) ∈ lw_all := lw_g (lw_at lw_m4 135 rfl) rfl
theorem q958 : (Jvm.Cond.code ({ cls := "GrassField$Reader", name := "part", desc := "(LGrassField$Sum;)V" } : Jvm.MethodName) prog_20_method_14_code (4 : Nat) (Option.none : Option Jvm.ClassFile.FieldType)) ∈ lw_all := lw_g (lw_at lw_m4 136 rfl) rfl
theorem q959 : (Jvm.Cond.methodLink "GrassField$Reader" (205 : Nat) ({ cls := "GrassField$Reader", name := "fact", desc := "()I" } : Jvm.MethodName)) ∈ lw_all := lw_g (lw_at lw_m4 137 rfl) rfl
theorem q960 : (Jvm.Cond.privateMethod ({ cls := "GrassField$Reader", name := "fact", desc := "()I" } : Jvm.MethodName)) ∈ lw_tbl := lw_at lw_m4 138 rfl
theorem q961 : (Jvm.Cond.instanceMethod ({ cls := "GrassField$Reader", name := "fact", desc := "()I" } : Jvm.MethodName)) ∈ lw_all := lw_g (lw_at lw_m4 139 rfl) rfl
theorem q962 : (Jvm.Cond.code ({ cls := "GrassField$Reader", name := "fact", desc := "()I" } : Jvm.MethodName) prog_20_method_15_code (2 : Nat) (Option.some Jvm.ClassFile.FieldType.int)) ∈ lw_all := lw_g (lw_at lw_m4 140 rfl) rfl
theorem q963 : (Jvm.Cond.classLink "GrassField$Reader" (189 : Nat) "GrassField$Less") ∈ lw_all := lw_g (lw_at lw_m4 141 rfl) rfl
theorem q965 : (Jvm.Cond.methodLink "GrassField$Reader" (191 : Nat) ({ cls := "GrassField$Less", name := "<init>", desc := "(LGrassField$Sum;LGrassField$Sum;)V" } : Jvm.MethodName)) ∈ lw_all := lw_g (lw_at lw_m4 143 rfl) rfl
theorem q976 : (Jvm.Cond.classLink "GrassField$Reader" (168 : Nat) "GrassField$Not") ∈ lw_all := lw_g (lw_at lw_m4 154 rfl) rfl
theorem q978 : (Jvm.Cond.methodLink "GrassField$Reader" (170 : Nat) ({ cls := "GrassField$Not", name := "<init>", desc := "(LGrassField$Cond;)V" } : Jvm.MethodName)) ∈ lw_all := lw_g (lw_at lw_m4 156 rfl) rfl
theorem q986 : (Jvm.Cond.methodLink "GrassField$Reader" (152 : Nat) ({ cls := "GrassField$Chain", name := "<init>", desc := "(LGrassField$Cond;Z)V" } : Jvm.MethodName)) ∈ lw_all := lw_g (lw_at lw_m4 164 rfl) rfl
theorem q993 : (Jvm.Cond.fieldLinkNest "GrassField$Reader" (159 : Nat) "GrassField$Chain" "next" "LGrassField$Chain;" "GrassField") ∈ lw_tbl := lw_at lw_m4 171 rfl
theorem q1001 : (Jvm.Cond.stringRef "GrassField$Reader" (155 : Nat) "and") ∈ lw_tbl := lw_at lw_m4 179 rfl
theorem q1002 : (Jvm.Cond.stringRef "GrassField$Reader" (157 : Nat) "or") ∈ lw_tbl := lw_at lw_m4 180 rfl
theorem q1003 : (Jvm.Cond.classLink "GrassField$Reader" (129 : Nat) "GrassField$Shoot") ∈ lw_all := lw_g (lw_at lw_m4 181 rfl) rfl
theorem q1005 : (Jvm.Cond.methodLink "GrassField$Reader" (131 : Nat) ({ cls := "GrassField$Shoot", name := "<init>", desc := "(LGrassField$Cond;)V" } : Jvm.MethodName)) ∈ lw_all := lw_g (lw_at lw_m4 183 rfl) rfl
theorem q1019 : (Jvm.Cond.classLink "GrassField$Reader" (134 : Nat) "GrassField$Flee") ∈ lw_all := lw_g (lw_at lw_m4 197 rfl) rfl
theorem q1021 : (Jvm.Cond.methodLink "GrassField$Reader" (136 : Nat) ({ cls := "GrassField$Flee", name := "<init>", desc := "(LGrassField$Cond;)V" } : Jvm.MethodName)) ∈ lw_all := lw_g (lw_at lw_m4 199 rfl) rfl
theorem q1027 : (Jvm.Cond.classLink "GrassField$Reader" (137 : Nat) "GrassField$Join") ∈ lw_all := lw_g (lw_at lw_m4 205 rfl) rfl
theorem q1029 : (Jvm.Cond.methodLink "GrassField$Reader" (139 : Nat) ({ cls := "GrassField$Join", name := "<init>", desc := "(LGrassField$Cond;)V" } : Jvm.MethodName)) ∈ lw_all := lw_g (lw_at lw_m4 207 rfl) rfl
theorem q1035 : (Jvm.Cond.classLink "GrassField$Reader" (140 : Nat) "GrassField$Hold") ∈ lw_all := lw_g (lw_at lw_m4 213 rfl) rfl
theorem q1037 : (Jvm.Cond.methodLink "GrassField$Reader" (142 : Nat) ({ cls := "GrassField$Hold", name := "<init>", desc := "(LGrassField$Cond;)V" } : Jvm.MethodName)) ∈ lw_all := lw_g (lw_at lw_m4 215 rfl) rfl
theorem q1040 : (Jvm.Cond.classLink "GrassField$Reader" (143 : Nat) "GrassField$Drop") ∈ lw_all := lw_g (lw_at lw_m4 218 rfl) rfl
theorem q1042 : (Jvm.Cond.methodLink "GrassField$Reader" (145 : Nat) ({ cls := "GrassField$Drop", name := "<init>", desc := "(LGrassField$Cond;)V" } : Jvm.MethodName)) ∈ lw_all := lw_g (lw_at lw_m4 220 rfl) rfl
theorem q1048 : (Jvm.Cond.classLink "GrassField$Reader" (115 : Nat) "GrassField$Law") ∈ lw_all := lw_g (lw_at lw_m4 226 rfl) rfl
theorem q1050 : (Jvm.Cond.methodLink "GrassField$Reader" (117 : Nat) ({ cls := "GrassField$Law", name := "<init>", desc := "([LGrassField$Line;I)V" } : Jvm.MethodName)) ∈ lw_all := lw_g (lw_at lw_m4 228 rfl) rfl
theorem q1618 : (Jvm.Cond.instanceMethod ({ cls := "GrassField$Reader", name := "story", desc := "(I)LGrassField$Cond;" } : Jvm.MethodName)) ∈ lw_all := lw_g (lw_at lw_m7 76 rfl) rfl
theorem q1619 : (Jvm.Cond.selects "GrassField$Reader" ({ cls := "GrassField$Reader", name := "story", desc := "(I)LGrassField$Cond;" } : Jvm.MethodName) ({ cls := "GrassField$Reader", name := "story", desc := "(I)LGrassField$Cond;" } : Jvm.MethodName)) ∈ lw_all := lw_g (lw_at lw_m7 77 rfl) rfl
theorem q1620 : (Jvm.Cond.code ({ cls := "GrassField$Reader", name := "story", desc := "(I)LGrassField$Cond;" } : Jvm.MethodName) prog_20_method_8_code (3 : Nat) (Option.some (Jvm.ClassFile.FieldType.object "GrassField$Cond"))) ∈ lw_all := lw_g (lw_at lw_m7 78 rfl) rfl
theorem q2264 : (Jvm.Cond.castable "GrassField$Reader" "java/lang/Object") ∈ lw_tbl := lw_at lw_m10 2 rfl
theorem in_X2 : ∀ w ∈ wsX20, w ∈ lw_all := lw_in wsX20 [268, 270, 272, 274, 276, 278, 280, 282, 284, 286] (by decide +kernel) (by decide +kernel)
theorem q108 : (Jvm.Cond.initialized "GrassField$Wrong") ∈ lw_all := lw_g (lw_at lw_m1 6 rfl) rfl
theorem q184 : (Jvm.Cond.instantiable "GrassField$Wrong" (7 : Nat)) ∈ lw_all := lw_g (lw_at lw_m1 82 rfl) rfl
theorem q185 : (Jvm.Cond.castable "GrassField$Wrong" "GrassField$Wrong") ∈ lw_tbl := lw_at lw_m1 83 rfl
theorem q192 : (Jvm.Cond.selects "GrassField$Wrong" ({ cls := "java/lang/Throwable", name := "fillInStackTrace", desc := "(I)Ljava/lang/Throwable;" } : Jvm.MethodName) ({ cls := "java/lang/Throwable", name := "fillInStackTrace", desc := "(I)Ljava/lang/Throwable;" } : Jvm.MethodName)) ∈ lw_all := lw_g (lw_at lw_m1 90 rfl) rfl
theorem q193 : (Jvm.Cond.selects "GrassField$Wrong" ({ cls := "java/lang/Throwable", name := "fillInStackTrace", desc := "()Ljava/lang/Throwable;" } : Jvm.MethodName) ({ cls := "java/lang/Throwable", name := "fillInStackTrace", desc := "()Ljava/lang/Throwable;" } : Jvm.MethodName)) ∈ lw_all := lw_g (lw_at lw_m1 91 rfl) rfl
theorem q194 : (Jvm.Cond.lays "GrassField$Wrong" "java/lang/Throwable" "cause" "Ljava/lang/Throwable;") ∈ lw_all := lw_g (lw_at lw_m1 92 rfl) rfl
theorem q196 : (Jvm.Cond.lays "GrassField$Wrong" "java/lang/Throwable" "stackTrace" "[Ljava/lang/StackTraceElement;") ∈ lw_all := lw_g (lw_at lw_m1 94 rfl) rfl
theorem q198 : (Jvm.Cond.lays "GrassField$Wrong" "java/lang/Throwable" "suppressedExceptions" "Ljava/util/List;") ∈ lw_all := lw_g (lw_at lw_m1 96 rfl) rfl
theorem q200 : (Jvm.Cond.lays "GrassField$Wrong" "java/lang/Throwable" "detailMessage" "Ljava/lang/String;") ∈ lw_all := lw_g (lw_at lw_m1 98 rfl) rfl
theorem q202 : (Jvm.Cond.lays "GrassField$Wrong" "java/lang/Throwable" "backtrace" "Ljava/lang/Object;") ∈ lw_all := lw_g (lw_at lw_m1 100 rfl) rfl
theorem q228 : (Jvm.Cond.instanceMethod ({ cls := "GrassField$Wrong", name := "<init>", desc := "()V" } : Jvm.MethodName)) ∈ lw_all := lw_g (lw_at lw_m1 126 rfl) rfl
theorem q229 : (Jvm.Cond.code ({ cls := "GrassField$Wrong", name := "<init>", desc := "()V" } : Jvm.MethodName) prog_28_method_1_code (1 : Nat) (Option.none : Option Jvm.ClassFile.FieldType)) ∈ lw_all := lw_g (lw_at lw_m1 127 rfl) rfl
theorem q230 : (Jvm.Cond.methodLink "GrassField$Wrong" (1 : Nat) ({ cls := "java/lang/RuntimeException", name := "<init>", desc := "(Ljava/lang/String;Ljava/lang/Throwable;ZZ)V" } : Jvm.MethodName)) ∈ lw_all := lw_g (lw_at lw_m1 128 rfl) rfl
theorem q246 : (Jvm.Cond.lays "GrassField$Wrong" "GrassField$Wrong" "place" "I") ∈ lw_all := lw_g (lw_at lw_m1 144 rfl) rfl
theorem q247 : (Jvm.Cond.soleField "GrassField$Wrong" "place") ∈ lw_all := lw_g (lw_at lw_m1 145 rfl) rfl
theorem q252 : (Jvm.Cond.lays "GrassField$Wrong" "java/lang/Throwable" "depth" "I") ∈ lw_all := lw_g (lw_at lw_m1 150 rfl) rfl
theorem q255 : (Jvm.Cond.superclass "GrassField$Wrong" "java/lang/RuntimeException") ∈ lw_all := lw_g (lw_at lw_m1 153 rfl) rfl
theorem q2265 : (Jvm.Cond.castable "GrassField$Wrong" "java/lang/Object") ∈ lw_tbl := lw_at lw_m10 3 rfl
theorem in_X3 : ∀ w ∈ wsX30, w ∈ lw_all := lw_in wsX30 [194, 196, 198, 200, 202, 252, 246] (by decide +kernel) (by decide +kernel)
theorem q109 : (Jvm.Cond.initialized "GrassField$House") ∈ lw_all := lw_g (lw_at lw_m1 7 rfl) rfl
theorem q290 : (Jvm.Cond.instantiable "GrassField$House" (22 : Nat)) ∈ lw_all := lw_g (lw_at lw_m1 188 rfl) rfl
theorem q292 : (Jvm.Cond.instanceMethod ({ cls := "GrassField$House", name := "<init>", desc := "()V" } : Jvm.MethodName)) ∈ lw_all := lw_g (lw_at lw_m1 190 rfl) rfl
theorem q293 : (Jvm.Cond.code ({ cls := "GrassField$House", name := "<init>", desc := "()V" } : Jvm.MethodName) prog_12_method_1_code (1 : Nat) (Option.none : Option Jvm.ClassFile.FieldType)) ∈ lw_all := lw_g (lw_at lw_m1 191 rfl) rfl
theorem q294 : (Jvm.Cond.methodLink "GrassField$House" (3 : Nat) ({ cls := "java/lang/Object", name := "<init>", desc := "()V" } : Jvm.MethodName)) ∈ lw_all := lw_g (lw_at lw_m1 192 rfl) rfl
theorem q295 : (Jvm.Cond.classLink "GrassField$House" (15 : Nat) "GrassField$Gun") ∈ lw_all := lw_g (lw_at lw_m1 193 rfl) rfl
theorem q297 : (Jvm.Cond.classLink "GrassField$House" (21 : Nat) "GrassField$Person") ∈ lw_all := lw_g (lw_at lw_m1 195 rfl) rfl
theorem q299 : (Jvm.Cond.classLink "GrassField$House" (27 : Nat) "GrassField$Law") ∈ lw_all := lw_g (lw_at lw_m1 197 rfl) rfl
theorem q301 : (Jvm.Cond.classLink "GrassField$House" (33 : Nat) "GrassField$Find") ∈ lw_all := lw_g (lw_at lw_m1 199 rfl) rfl
theorem q303 : (Jvm.Cond.classLink "GrassField$House" (39 : Nat) "GrassField$Teller") ∈ lw_all := lw_g (lw_at lw_m1 201 rfl) rfl
theorem q305 : (Jvm.Cond.classLink "GrassField$House" (45 : Nat) "GrassField$Telling") ∈ lw_all := lw_g (lw_at lw_m1 203 rfl) rfl
theorem q307 : (Jvm.Cond.classLink "GrassField$House" (51 : Nat) "GrassField$Story") ∈ lw_all := lw_g (lw_at lw_m1 205 rfl) rfl
theorem q309 : (Jvm.Cond.fieldLink "GrassField$House" (9 : Nat) "GrassField$House" "heights" "[I") ∈ lw_all := lw_g (lw_at lw_m1 207 rfl) rfl
theorem q312 : (Jvm.Cond.fieldLink "GrassField$House" (17 : Nat) "GrassField$House" "guns" "[LGrassField$Gun;") ∈ lw_all := lw_g (lw_at lw_m1 210 rfl) rfl
theorem q315 : (Jvm.Cond.fieldLink "GrassField$House" (23 : Nat) "GrassField$House" "people" "[LGrassField$Person;") ∈ lw_all := lw_g (lw_at lw_m1 213 rfl) rfl
theorem q320 : (Jvm.Cond.fieldLink "GrassField$House" (29 : Nat) "GrassField$House" "laws" "[LGrassField$Law;") ∈ lw_all := lw_g (lw_at lw_m1 218 rfl) rfl
theorem q322 : (Jvm.Cond.fieldLink "GrassField$House" (35 : Nat) "GrassField$House" "finds" "[LGrassField$Find;") ∈ lw_all := lw_g (lw_at lw_m1 220 rfl) rfl
theorem q325 : (Jvm.Cond.fieldLink "GrassField$House" (41 : Nat) "GrassField$House" "tellers" "[LGrassField$Teller;") ∈ lw_all := lw_g (lw_at lw_m1 223 rfl) rfl
theorem q327 : (Jvm.Cond.fieldLink "GrassField$House" (47 : Nat) "GrassField$House" "tellings" "[LGrassField$Telling;") ∈ lw_all := lw_g (lw_at lw_m1 225 rfl) rfl
theorem q329 : (Jvm.Cond.fieldLink "GrassField$House" (53 : Nat) "GrassField$House" "stories" "[LGrassField$Story;") ∈ lw_all := lw_g (lw_at lw_m1 227 rfl) rfl
theorem q331 : (Jvm.Cond.fieldLink "GrassField$House" (57 : Nat) "GrassField$House" "facts" "[I") ∈ lw_all := lw_g (lw_at lw_m1 229 rfl) rfl
theorem q333 : (Jvm.Cond.fieldLink "GrassField$House" (73 : Nat) "GrassField$House" "gunMany" "I") ∈ lw_all := lw_g (lw_at lw_m1 231 rfl) rfl
theorem q335 : (Jvm.Cond.fieldLink "GrassField$House" (91 : Nat) "GrassField$House" "personMany" "I") ∈ lw_all := lw_g (lw_at lw_m1 233 rfl) rfl
theorem q337 : (Jvm.Cond.fieldLink "GrassField$House" (97 : Nat) "GrassField$House" "lawMany" "I") ∈ lw_all := lw_g (lw_at lw_m1 235 rfl) rfl
theorem q340 : (Jvm.Cond.fieldLink "GrassField$House" (100 : Nat) "GrassField$House" "findMany" "I") ∈ lw_all := lw_g (lw_at lw_m1 238 rfl) rfl
theorem q342 : (Jvm.Cond.fieldLink "GrassField$House" (103 : Nat) "GrassField$House" "tellerMany" "I") ∈ lw_all := lw_g (lw_at lw_m2 0 rfl) rfl
theorem q344 : (Jvm.Cond.fieldLink "GrassField$House" (106 : Nat) "GrassField$House" "tellingMany" "I") ∈ lw_all := lw_g (lw_at lw_m2 2 rfl) rfl
theorem q346 : (Jvm.Cond.fieldLink "GrassField$House" (109 : Nat) "GrassField$House" "storyMany" "I") ∈ lw_all := lw_g (lw_at lw_m2 4 rfl) rfl
theorem q348 : (Jvm.Cond.fieldLink "GrassField$House" (60 : Nat) "GrassField$House" "day" "I") ∈ lw_all := lw_g (lw_at lw_m2 6 rfl) rfl
theorem q350 : (Jvm.Cond.fieldLink "GrassField$House" (112 : Nat) "GrassField$House" "seed" "I") ∈ lw_all := lw_g (lw_at lw_m2 8 rfl) rfl
theorem q352 : (Jvm.Cond.fieldLink "GrassField$House" (115 : Nat) "GrassField$House" "minute" "I") ∈ lw_all := lw_g (lw_at lw_m2 10 rfl) rfl
theorem q354 : (Jvm.Cond.fieldLink "GrassField$House" (64 : Nat) "GrassField$House" "deepest" "I") ∈ lw_all := lw_g (lw_at lw_m2 12 rfl) rfl
theorem q356 : (Jvm.Cond.fieldLink "GrassField$House" (118 : Nat) "GrassField$House" "wide" "I") ∈ lw_all := lw_g (lw_at lw_m2 14 rfl) rfl
theorem q358 : (Jvm.Cond.fieldLink "GrassField$House" (121 : Nat) "GrassField$House" "walked" "I") ∈ lw_all := lw_g (lw_at lw_m2 16 rfl) rfl
theorem q360 : (Jvm.Cond.laysFinal "GrassField$House" "GrassField$House" "heights" "[I") ∈ lw_all := lw_g (lw_at lw_m2 18 rfl) rfl
theorem q361 : (Jvm.Cond.soleField "GrassField$House" "heights") ∈ lw_all := lw_g (lw_at lw_m2 19 rfl) rfl
theorem q362 : (Jvm.Cond.laysFinal "GrassField$House" "GrassField$House" "guns" "[LGrassField$Gun;") ∈ lw_all := lw_g (lw_at lw_m2 20 rfl) rfl
theorem q363 : (Jvm.Cond.soleField "GrassField$House" "guns") ∈ lw_all := lw_g (lw_at lw_m2 21 rfl) rfl
theorem q364 : (Jvm.Cond.laysFinal "GrassField$House" "GrassField$House" "people" "[LGrassField$Person;") ∈ lw_all := lw_g (lw_at lw_m2 22 rfl) rfl
theorem q365 : (Jvm.Cond.soleField "GrassField$House" "people") ∈ lw_all := lw_g (lw_at lw_m2 23 rfl) rfl
theorem q366 : (Jvm.Cond.laysFinal "GrassField$House" "GrassField$House" "laws" "[LGrassField$Law;") ∈ lw_all := lw_g (lw_at lw_m2 24 rfl) rfl
theorem q367 : (Jvm.Cond.soleField "GrassField$House" "laws") ∈ lw_all := lw_g (lw_at lw_m2 25 rfl) rfl
theorem q368 : (Jvm.Cond.laysFinal "GrassField$House" "GrassField$House" "finds" "[LGrassField$Find;") ∈ lw_all := lw_g (lw_at lw_m2 26 rfl) rfl
theorem q369 : (Jvm.Cond.soleField "GrassField$House" "finds") ∈ lw_all := lw_g (lw_at lw_m2 27 rfl) rfl
theorem q370 : (Jvm.Cond.laysFinal "GrassField$House" "GrassField$House" "tellers" "[LGrassField$Teller;") ∈ lw_all := lw_g (lw_at lw_m2 28 rfl) rfl
theorem q371 : (Jvm.Cond.soleField "GrassField$House" "tellers") ∈ lw_all := lw_g (lw_at lw_m2 29 rfl) rfl
theorem q372 : (Jvm.Cond.laysFinal "GrassField$House" "GrassField$House" "tellings" "[LGrassField$Telling;") ∈ lw_all := lw_g (lw_at lw_m2 30 rfl) rfl
theorem q373 : (Jvm.Cond.soleField "GrassField$House" "tellings") ∈ lw_all := lw_g (lw_at lw_m2 31 rfl) rfl
theorem q374 : (Jvm.Cond.laysFinal "GrassField$House" "GrassField$House" "stories" "[LGrassField$Story;") ∈ lw_all := lw_g (lw_at lw_m2 32 rfl) rfl
theorem q375 : (Jvm.Cond.soleField "GrassField$House" "stories") ∈ lw_all := lw_g (lw_at lw_m2 33 rfl) rfl
theorem q376 : (Jvm.Cond.laysFinal "GrassField$House" "GrassField$House" "facts" "[I") ∈ lw_all := lw_g (lw_at lw_m2 34 rfl) rfl
theorem q377 : (Jvm.Cond.soleField "GrassField$House" "facts") ∈ lw_all := lw_g (lw_at lw_m2 35 rfl) rfl
theorem q378 : (Jvm.Cond.lays "GrassField$House" "GrassField$House" "gunMany" "I") ∈ lw_all := lw_g (lw_at lw_m2 36 rfl) rfl
theorem q379 : (Jvm.Cond.soleField "GrassField$House" "gunMany") ∈ lw_all := lw_g (lw_at lw_m2 37 rfl) rfl
theorem q380 : (Jvm.Cond.lays "GrassField$House" "GrassField$House" "personMany" "I") ∈ lw_all := lw_g (lw_at lw_m2 38 rfl) rfl
theorem q381 : (Jvm.Cond.soleField "GrassField$House" "personMany") ∈ lw_all := lw_g (lw_at lw_m2 39 rfl) rfl
theorem q382 : (Jvm.Cond.lays "GrassField$House" "GrassField$House" "lawMany" "I") ∈ lw_all := lw_g (lw_at lw_m2 40 rfl) rfl
theorem q383 : (Jvm.Cond.soleField "GrassField$House" "lawMany") ∈ lw_all := lw_g (lw_at lw_m2 41 rfl) rfl
theorem q384 : (Jvm.Cond.lays "GrassField$House" "GrassField$House" "findMany" "I") ∈ lw_all := lw_g (lw_at lw_m2 42 rfl) rfl
theorem q385 : (Jvm.Cond.soleField "GrassField$House" "findMany") ∈ lw_all := lw_g (lw_at lw_m2 43 rfl) rfl
theorem q386 : (Jvm.Cond.lays "GrassField$House" "GrassField$House" "tellerMany" "I") ∈ lw_all := lw_g (lw_at lw_m2 44 rfl) rfl
theorem q387 : (Jvm.Cond.soleField "GrassField$House" "tellerMany") ∈ lw_all := lw_g (lw_at lw_m2 45 rfl) rfl
theorem q388 : (Jvm.Cond.lays "GrassField$House" "GrassField$House" "tellingMany" "I") ∈ lw_all := lw_g (lw_at lw_m2 46 rfl) rfl
theorem q389 : (Jvm.Cond.soleField "GrassField$House" "tellingMany") ∈ lw_all := lw_g (lw_at lw_m2 47 rfl) rfl
theorem q390 : (Jvm.Cond.lays "GrassField$House" "GrassField$House" "storyMany" "I") ∈ lw_all := lw_g (lw_at lw_m2 48 rfl) rfl
theorem q391 : (Jvm.Cond.soleField "GrassField$House" "storyMany") ∈ lw_all := lw_g (lw_at lw_m2 49 rfl) rfl
theorem q392 : (Jvm.Cond.lays "GrassField$House" "GrassField$House" "day" "I") ∈ lw_all := lw_g (lw_at lw_m2 50 rfl) rfl
theorem q393 : (Jvm.Cond.soleField "GrassField$House" "day") ∈ lw_all := lw_g (lw_at lw_m2 51 rfl) rfl
theorem q394 : (Jvm.Cond.lays "GrassField$House" "GrassField$House" "seed" "I") ∈ lw_all := lw_g (lw_at lw_m2 52 rfl) rfl
theorem q395 : (Jvm.Cond.soleField "GrassField$House" "seed") ∈ lw_all := lw_g (lw_at lw_m2 53 rfl) rfl
theorem q396 : (Jvm.Cond.lays "GrassField$House" "GrassField$House" "minute" "I") ∈ lw_all := lw_g (lw_at lw_m2 54 rfl) rfl
theorem q397 : (Jvm.Cond.soleField "GrassField$House" "minute") ∈ lw_all := lw_g (lw_at lw_m2 55 rfl) rfl
theorem q398 : (Jvm.Cond.lays "GrassField$House" "GrassField$House" "deepest" "I") ∈ lw_all := lw_g (lw_at lw_m2 56 rfl) rfl
theorem q399 : (Jvm.Cond.soleField "GrassField$House" "deepest") ∈ lw_all := lw_g (lw_at lw_m2 57 rfl) rfl
theorem q400 : (Jvm.Cond.lays "GrassField$House" "GrassField$House" "wide" "I") ∈ lw_all := lw_g (lw_at lw_m2 58 rfl) rfl
theorem q401 : (Jvm.Cond.soleField "GrassField$House" "wide") ∈ lw_all := lw_g (lw_at lw_m2 59 rfl) rfl
theorem q402 : (Jvm.Cond.lays "GrassField$House" "GrassField$House" "walked" "I") ∈ lw_all := lw_g (lw_at lw_m2 60 rfl) rfl
theorem q403 : (Jvm.Cond.soleField "GrassField$House" "walked") ∈ lw_all := lw_g (lw_at lw_m2 61 rfl) rfl
theorem q404 : (Jvm.Cond.superclass "GrassField$House" "java/lang/Object") ∈ lw_all := lw_g (lw_at lw_m2 62 rfl) rfl
theorem q492 : (Jvm.Cond.instanceMethod ({ cls := "GrassField$House", name := "seen", desc := "()I" } : Jvm.MethodName)) ∈ lw_all := lw_g (lw_at lw_m2 150 rfl) rfl
theorem q493 : (Jvm.Cond.selects "GrassField$House" ({ cls := "GrassField$House", name := "seen", desc := "()I" } : Jvm.MethodName) ({ cls := "GrassField$House", name := "seen", desc := "()I" } : Jvm.MethodName)) ∈ lw_all := lw_g (lw_at lw_m2 151 rfl) rfl
theorem q494 : (Jvm.Cond.code ({ cls := "GrassField$House", name := "seen", desc := "()I" } : Jvm.MethodName) prog_12_method_14_code (3 : Nat) (Option.some Jvm.ClassFile.FieldType.int)) ∈ lw_all := lw_g (lw_at lw_m2 152 rfl) rfl
theorem q495 : (Jvm.Cond.methodLink "GrassField$House" (218 : Nat) ({ cls := "GrassField$House", name := "isSeen", desc := "(I)Z" } : Jvm.MethodName)) ∈ lw_all := lw_g (lw_at lw_m2 153 rfl) rfl
theorem q496 : (Jvm.Cond.instanceMethod ({ cls := "GrassField$House", name := "isSeen", desc := "(I)Z" } : Jvm.MethodName)) ∈ lw_all := lw_g (lw_at lw_m2 154 rfl) rfl
theorem q497 : (Jvm.Cond.selects "GrassField$House" ({ cls := "GrassField$House", name := "isSeen", desc := "(I)Z" } : Jvm.MethodName) ({ cls := "GrassField$House", name := "isSeen", desc := "(I)Z" } : Jvm.MethodName)) ∈ lw_all := lw_g (lw_at lw_m2 155 rfl) rfl
theorem q498 : (Jvm.Cond.code ({ cls := "GrassField$House", name := "isSeen", desc := "(I)Z" } : Jvm.MethodName) prog_12_method_13_code (2 : Nat) (Option.some Jvm.ClassFile.FieldType.boolean)) ∈ lw_all := lw_g (lw_at lw_m2 156 rfl) rfl
theorem q499 : (Jvm.Cond.methodLink "GrassField$House" (207 : Nat) ({ cls := "GrassField$Find", name := "depth", desc := "()I" } : Jvm.MethodName)) ∈ lw_all := lw_g (lw_at lw_m2 157 rfl) rfl
theorem q507 : (Jvm.Cond.methodLink "GrassField$House" (211 : Nat) ({ cls := "GrassField$Find", name := "row", desc := "()I" } : Jvm.MethodName)) ∈ lw_all := lw_g (lw_at lw_m2 165 rfl) rfl
theorem q515 : (Jvm.Cond.methodLink "GrassField$House" (214 : Nat) ({ cls := "GrassField$House", name := "isNear", desc := "(I)Z" } : Jvm.MethodName)) ∈ lw_all := lw_g (lw_at lw_m2 173 rfl) rfl
theorem q516 : (Jvm.Cond.instanceMethod ({ cls := "GrassField$House", name := "isNear", desc := "(I)Z" } : Jvm.MethodName)) ∈ lw_all := lw_g (lw_at lw_m2 174 rfl) rfl
theorem q517 : (Jvm.Cond.selects "GrassField$House" ({ cls := "GrassField$House", name := "isNear", desc := "(I)Z" } : Jvm.MethodName) ({ cls := "GrassField$House", name := "isNear", desc := "(I)Z" } : Jvm.MethodName)) ∈ lw_all := lw_g (lw_at lw_m2 175 rfl) rfl
theorem q518 : (Jvm.Cond.code ({ cls := "GrassField$House", name := "isNear", desc := "(I)Z" } : Jvm.MethodName) prog_12_method_12_code (4 : Nat) (Option.some Jvm.ClassFile.FieldType.boolean)) ∈ lw_all := lw_g (lw_at lw_m2 176 rfl) rfl
theorem q519 : (Jvm.Cond.methodLink "GrassField$House" (203 : Nat) ({ cls := "java/lang/Math", name := "abs", desc := "(I)I" } : Jvm.MethodName)) ∈ lw_all := lw_g (lw_at lw_m2 177 rfl) rfl
theorem q527 : (Jvm.Cond.instanceMethod ({ cls := "GrassField$House", name := "fits", desc := "(LGrassField$Telling;)Z" } : Jvm.MethodName)) ∈ lw_all := lw_g (lw_at lw_m2 185 rfl) rfl
theorem q528 : (Jvm.Cond.selects "GrassField$House" ({ cls := "GrassField$House", name := "fits", desc := "(LGrassField$Telling;)Z" } : Jvm.MethodName) ({ cls := "GrassField$House", name := "fits", desc := "(LGrassField$Telling;)Z" } : Jvm.MethodName)) ∈ lw_all := lw_g (lw_at lw_m2 186 rfl) rfl
theorem q529 : (Jvm.Cond.code ({ cls := "GrassField$House", name := "fits", desc := "(LGrassField$Telling;)Z" } : Jvm.MethodName) prog_12_method_23_code (4 : Nat) (Option.some Jvm.ClassFile.FieldType.boolean)) ∈ lw_all := lw_g (lw_at lw_m2 187 rfl) rfl
theorem q530 : (Jvm.Cond.methodLink "GrassField$House" (221 : Nat) ({ cls := "GrassField$Find", name := "kind", desc := "()I" } : Jvm.MethodName)) ∈ lw_all := lw_g (lw_at lw_m2 188 rfl) rfl
theorem q545 : (Jvm.Cond.methodLink "GrassField$House" (242 : Nat) ({ cls := "GrassField$Find", name := "cell", desc := "()I" } : Jvm.MethodName)) ∈ lw_all := lw_g (lw_at lw_m2 203 rfl) rfl
theorem q553 : (Jvm.Cond.methodLinkNest "GrassField$House" (139 : Nat) ({ cls := "GrassField", name := "far", desc := "(II)I" } : Jvm.MethodName) "GrassField") ∈ lw_tbl := lw_at lw_m2 211 rfl
theorem q560 : (Jvm.Cond.methodLink "GrassField$House" (267 : Nat) ({ cls := "GrassField$House", name := "could", desc := "(LGrassField$Telling;)Z" } : Jvm.MethodName)) ∈ lw_all := lw_g (lw_at lw_m2 218 rfl) rfl
theorem q561 : (Jvm.Cond.instanceMethod ({ cls := "GrassField$House", name := "could", desc := "(LGrassField$Telling;)Z" } : Jvm.MethodName)) ∈ lw_all := lw_g (lw_at lw_m2 219 rfl) rfl
theorem q562 : (Jvm.Cond.selects "GrassField$House" ({ cls := "GrassField$House", name := "could", desc := "(LGrassField$Telling;)Z" } : Jvm.MethodName) ({ cls := "GrassField$House", name := "could", desc := "(LGrassField$Telling;)Z" } : Jvm.MethodName)) ∈ lw_all := lw_g (lw_at lw_m2 220 rfl) rfl
theorem q563 : (Jvm.Cond.code ({ cls := "GrassField$House", name := "could", desc := "(LGrassField$Telling;)Z" } : Jvm.MethodName) prog_12_method_22_code (3 : Nat) (Option.some Jvm.ClassFile.FieldType.boolean)) ∈ lw_all := lw_g (lw_at lw_m2 221 rfl) rfl
theorem q564 : (Jvm.Cond.methodLink "GrassField$House" (263 : Nat) ({ cls := "GrassField$House", name := "sees", desc := "(II)Z" } : Jvm.MethodName)) ∈ lw_all := lw_g (lw_at lw_m2 222 rfl) rfl
theorem q565 : (Jvm.Cond.instanceMethod ({ cls := "GrassField$House", name := "sees", desc := "(II)Z" } : Jvm.MethodName)) ∈ lw_all := lw_g (lw_at lw_m2 223 rfl) rfl
theorem q566 : (Jvm.Cond.selects "GrassField$House" ({ cls := "GrassField$House", name := "sees", desc := "(II)Z" } : Jvm.MethodName) ({ cls := "GrassField$House", name := "sees", desc := "(II)Z" } : Jvm.MethodName)) ∈ lw_all := lw_g (lw_at lw_m2 224 rfl) rfl
theorem q567 : (Jvm.Cond.code ({ cls := "GrassField$House", name := "sees", desc := "(II)Z" } : Jvm.MethodName) prog_12_method_21_code (10 : Nat) (Option.some Jvm.ClassFile.FieldType.boolean)) ∈ lw_all := lw_g (lw_at lw_m2 225 rfl) rfl
theorem q568 : (Jvm.Cond.methodLink "GrassField$House" (248 : Nat) ({ cls := "java/lang/Math", name := "floorDiv", desc := "(II)I" } : Jvm.MethodName)) ∈ lw_all := lw_g (lw_at lw_m2 226 rfl) rfl
theorem q578 : (Jvm.Cond.instanceMethod ({ cls := "GrassField$House", name := "talked", desc := "(II)Z" } : Jvm.MethodName)) ∈ lw_all := lw_g (lw_at lw_m2 236 rfl) rfl
theorem q579 : (Jvm.Cond.selects "GrassField$House" ({ cls := "GrassField$House", name := "talked", desc := "(II)Z" } : Jvm.MethodName) ({ cls := "GrassField$House", name := "talked", desc := "(II)Z" } : Jvm.MethodName)) ∈ lw_all := lw_g (lw_at lw_m2 237 rfl) rfl
theorem q580 : (Jvm.Cond.code ({ cls := "GrassField$House", name := "talked", desc := "(II)Z" } : Jvm.MethodName) prog_12_method_24_code (6 : Nat) (Option.some Jvm.ClassFile.FieldType.boolean)) ∈ lw_all := lw_g (lw_at lw_m2 238 rfl) rfl
theorem q586 : (Jvm.Cond.instanceMethod ({ cls := "GrassField$House", name := "be", desc := "(LGrassField$House;)V" } : Jvm.MethodName)) ∈ lw_all := lw_g (lw_at lw_m3 4 rfl) rfl
theorem q587 : (Jvm.Cond.selects "GrassField$House" ({ cls := "GrassField$House", name := "be", desc := "(LGrassField$House;)V" } : Jvm.MethodName) ({ cls := "GrassField$House", name := "be", desc := "(LGrassField$House;)V" } : Jvm.MethodName)) ∈ lw_all := lw_g (lw_at lw_m3 5 rfl) rfl
theorem q588 : (Jvm.Cond.code ({ cls := "GrassField$House", name := "be", desc := "(LGrassField$House;)V" } : Jvm.MethodName) prog_12_method_2_code (3 : Nat) (Option.none : Option Jvm.ClassFile.FieldType)) ∈ lw_all := lw_g (lw_at lw_m3 6 rfl) rfl
theorem q589 : (Jvm.Cond.methodLink "GrassField$House" (67 : Nat) ({ cls := "java/lang/System", name := "arraycopy", desc := "(Ljava/lang/Object;ILjava/lang/Object;II)V" } : Jvm.MethodName)) ∈ lw_all := lw_g (lw_at lw_m3 7 rfl) rfl
theorem q593 : (Jvm.Cond.methodLink "GrassField$House" (88 : Nat) ({ cls := "GrassField$Gun", name := "<init>", desc := "(IIII)V" } : Jvm.MethodName)) ∈ lw_all := lw_g (lw_at lw_m3 11 rfl) rfl
theorem q598 : (Jvm.Cond.fieldLinkNest "GrassField$House" (76 : Nat) "GrassField$Gun" "side" "I" "GrassField") ∈ lw_tbl := lw_at lw_m3 16 rfl
theorem q601 : (Jvm.Cond.fieldLinkNest "GrassField$House" (79 : Nat) "GrassField$Gun" "mark" "I" "GrassField") ∈ lw_tbl := lw_at lw_m3 19 rfl
theorem q603 : (Jvm.Cond.fieldLinkNest "GrassField$House" (82 : Nat) "GrassField$Gun" "year" "I" "GrassField") ∈ lw_tbl := lw_at lw_m3 21 rfl
theorem q607 : (Jvm.Cond.fieldLinkNest "GrassField$House" (85 : Nat) "GrassField$Gun" "rounds" "I" "GrassField") ∈ lw_tbl := lw_at lw_m3 25 rfl
theorem q619 : (Jvm.Cond.methodLink "GrassField$House" (94 : Nat) ({ cls := "GrassField$Person", name := "<init>", desc := "(LGrassField$Person;)V" } : Jvm.MethodName)) ∈ lw_all := lw_g (lw_at lw_m3 37 rfl) rfl
theorem q627 : (Jvm.Cond.fieldLinkNest "GrassField$House" (128 : Nat) "GrassField$Person" "side" "I" "GrassField") ∈ lw_tbl := lw_at lw_m3 45 rfl
theorem q630 : (Jvm.Cond.fieldLinkNest "GrassField$House" (187 : Nat) "GrassField$Person" "law" "I" "GrassField") ∈ lw_tbl := lw_at lw_m3 48 rfl
theorem q635 : (Jvm.Cond.fieldLinkNest "GrassField$House" (143 : Nat) "GrassField$Person" "gun" "I" "GrassField") ∈ lw_tbl := lw_at lw_m3 53 rfl
theorem q641 : (Jvm.Cond.fieldLinkNest "GrassField$House" (136 : Nat) "GrassField$Person" "cell" "I" "GrassField") ∈ lw_tbl := lw_at lw_m3 59 rfl
theorem q645 : (Jvm.Cond.fieldLinkNest "GrassField$House" (172 : Nat) "GrassField$Person" "fear" "I" "GrassField") ∈ lw_tbl := lw_at lw_m3 63 rfl
theorem q648 : (Jvm.Cond.fieldLinkNest "GrassField$House" (124 : Nat) "GrassField$Person" "living" "Z" "GrassField") ∈ lw_tbl := lw_at lw_m3 66 rfl
theorem q757 : (Jvm.Cond.static ({ cls := "GrassField$House", name := "isIn", desc := "(III)Z" } : Jvm.MethodName)) ∈ lw_all := lw_g (lw_at lw_m3 175 rfl) rfl
theorem q758 : (Jvm.Cond.code ({ cls := "GrassField$House", name := "isIn", desc := "(III)Z" } : Jvm.MethodName) prog_12_method_18_code (5 : Nat) (Option.some Jvm.ClassFile.FieldType.boolean)) ∈ lw_all := lw_g (lw_at lw_m3 176 rfl) rfl
theorem q759 : (Jvm.Cond.methodLink "GrassField$House" (175 : Nat) ({ cls := "java/lang/Math", name := "min", desc := "(II)I" } : Jvm.MethodName)) ∈ lw_all := lw_g (lw_at lw_m3 177 rfl) rfl
theorem q762 : (Jvm.Cond.methodLink "GrassField$House" (180 : Nat) ({ cls := "java/lang/Math", name := "max", desc := "(II)I" } : Jvm.MethodName)) ∈ lw_all := lw_g (lw_at lw_m3 180 rfl) rfl
theorem q1082 : (Jvm.Cond.instanceMethod ({ cls := "GrassField$House", name := "within", desc := "(LGrassField$Person;Z)I" } : Jvm.MethodName)) ∈ lw_all := lw_g (lw_at lw_m5 20 rfl) rfl
theorem q1083 : (Jvm.Cond.selects "GrassField$House" ({ cls := "GrassField$House", name := "within", desc := "(LGrassField$Person;Z)I" } : Jvm.MethodName) ({ cls := "GrassField$House", name := "within", desc := "(LGrassField$Person;Z)I" } : Jvm.MethodName)) ∈ lw_all := lw_g (lw_at lw_m5 21 rfl) rfl
theorem q1084 : (Jvm.Cond.code ({ cls := "GrassField$House", name := "within", desc := "(LGrassField$Person;Z)I" } : Jvm.MethodName) prog_12_method_6_code (6 : Nat) (Option.some Jvm.ClassFile.FieldType.int)) ∈ lw_all := lw_g (lw_at lw_m5 22 rfl) rfl
theorem q1085 : (Jvm.Cond.methodLink "GrassField$House" (129 : Nat) ({ cls := "GrassField$House", name := "isFoe", desc := "(LGrassField$Person;LGrassField$Person;)Z" } : Jvm.MethodName)) ∈ lw_all := lw_g (lw_at lw_m5 23 rfl) rfl
theorem q1086 : (Jvm.Cond.privateMethod ({ cls := "GrassField$House", name := "isFoe", desc := "(LGrassField$Person;LGrassField$Person;)Z" } : Jvm.MethodName)) ∈ lw_tbl := lw_at lw_m5 24 rfl
theorem q1087 : (Jvm.Cond.instanceMethod ({ cls := "GrassField$House", name := "isFoe", desc := "(LGrassField$Person;LGrassField$Person;)Z" } : Jvm.MethodName)) ∈ lw_all := lw_g (lw_at lw_m5 25 rfl) rfl
theorem q1088 : (Jvm.Cond.code ({ cls := "GrassField$House", name := "isFoe", desc := "(LGrassField$Person;LGrassField$Person;)Z" } : Jvm.MethodName) prog_12_method_3_code (3 : Nat) (Option.some Jvm.ClassFile.FieldType.boolean)) ∈ lw_all := lw_g (lw_at lw_m5 26 rfl) rfl
theorem q1089 : (Jvm.Cond.methodLink "GrassField$House" (133 : Nat) ({ cls := "GrassField$House", name := "isFriend", desc := "(LGrassField$Person;LGrassField$Person;)Z" } : Jvm.MethodName)) ∈ lw_all := lw_g (lw_at lw_m5 27 rfl) rfl
theorem q1090 : (Jvm.Cond.privateMethod ({ cls := "GrassField$House", name := "isFriend", desc := "(LGrassField$Person;LGrassField$Person;)Z" } : Jvm.MethodName)) ∈ lw_tbl := lw_at lw_m5 28 rfl
theorem q1091 : (Jvm.Cond.instanceMethod ({ cls := "GrassField$House", name := "isFriend", desc := "(LGrassField$Person;LGrassField$Person;)Z" } : Jvm.MethodName)) ∈ lw_all := lw_g (lw_at lw_m5 29 rfl) rfl
theorem q1092 : (Jvm.Cond.code ({ cls := "GrassField$House", name := "isFriend", desc := "(LGrassField$Person;LGrassField$Person;)Z" } : Jvm.MethodName) prog_12_method_4_code (3 : Nat) (Option.some Jvm.ClassFile.FieldType.boolean)) ∈ lw_all := lw_g (lw_at lw_m5 30 rfl) rfl
theorem q1116 : (Jvm.Cond.instanceMethod ({ cls := "GrassField$House", name := "goes", desc := "()V" } : Jvm.MethodName)) ∈ lw_all := lw_g (lw_at lw_m5 54 rfl) rfl
theorem q1117 : (Jvm.Cond.selects "GrassField$House" ({ cls := "GrassField$House", name := "goes", desc := "()V" } : Jvm.MethodName) ({ cls := "GrassField$House", name := "goes", desc := "()V" } : Jvm.MethodName)) ∈ lw_all := lw_g (lw_at lw_m5 55 rfl) rfl
theorem q1118 : (Jvm.Cond.code ({ cls := "GrassField$House", name := "goes", desc := "()V" } : Jvm.MethodName) prog_12_method_11_code (2 : Nat) (Option.none : Option Jvm.ClassFile.FieldType)) ∈ lw_all := lw_g (lw_at lw_m5 56 rfl) rfl
theorem q1119 : (Jvm.Cond.methodLink "GrassField$House" (200 : Nat) ({ cls := "GrassField$House", name := "turn", desc := "(LGrassField$Person;)V" } : Jvm.MethodName)) ∈ lw_all := lw_g (lw_at lw_m5 57 rfl) rfl
theorem q1120 : (Jvm.Cond.privateMethod ({ cls := "GrassField$House", name := "turn", desc := "(LGrassField$Person;)V" } : Jvm.MethodName)) ∈ lw_tbl := lw_at lw_m5 58 rfl
theorem q1121 : (Jvm.Cond.instanceMethod ({ cls := "GrassField$House", name := "turn", desc := "(LGrassField$Person;)V" } : Jvm.MethodName)) ∈ lw_all := lw_g (lw_at lw_m5 59 rfl) rfl
theorem q1122 : (Jvm.Cond.code ({ cls := "GrassField$House", name := "turn", desc := "(LGrassField$Person;)V" } : Jvm.MethodName) prog_12_method_10_code (7 : Nat) (Option.none : Option Jvm.ClassFile.FieldType)) ∈ lw_all := lw_g (lw_at lw_m5 60 rfl) rfl
theorem q1123 : (Jvm.Cond.methodLink "GrassField$House" (168 : Nat) ({ cls := "GrassField$House", name := "within", desc := "(LGrassField$Person;Z)I" } : Jvm.MethodName)) ∈ lw_all := lw_g (lw_at lw_m5 61 rfl) rfl
theorem q1124 : (Jvm.Cond.methodLink "GrassField$House" (183 : Nat) ({ cls := "GrassField$House", name := "nearest", desc := "(LGrassField$Person;IZ)I" } : Jvm.MethodName)) ∈ lw_all := lw_g (lw_at lw_m5 62 rfl) rfl
theorem q1125 : (Jvm.Cond.instanceMethod ({ cls := "GrassField$House", name := "nearest", desc := "(LGrassField$Person;IZ)I" } : Jvm.MethodName)) ∈ lw_all := lw_g (lw_at lw_m5 63 rfl) rfl
theorem q1126 : (Jvm.Cond.selects "GrassField$House" ({ cls := "GrassField$House", name := "nearest", desc := "(LGrassField$Person;IZ)I" } : Jvm.MethodName) ({ cls := "GrassField$House", name := "nearest", desc := "(LGrassField$Person;IZ)I" } : Jvm.MethodName)) ∈ lw_all := lw_g (lw_at lw_m5 64 rfl) rfl
theorem q1127 : (Jvm.Cond.code ({ cls := "GrassField$House", name := "nearest", desc := "(LGrassField$Person;IZ)I" } : Jvm.MethodName) prog_12_method_5_code (7 : Nat) (Option.some Jvm.ClassFile.FieldType.int)) ∈ lw_all := lw_g (lw_at lw_m5 65 rfl) rfl
theorem q1128 : (Jvm.Cond.methodLink "GrassField$House" (190 : Nat) ({ cls := "GrassField$Law", name := "of", desc := "([I)LGrassField$Line;" } : Jvm.MethodName)) ∈ lw_all := lw_g (lw_at lw_m5 66 rfl) rfl
theorem q1177 : (Jvm.Cond.methodLink "GrassField$House" (194 : Nat) ({ cls := "GrassField$Line", name := "does", desc := "(LGrassField$House;LGrassField$Person;)V" } : Jvm.MethodName)) ∈ lw_all := lw_g (lw_at lw_m5 115 rfl) rfl
theorem q1204 : (Jvm.Cond.instanceMethod ({ cls := "GrassField$House", name := "shoots", desc := "(LGrassField$Person;LGrassField$Person;)V" } : Jvm.MethodName)) ∈ lw_all := lw_g (lw_at lw_m5 142 rfl) rfl
theorem q1205 : (Jvm.Cond.selects "GrassField$House" ({ cls := "GrassField$House", name := "shoots", desc := "(LGrassField$Person;LGrassField$Person;)V" } : Jvm.MethodName) ({ cls := "GrassField$House", name := "shoots", desc := "(LGrassField$Person;LGrassField$Person;)V" } : Jvm.MethodName)) ∈ lw_all := lw_g (lw_at lw_m5 143 rfl) rfl
theorem q1206 : (Jvm.Cond.code ({ cls := "GrassField$House", name := "shoots", desc := "(LGrassField$Person;LGrassField$Person;)V" } : Jvm.MethodName) prog_12_method_8_code (6 : Nat) (Option.none : Option Jvm.ClassFile.FieldType)) ∈ lw_all := lw_g (lw_at lw_m5 144 rfl) rfl
theorem q1207 : (Jvm.Cond.classLink "GrassField$House" (146 : Nat) "GrassField$Case") ∈ lw_all := lw_g (lw_at lw_m5 145 rfl) rfl
theorem q1209 : (Jvm.Cond.methodLink "GrassField$House" (148 : Nat) ({ cls := "GrassField$Case", name := "<init>", desc := "(IIIII)V" } : Jvm.MethodName)) ∈ lw_all := lw_g (lw_at lw_m5 147 rfl) rfl
theorem q1236 : (Jvm.Cond.methodLink "GrassField$House" (151 : Nat) ({ cls := "GrassField$House", name := "comes", desc := "(LGrassField$Find;)V" } : Jvm.MethodName)) ∈ lw_all := lw_g (lw_at lw_m5 174 rfl) rfl
theorem q1237 : (Jvm.Cond.privateMethod ({ cls := "GrassField$House", name := "comes", desc := "(LGrassField$Find;)V" } : Jvm.MethodName)) ∈ lw_tbl := lw_at lw_m5 175 rfl
theorem q1238 : (Jvm.Cond.instanceMethod ({ cls := "GrassField$House", name := "comes", desc := "(LGrassField$Find;)V" } : Jvm.MethodName)) ∈ lw_all := lw_g (lw_at lw_m5 176 rfl) rfl
theorem q1239 : (Jvm.Cond.code ({ cls := "GrassField$House", name := "comes", desc := "(LGrassField$Find;)V" } : Jvm.MethodName) prog_12_method_7_code (2 : Nat) (Option.none : Option Jvm.ClassFile.FieldType)) ∈ lw_all := lw_g (lw_at lw_m5 177 rfl) rfl
theorem q1240 : (Jvm.Cond.classLink "GrassField$House" (155 : Nat) "GrassField$Ball") ∈ lw_all := lw_g (lw_at lw_m5 178 rfl) rfl
theorem q1242 : (Jvm.Cond.methodLink "GrassField$House" (157 : Nat) ({ cls := "GrassField$Ball", name := "<init>", desc := "(III)V" } : Jvm.MethodName)) ∈ lw_all := lw_g (lw_at lw_m5 180 rfl) rfl
theorem q1252 : (Jvm.Cond.constant "GrassField$House" (160 : Nat) (1103515245 : Int32)) ∈ lw_all := lw_g (lw_at lw_m5 190 rfl) rfl
theorem q1253 : (Jvm.Cond.classLink "GrassField$House" (161 : Nat) "GrassField$Bones") ∈ lw_all := lw_g (lw_at lw_m5 191 rfl) rfl
theorem q1255 : (Jvm.Cond.methodLink "GrassField$House" (163 : Nat) ({ cls := "GrassField$House", name := "numberOf", desc := "(LGrassField$Person;)I" } : Jvm.MethodName)) ∈ lw_all := lw_g (lw_at lw_m5 193 rfl) rfl
theorem q1256 : (Jvm.Cond.privateMethod ({ cls := "GrassField$House", name := "numberOf", desc := "(LGrassField$Person;)I" } : Jvm.MethodName)) ∈ lw_tbl := lw_at lw_m5 194 rfl
theorem q1257 : (Jvm.Cond.instanceMethod ({ cls := "GrassField$House", name := "numberOf", desc := "(LGrassField$Person;)I" } : Jvm.MethodName)) ∈ lw_all := lw_g (lw_at lw_m5 195 rfl) rfl
theorem q1258 : (Jvm.Cond.code ({ cls := "GrassField$House", name := "numberOf", desc := "(LGrassField$Person;)I" } : Jvm.MethodName) prog_12_method_9_code (3 : Nat) (Option.some Jvm.ClassFile.FieldType.int)) ∈ lw_all := lw_g (lw_at lw_m5 196 rfl) rfl
theorem q1259 : (Jvm.Cond.methodLink "GrassField$House" (167 : Nat) ({ cls := "GrassField$Bones", name := "<init>", desc := "(III)V" } : Jvm.MethodName)) ∈ lw_all := lw_g (lw_at lw_m5 197 rfl) rfl
theorem q1337 : (Jvm.Cond.instanceMethod ({ cls := "GrassField$House", name := "mayBe", desc := "(LGrassField$Find;)I" } : Jvm.MethodName)) ∈ lw_all := lw_g (lw_at lw_m6 35 rfl) rfl
theorem q1338 : (Jvm.Cond.selects "GrassField$House" ({ cls := "GrassField$House", name := "mayBe", desc := "(LGrassField$Find;)I" } : Jvm.MethodName) ({ cls := "GrassField$House", name := "mayBe", desc := "(LGrassField$Find;)I" } : Jvm.MethodName)) ∈ lw_all := lw_g (lw_at lw_m6 36 rfl) rfl
theorem q1339 : (Jvm.Cond.code ({ cls := "GrassField$House", name := "mayBe", desc := "(LGrassField$Find;)I" } : Jvm.MethodName) prog_12_method_16_code (4 : Nat) (Option.some Jvm.ClassFile.FieldType.int)) ∈ lw_all := lw_g (lw_at lw_m6 37 rfl) rfl
theorem q1340 : (Jvm.Cond.methodLink "GrassField$House" (224 : Nat) ({ cls := "GrassField$Find", name := "tells", desc := "()I" } : Jvm.MethodName)) ∈ lw_all := lw_g (lw_at lw_m6 38 rfl) rfl
theorem q1373 : (Jvm.Cond.instanceMethod ({ cls := "GrassField$House", name := "needed", desc := "(II)I" } : Jvm.MethodName)) ∈ lw_all := lw_g (lw_at lw_m6 71 rfl) rfl
theorem q1374 : (Jvm.Cond.selects "GrassField$House" ({ cls := "GrassField$House", name := "needed", desc := "(II)I" } : Jvm.MethodName) ({ cls := "GrassField$House", name := "needed", desc := "(II)I" } : Jvm.MethodName)) ∈ lw_all := lw_g (lw_at lw_m6 72 rfl) rfl
theorem q1375 : (Jvm.Cond.code ({ cls := "GrassField$House", name := "needed", desc := "(II)I" } : Jvm.MethodName) prog_12_method_19_code (8 : Nat) (Option.some Jvm.ClassFile.FieldType.int)) ∈ lw_all := lw_g (lw_at lw_m6 73 rfl) rfl
theorem q1376 : (Jvm.Cond.methodLink "GrassField$House" (234 : Nat) ({ cls := "java/lang/Integer", name := "bitCount", desc := "(I)I" } : Jvm.MethodName)) ∈ lw_all := lw_g (lw_at lw_m6 74 rfl) rfl
theorem q1377 : (Jvm.Cond.methodLink "GrassField$House" (231 : Nat) ({ cls := "GrassField$House", name := "isCase", desc := "(I)Z" } : Jvm.MethodName)) ∈ lw_all := lw_g (lw_at lw_m6 75 rfl) rfl
theorem q1378 : (Jvm.Cond.instanceMethod ({ cls := "GrassField$House", name := "isCase", desc := "(I)Z" } : Jvm.MethodName)) ∈ lw_all := lw_g (lw_at lw_m6 76 rfl) rfl
theorem q1379 : (Jvm.Cond.selects "GrassField$House" ({ cls := "GrassField$House", name := "isCase", desc := "(I)Z" } : Jvm.MethodName) ({ cls := "GrassField$House", name := "isCase", desc := "(I)Z" } : Jvm.MethodName)) ∈ lw_all := lw_g (lw_at lw_m6 77 rfl) rfl
theorem q1380 : (Jvm.Cond.code ({ cls := "GrassField$House", name := "isCase", desc := "(I)Z" } : Jvm.MethodName) prog_12_method_15_code (2 : Nat) (Option.some Jvm.ClassFile.FieldType.boolean)) ∈ lw_all := lw_g (lw_at lw_m6 78 rfl) rfl
theorem q1381 : (Jvm.Cond.methodLink "GrassField$House" (244 : Nat) ({ cls := "GrassField$House", name := "isIn", desc := "(III)Z" } : Jvm.MethodName)) ∈ lw_all := lw_g (lw_at lw_m6 79 rfl) rfl
theorem q1382 : (Jvm.Cond.methodLink "GrassField$House" (227 : Nat) ({ cls := "GrassField$House", name := "mayBe", desc := "(LGrassField$Find;)I" } : Jvm.MethodName)) ∈ lw_all := lw_g (lw_at lw_m6 80 rfl) rfl
theorem q1413 : (Jvm.Cond.instanceMethod ({ cls := "GrassField$House", name := "sure", desc := "(I)I" } : Jvm.MethodName)) ∈ lw_all := lw_g (lw_at lw_m6 111 rfl) rfl
theorem q1414 : (Jvm.Cond.selects "GrassField$House" ({ cls := "GrassField$House", name := "sure", desc := "(I)I" } : Jvm.MethodName) ({ cls := "GrassField$House", name := "sure", desc := "(I)I" } : Jvm.MethodName)) ∈ lw_all := lw_g (lw_at lw_m6 112 rfl) rfl
theorem q1415 : (Jvm.Cond.code ({ cls := "GrassField$House", name := "sure", desc := "(I)I" } : Jvm.MethodName) prog_12_method_17_code (3 : Nat) (Option.some Jvm.ClassFile.FieldType.int)) ∈ lw_all := lw_g (lw_at lw_m6 113 rfl) rfl
theorem q1416 : (Jvm.Cond.methodLink "GrassField$House" (239 : Nat) ({ cls := "java/lang/Integer", name := "numberOfTrailingZeros", desc := "(I)I" } : Jvm.MethodName)) ∈ lw_all := lw_g (lw_at lw_m6 114 rfl) rfl
theorem q1494 : (Jvm.Cond.instanceMethod ({ cls := "GrassField$House", name := "heap", desc := "(I)I" } : Jvm.MethodName)) ∈ lw_all := lw_g (lw_at lw_m6 192 rfl) rfl
theorem q1495 : (Jvm.Cond.selects "GrassField$House" ({ cls := "GrassField$House", name := "heap", desc := "(I)I" } : Jvm.MethodName) ({ cls := "GrassField$House", name := "heap", desc := "(I)I" } : Jvm.MethodName)) ∈ lw_all := lw_g (lw_at lw_m6 193 rfl) rfl
theorem q1496 : (Jvm.Cond.code ({ cls := "GrassField$House", name := "heap", desc := "(I)I" } : Jvm.MethodName) prog_12_method_20_code (4 : Nat) (Option.some Jvm.ClassFile.FieldType.int)) ∈ lw_all := lw_g (lw_at lw_m6 194 rfl) rfl
theorem q1526 : (Jvm.Cond.fieldLinkNest "GrassField$House" (261 : Nat) "GrassField$Teller" "cell" "I" "GrassField") ∈ lw_tbl := lw_at lw_m6 224 rfl
theorem q1528 : (Jvm.Cond.fieldLinkNest "GrassField$House" (255 : Nat) "GrassField$Teller" "from" "I" "GrassField") ∈ lw_tbl := lw_at lw_m6 226 rfl
theorem q1530 : (Jvm.Cond.fieldLinkNest "GrassField$House" (258 : Nat) "GrassField$Teller" "till" "I" "GrassField") ∈ lw_tbl := lw_at lw_m6 228 rfl
theorem q1532 : (Jvm.Cond.fieldLinkNest "GrassField$House" (271 : Nat) "GrassField$Teller" "listener" "I" "GrassField") ∈ lw_tbl := lw_at lw_m6 230 rfl
theorem q1560 : (Jvm.Cond.fieldLinkNest "GrassField$House" (251 : Nat) "GrassField$Telling" "teller" "I" "GrassField") ∈ lw_tbl := lw_at lw_m7 18 rfl
theorem q1563 : (Jvm.Cond.fieldLinkNest "GrassField$House" (262 : Nat) "GrassField$Telling" "cell" "I" "GrassField") ∈ lw_tbl := lw_at lw_m7 21 rfl
theorem q1565 : (Jvm.Cond.fieldLinkNest "GrassField$House" (254 : Nat) "GrassField$Telling" "minute" "I" "GrassField") ∈ lw_tbl := lw_at lw_m7 23 rfl
theorem q2266 : (Jvm.Cond.castable "GrassField$House" "java/lang/Object") ∈ lw_tbl := lw_at lw_m10 4 rfl
theorem in_X4 : ∀ w ∈ wsX40, w ∈ lw_all := lw_in wsX40 [360, 362, 364, 366, 368, 370, 372, 374, 376, 378, 380, 382, 384, 386, 388, 390, 392, 394, 396, 398, 400, 402] (by decide +kernel) (by decide +kernel)
theorem q110 : (Jvm.Cond.initialized "GrassField$Track") ∈ lw_all := lw_g (lw_at lw_m1 8 rfl) rfl
theorem q310 : (Jvm.Cond.fieldLinkNest "GrassField$Track" (58 : Nat) "GrassField$House" "heights" "[I" "GrassField") ∈ lw_tbl := lw_at lw_m1 208 rfl
theorem q323 : (Jvm.Cond.fieldLinkNest "GrassField$Track" (40 : Nat) "GrassField$House" "finds" "[LGrassField$Find;" "GrassField") ∈ lw_tbl := lw_at lw_m1 221 rfl
theorem q339 : (Jvm.Cond.fieldLinkNest "GrassField$Track" (31 : Nat) "GrassField$House" "findMany" "I" "GrassField") ∈ lw_tbl := lw_at lw_m1 237 rfl
theorem q407 : (Jvm.Cond.instantiable "GrassField$Track" (5 : Nat)) ∈ lw_all := lw_g (lw_at lw_m2 65 rfl) rfl
theorem q409 : (Jvm.Cond.instanceMethod ({ cls := "GrassField$Track", name := "<init>", desc := "(LGrassField$House;)V" } : Jvm.MethodName)) ∈ lw_all := lw_g (lw_at lw_m2 67 rfl) rfl
theorem q410 : (Jvm.Cond.code ({ cls := "GrassField$Track", name := "<init>", desc := "(LGrassField$House;)V" } : Jvm.MethodName) prog_27_method_1_code (2 : Nat) (Option.none : Option Jvm.ClassFile.FieldType)) ∈ lw_all := lw_g (lw_at lw_m2 68 rfl) rfl
theorem q411 : (Jvm.Cond.methodLink "GrassField$Track" (3 : Nat) ({ cls := "java/lang/Object", name := "<init>", desc := "()V" } : Jvm.MethodName)) ∈ lw_all := lw_g (lw_at lw_m2 69 rfl) rfl
theorem q412 : (Jvm.Cond.classLink "GrassField$Track" (18 : Nat) "[[I") ∈ lw_all := lw_g (lw_at lw_m2 70 rfl) rfl
theorem q414 : (Jvm.Cond.fieldLink "GrassField$Track" (23 : Nat) "GrassField$Track" "h" "LGrassField$House;") ∈ lw_all := lw_g (lw_at lw_m2 72 rfl) rfl
theorem q415 : (Jvm.Cond.fieldLink "GrassField$Track" (9 : Nat) "GrassField$Track" "cases" "[I") ∈ lw_all := lw_g (lw_at lw_m2 73 rfl) rfl
theorem q416 : (Jvm.Cond.fieldLink "GrassField$Track" (15 : Nat) "GrassField$Track" "least" "[I") ∈ lw_all := lw_g (lw_at lw_m2 74 rfl) rfl
theorem q417 : (Jvm.Cond.fieldLink "GrassField$Track" (20 : Nat) "GrassField$Track" "early" "[[I") ∈ lw_all := lw_g (lw_at lw_m2 75 rfl) rfl
theorem q418 : (Jvm.Cond.fieldLink "GrassField$Track" (27 : Nat) "GrassField$Track" "many" "I") ∈ lw_all := lw_g (lw_at lw_m2 76 rfl) rfl
theorem q419 : (Jvm.Cond.laysFinal "GrassField$Track" "GrassField$Track" "h" "LGrassField$House;") ∈ lw_all := lw_g (lw_at lw_m2 77 rfl) rfl
theorem q420 : (Jvm.Cond.soleField "GrassField$Track" "h") ∈ lw_all := lw_g (lw_at lw_m2 78 rfl) rfl
theorem q421 : (Jvm.Cond.laysFinal "GrassField$Track" "GrassField$Track" "cases" "[I") ∈ lw_all := lw_g (lw_at lw_m2 79 rfl) rfl
theorem q422 : (Jvm.Cond.soleField "GrassField$Track" "cases") ∈ lw_all := lw_g (lw_at lw_m2 80 rfl) rfl
theorem q423 : (Jvm.Cond.laysFinal "GrassField$Track" "GrassField$Track" "least" "[I") ∈ lw_all := lw_g (lw_at lw_m2 81 rfl) rfl
theorem q424 : (Jvm.Cond.soleField "GrassField$Track" "least") ∈ lw_all := lw_g (lw_at lw_m2 82 rfl) rfl
theorem q425 : (Jvm.Cond.laysFinal "GrassField$Track" "GrassField$Track" "early" "[[I") ∈ lw_all := lw_g (lw_at lw_m2 83 rfl) rfl
theorem q426 : (Jvm.Cond.soleField "GrassField$Track" "early") ∈ lw_all := lw_g (lw_at lw_m2 84 rfl) rfl
theorem q427 : (Jvm.Cond.lays "GrassField$Track" "GrassField$Track" "many" "I") ∈ lw_all := lw_g (lw_at lw_m2 85 rfl) rfl
theorem q428 : (Jvm.Cond.soleField "GrassField$Track" "many") ∈ lw_all := lw_g (lw_at lw_m2 86 rfl) rfl
theorem q429 : (Jvm.Cond.superclass "GrassField$Track" "java/lang/Object") ∈ lw_all := lw_g (lw_at lw_m2 87 rfl) rfl
theorem q1218 : (Jvm.Cond.fieldLinkNest "GrassField$Track" (62 : Nat) "GrassField$Case" "from" "I" "GrassField") ∈ lw_tbl := lw_at lw_m5 156 rfl
theorem q1221 : (Jvm.Cond.fieldLinkNest "GrassField$Track" (73 : Nat) "GrassField$Case" "till" "I" "GrassField") ∈ lw_tbl := lw_at lw_m5 159 rfl
theorem q1409 : (Jvm.Cond.instanceMethod ({ cls := "GrassField$Track", name := "gather", desc := "(I)V" } : Jvm.MethodName)) ∈ lw_all := lw_g (lw_at lw_m6 107 rfl) rfl
theorem q1410 : (Jvm.Cond.selects "GrassField$Track" ({ cls := "GrassField$Track", name := "gather", desc := "(I)V" } : Jvm.MethodName) ({ cls := "GrassField$Track", name := "gather", desc := "(I)V" } : Jvm.MethodName)) ∈ lw_all := lw_g (lw_at lw_m6 108 rfl) rfl
theorem q1411 : (Jvm.Cond.code ({ cls := "GrassField$Track", name := "gather", desc := "(I)V" } : Jvm.MethodName) prog_27_method_2_code (3 : Nat) (Option.none : Option Jvm.ClassFile.FieldType)) ∈ lw_all := lw_g (lw_at lw_m6 109 rfl) rfl
theorem q1412 : (Jvm.Cond.methodLink "GrassField$Track" (36 : Nat) ({ cls := "GrassField$House", name := "sure", desc := "(I)I" } : Jvm.MethodName)) ∈ lw_all := lw_g (lw_at lw_m6 110 rfl) rfl
theorem q1421 : (Jvm.Cond.instanceMethod ({ cls := "GrassField$Track", name := "hands", desc := "()I" } : Jvm.MethodName)) ∈ lw_all := lw_g (lw_at lw_m6 119 rfl) rfl
theorem q1422 : (Jvm.Cond.selects "GrassField$Track" ({ cls := "GrassField$Track", name := "hands", desc := "()I" } : Jvm.MethodName) ({ cls := "GrassField$Track", name := "hands", desc := "()I" } : Jvm.MethodName)) ∈ lw_all := lw_g (lw_at lw_m6 120 rfl) rfl
theorem q1423 : (Jvm.Cond.code ({ cls := "GrassField$Track", name := "hands", desc := "()I" } : Jvm.MethodName) prog_27_method_7_code (3 : Nat) (Option.some Jvm.ClassFile.FieldType.int)) ∈ lw_all := lw_g (lw_at lw_m6 121 rfl) rfl
theorem q1424 : (Jvm.Cond.methodLink "GrassField$Track" (79 : Nat) ({ cls := "GrassField$Track", name := "leads", desc := "(I)V" } : Jvm.MethodName)) ∈ lw_all := lw_g (lw_at lw_m6 122 rfl) rfl
theorem q1425 : (Jvm.Cond.instanceMethod ({ cls := "GrassField$Track", name := "leads", desc := "(I)V" } : Jvm.MethodName)) ∈ lw_all := lw_g (lw_at lw_m6 123 rfl) rfl
theorem q1426 : (Jvm.Cond.selects "GrassField$Track" ({ cls := "GrassField$Track", name := "leads", desc := "(I)V" } : Jvm.MethodName) ({ cls := "GrassField$Track", name := "leads", desc := "(I)V" } : Jvm.MethodName)) ∈ lw_all := lw_g (lw_at lw_m6 124 rfl) rfl
theorem q1427 : (Jvm.Cond.code ({ cls := "GrassField$Track", name := "leads", desc := "(I)V" } : Jvm.MethodName) prog_27_method_5_code (6 : Nat) (Option.none : Option Jvm.ClassFile.FieldType)) ∈ lw_all := lw_g (lw_at lw_m6 125 rfl) rfl
theorem q1428 : (Jvm.Cond.constant "GrassField$Track" (61 : Nat) (1000000 : Int32)) ∈ lw_all := lw_g (lw_at lw_m6 126 rfl) rfl
theorem q1429 : (Jvm.Cond.methodLink "GrassField$Track" (46 : Nat) ({ cls := "GrassField$Track", name := "at", desc := "(I)LGrassField$Case;" } : Jvm.MethodName)) ∈ lw_all := lw_g (lw_at lw_m6 127 rfl) rfl
theorem q1430 : (Jvm.Cond.privateMethod ({ cls := "GrassField$Track", name := "at", desc := "(I)LGrassField$Case;" } : Jvm.MethodName)) ∈ lw_tbl := lw_at lw_m6 128 rfl
theorem q1431 : (Jvm.Cond.instanceMethod ({ cls := "GrassField$Track", name := "at", desc := "(I)LGrassField$Case;" } : Jvm.MethodName)) ∈ lw_all := lw_g (lw_at lw_m6 129 rfl) rfl
theorem q1432 : (Jvm.Cond.code ({ cls := "GrassField$Track", name := "at", desc := "(I)LGrassField$Case;" } : Jvm.MethodName) prog_27_method_3_code (2 : Nat) (Option.some (Jvm.ClassFile.FieldType.object "GrassField$Case"))) ∈ lw_all := lw_g (lw_at lw_m6 130 rfl) rfl
theorem q1433 : (Jvm.Cond.classLink "GrassField$Track" (44 : Nat) "GrassField$Case") ∈ lw_all := lw_g (lw_at lw_m6 131 rfl) rfl
theorem q1434 : (Jvm.Cond.methodLink "GrassField$Track" (65 : Nat) ({ cls := "GrassField$Track", name := "minutes", desc := "(II)I" } : Jvm.MethodName)) ∈ lw_all := lw_g (lw_at lw_m6 132 rfl) rfl
theorem q1435 : (Jvm.Cond.privateMethod ({ cls := "GrassField$Track", name := "minutes", desc := "(II)I" } : Jvm.MethodName)) ∈ lw_tbl := lw_at lw_m6 133 rfl
theorem q1436 : (Jvm.Cond.instanceMethod ({ cls := "GrassField$Track", name := "minutes", desc := "(II)I" } : Jvm.MethodName)) ∈ lw_all := lw_g (lw_at lw_m6 134 rfl) rfl
theorem q1437 : (Jvm.Cond.code ({ cls := "GrassField$Track", name := "minutes", desc := "(II)I" } : Jvm.MethodName) prog_27_method_4_code (5 : Nat) (Option.some Jvm.ClassFile.FieldType.int)) ∈ lw_all := lw_g (lw_at lw_m6 135 rfl) rfl
theorem q1438 : (Jvm.Cond.methodLink "GrassField$Track" (50 : Nat) ({ cls := "GrassField$Case", name := "cell", desc := "()I" } : Jvm.MethodName)) ∈ lw_all := lw_g (lw_at lw_m6 136 rfl) rfl
theorem q1442 : (Jvm.Cond.methodLinkNest "GrassField$Track" (54 : Nat) ({ cls := "GrassField", name := "far", desc := "(II)I" } : Jvm.MethodName) "GrassField") ∈ lw_tbl := lw_at lw_m6 140 rfl
theorem q1443 : (Jvm.Cond.methodLink "GrassField$Track" (68 : Nat) ({ cls := "java/lang/Math", name := "max", desc := "(II)I" } : Jvm.MethodName)) ∈ lw_all := lw_g (lw_at lw_m6 141 rfl) rfl
theorem q1444 : (Jvm.Cond.methodLink "GrassField$Track" (76 : Nat) ({ cls := "java/lang/Math", name := "min", desc := "(II)I" } : Jvm.MethodName)) ∈ lw_all := lw_g (lw_at lw_m6 142 rfl) rfl
theorem q1445 : (Jvm.Cond.methodLink "GrassField$Track" (83 : Nat) ({ cls := "GrassField$Track", name := "end", desc := "(I)I" } : Jvm.MethodName)) ∈ lw_all := lw_g (lw_at lw_m6 143 rfl) rfl
theorem q1446 : (Jvm.Cond.instanceMethod ({ cls := "GrassField$Track", name := "end", desc := "(I)I" } : Jvm.MethodName)) ∈ lw_all := lw_g (lw_at lw_m6 144 rfl) rfl
theorem q1447 : (Jvm.Cond.selects "GrassField$Track" ({ cls := "GrassField$Track", name := "end", desc := "(I)I" } : Jvm.MethodName) ({ cls := "GrassField$Track", name := "end", desc := "(I)I" } : Jvm.MethodName)) ∈ lw_all := lw_g (lw_at lw_m6 145 rfl) rfl
theorem q1448 : (Jvm.Cond.code ({ cls := "GrassField$Track", name := "end", desc := "(I)I" } : Jvm.MethodName) prog_27_method_6_code (4 : Nat) (Option.some Jvm.ClassFile.FieldType.int)) ∈ lw_all := lw_g (lw_at lw_m6 146 rfl) rfl
theorem q1450 : (Jvm.Cond.instanceMethod ({ cls := "GrassField$Track", name := "last", desc := "()I" } : Jvm.MethodName)) ∈ lw_all := lw_g (lw_at lw_m6 148 rfl) rfl
theorem q1451 : (Jvm.Cond.selects "GrassField$Track" ({ cls := "GrassField$Track", name := "last", desc := "()I" } : Jvm.MethodName) ({ cls := "GrassField$Track", name := "last", desc := "()I" } : Jvm.MethodName)) ∈ lw_all := lw_g (lw_at lw_m6 149 rfl) rfl
theorem q1452 : (Jvm.Cond.code ({ cls := "GrassField$Track", name := "last", desc := "()I" } : Jvm.MethodName) prog_27_method_8_code (2 : Nat) (Option.some Jvm.ClassFile.FieldType.int)) ∈ lw_all := lw_g (lw_at lw_m6 150 rfl) rfl
theorem q1454 : (Jvm.Cond.instanceMethod ({ cls := "GrassField$Track", name := "first", desc := "()I" } : Jvm.MethodName)) ∈ lw_all := lw_g (lw_at lw_m6 152 rfl) rfl
theorem q1455 : (Jvm.Cond.selects "GrassField$Track" ({ cls := "GrassField$Track", name := "first", desc := "()I" } : Jvm.MethodName) ({ cls := "GrassField$Track", name := "first", desc := "()I" } : Jvm.MethodName)) ∈ lw_all := lw_g (lw_at lw_m6 153 rfl) rfl
theorem q1456 : (Jvm.Cond.code ({ cls := "GrassField$Track", name := "first", desc := "()I" } : Jvm.MethodName) prog_27_method_9_code (3 : Nat) (Option.some Jvm.ClassFile.FieldType.int)) ∈ lw_all := lw_g (lw_at lw_m6 154 rfl) rfl
theorem q1457 : (Jvm.Cond.methodLink "GrassField$Track" (86 : Nat) ({ cls := "GrassField$Track", name := "last", desc := "()I" } : Jvm.MethodName)) ∈ lw_all := lw_g (lw_at lw_m6 155 rfl) rfl
theorem q2267 : (Jvm.Cond.castable "GrassField$Track" "java/lang/Object") ∈ lw_tbl := lw_at lw_m10 5 rfl
theorem in_X5 : ∀ w ∈ wsX50, w ∈ lw_all := lw_in wsX50 [419, 421, 423, 425, 427] (by decide +kernel) (by decide +kernel)
theorem q111 : (Jvm.Cond.initialized "GrassFieldModel") ∈ lw_all := lw_g (lw_at lw_m1 9 rfl) rfl
theorem q1661 : (Jvm.Cond.instanceMethod ({ cls := "GrassFieldModel", name := "thrown", desc := "()I" } : Jvm.MethodName)) ∈ lw_all := lw_g (lw_at lw_m7 119 rfl) rfl
theorem q1662 : (Jvm.Cond.selects "GrassFieldModel" ({ cls := "GrassFieldModel", name := "thrown", desc := "()I" } : Jvm.MethodName) ({ cls := "GrassFieldModel", name := "thrown", desc := "()I" } : Jvm.MethodName)) ∈ lw_all := lw_g (lw_at lw_m7 120 rfl) rfl
theorem q1663 : (Jvm.Cond.code ({ cls := "GrassFieldModel", name := "thrown", desc := "()I" } : Jvm.MethodName) prog_30_method_1_code (1 : Nat) (Option.some Jvm.ClassFile.FieldType.int)) ∈ lw_all := lw_g (lw_at lw_m7 121 rfl) rfl
theorem q1665 : (Jvm.Cond.instantiable "GrassFieldModel" (28 : Nat)) ∈ lw_all := lw_g (lw_at lw_m7 123 rfl) rfl
theorem q1667 : (Jvm.Cond.instanceMethod ({ cls := "GrassFieldModel", name := "<init>", desc := "()V" } : Jvm.MethodName)) ∈ lw_all := lw_g (lw_at lw_m7 125 rfl) rfl
theorem q1668 : (Jvm.Cond.code ({ cls := "GrassFieldModel", name := "<init>", desc := "()V" } : Jvm.MethodName) prog_30_method_4_code (1 : Nat) (Option.none : Option Jvm.ClassFile.FieldType)) ∈ lw_all := lw_g (lw_at lw_m7 126 rfl) rfl
theorem q1669 : (Jvm.Cond.methodLink "GrassFieldModel" (7 : Nat) ({ cls := "java/lang/Object", name := "<init>", desc := "()V" } : Jvm.MethodName)) ∈ lw_all := lw_g (lw_at lw_m7 127 rfl) rfl
theorem q1670 : (Jvm.Cond.fieldLink "GrassFieldModel" (3 : Nat) "GrassFieldModel" "thrown" "I") ∈ lw_all := lw_g (lw_at lw_m7 128 rfl) rfl
theorem q1671 : (Jvm.Cond.fieldLink "GrassFieldModel" (13 : Nat) "GrassFieldModel" "world" "[I") ∈ lw_all := lw_g (lw_at lw_m7 129 rfl) rfl
theorem q1672 : (Jvm.Cond.fieldLink "GrassFieldModel" (17 : Nat) "GrassFieldModel" "image" "[I") ∈ lw_all := lw_g (lw_at lw_m7 130 rfl) rfl
theorem q1673 : (Jvm.Cond.fieldLink "GrassFieldModel" (55 : Nat) "GrassFieldModel" "hasImage" "Z") ∈ lw_all := lw_g (lw_at lw_m7 131 rfl) rfl
theorem q1674 : (Jvm.Cond.fieldLink "GrassFieldModel" (20 : Nat) "GrassFieldModel" "tape" "[B") ∈ lw_all := lw_g (lw_at lw_m7 132 rfl) rfl
theorem q1675 : (Jvm.Cond.fieldLink "GrassFieldModel" (103 : Nat) "GrassFieldModel" "taped" "I") ∈ lw_all := lw_g (lw_at lw_m7 133 rfl) rfl
theorem q1676 : (Jvm.Cond.fieldLink "GrassFieldModel" (109 : Nat) "GrassFieldModel" "point" "I") ∈ lw_all := lw_g (lw_at lw_m7 134 rfl) rfl
theorem q1677 : (Jvm.Cond.fieldLink "GrassFieldModel" (106 : Nat) "GrassFieldModel" "last" "I") ∈ lw_all := lw_g (lw_at lw_m7 135 rfl) rfl
theorem q1678 : (Jvm.Cond.fieldLink "GrassFieldModel" (121 : Nat) "GrassFieldModel" "begin" "I") ∈ lw_all := lw_g (lw_at lw_m7 136 rfl) rfl
theorem q1679 : (Jvm.Cond.fieldLink "GrassFieldModel" (115 : Nat) "GrassFieldModel" "deep" "I") ∈ lw_all := lw_g (lw_at lw_m7 137 rfl) rfl
theorem q1680 : (Jvm.Cond.fieldLink "GrassFieldModel" (24 : Nat) "GrassFieldModel" "faultAt" "I") ∈ lw_all := lw_g (lw_at lw_m7 138 rfl) rfl
theorem q1681 : (Jvm.Cond.fieldLink "GrassFieldModel" (27 : Nat) "GrassFieldModel" "five" "[I") ∈ lw_all := lw_g (lw_at lw_m7 139 rfl) rfl
theorem q1682 : (Jvm.Cond.fieldLink "GrassFieldModel" (112 : Nat) "GrassFieldModel" "steps" "I") ∈ lw_all := lw_g (lw_at lw_m7 140 rfl) rfl
theorem q1683 : (Jvm.Cond.fieldLink "GrassFieldModel" (151 : Nat) "GrassFieldModel" "isStory" "Z") ∈ lw_all := lw_g (lw_at lw_m7 141 rfl) rfl
theorem q1684 : (Jvm.Cond.fieldLink "GrassFieldModel" (30 : Nat) "GrassFieldModel" "facts" "[I") ∈ lw_all := lw_g (lw_at lw_m7 142 rfl) rfl
theorem q1685 : (Jvm.Cond.fieldLink "GrassFieldModel" (264 : Nat) "GrassFieldModel" "isArmed" "Z") ∈ lw_all := lw_g (lw_at lw_m7 143 rfl) rfl
theorem q1686 : (Jvm.Cond.fieldLink "GrassFieldModel" (267 : Nat) "GrassFieldModel" "isAlone" "Z") ∈ lw_all := lw_g (lw_at lw_m7 144 rfl) rfl
theorem q1687 : (Jvm.Cond.fieldLink "GrassFieldModel" (270 : Nat) "GrassFieldModel" "mostHeld" "I") ∈ lw_all := lw_g (lw_at lw_m7 145 rfl) rfl
theorem q1688 : (Jvm.Cond.fieldLink "GrassFieldModel" (33 : Nat) "GrassFieldModel" "value" "[I") ∈ lw_all := lw_g (lw_at lw_m7 146 rfl) rfl
theorem q1689 : (Jvm.Cond.fieldLink "GrassFieldModel" (36 : Nat) "GrassFieldModel" "its" "[I") ∈ lw_all := lw_g (lw_at lw_m7 147 rfl) rfl
theorem q1690 : (Jvm.Cond.fieldLink "GrassFieldModel" (365 : Nat) "GrassFieldModel" "itsMany" "I") ∈ lw_all := lw_g (lw_at lw_m7 148 rfl) rfl
theorem q1691 : (Jvm.Cond.fieldLink "GrassFieldModel" (39 : Nat) "GrassFieldModel" "done" "[I") ∈ lw_all := lw_g (lw_at lw_m7 149 rfl) rfl
theorem q1692 : (Jvm.Cond.fieldLink "GrassFieldModel" (42 : Nat) "GrassFieldModel" "hands" "[I") ∈ lw_all := lw_g (lw_at lw_m7 150 rfl) rfl
theorem q1693 : (Jvm.Cond.fieldLink "GrassFieldModel" (45 : Nat) "GrassFieldModel" "xs" "[I") ∈ lw_all := lw_g (lw_at lw_m7 151 rfl) rfl
theorem q1694 : (Jvm.Cond.fieldLink "GrassFieldModel" (387 : Nat) "GrassFieldModel" "xMany" "I") ∈ lw_all := lw_g (lw_at lw_m7 152 rfl) rfl
theorem q1695 : (Jvm.Cond.fieldLink "GrassFieldModel" (48 : Nat) "GrassFieldModel" "bones" "[I") ∈ lw_all := lw_g (lw_at lw_m7 153 rfl) rfl
theorem q1696 : (Jvm.Cond.fieldLink "GrassFieldModel" (422 : Nat) "GrassFieldModel" "boneMany" "I") ∈ lw_all := lw_g (lw_at lw_m7 154 rfl) rfl
theorem q1697 : (Jvm.Cond.fieldLink "GrassFieldModel" (51 : Nat) "GrassFieldModel" "canBe" "[Z") ∈ lw_all := lw_g (lw_at lw_m7 155 rfl) rfl
theorem q1698 : (Jvm.Cond.lays "GrassFieldModel" "GrassFieldModel" "thrown" "I") ∈ lw_all := lw_g (lw_at lw_m7 156 rfl) rfl
theorem q1699 : (Jvm.Cond.soleField "GrassFieldModel" "thrown") ∈ lw_all := lw_g (lw_at lw_m7 157 rfl) rfl
theorem q1700 : (Jvm.Cond.laysFinal "GrassFieldModel" "GrassFieldModel" "world" "[I") ∈ lw_all := lw_g (lw_at lw_m7 158 rfl) rfl
theorem q1701 : (Jvm.Cond.soleField "GrassFieldModel" "world") ∈ lw_all := lw_g (lw_at lw_m7 159 rfl) rfl
theorem q1702 : (Jvm.Cond.laysFinal "GrassFieldModel" "GrassFieldModel" "image" "[I") ∈ lw_all := lw_g (lw_at lw_m7 160 rfl) rfl
theorem q1703 : (Jvm.Cond.soleField "GrassFieldModel" "image") ∈ lw_all := lw_g (lw_at lw_m7 161 rfl) rfl
theorem q1704 : (Jvm.Cond.lays "GrassFieldModel" "GrassFieldModel" "hasImage" "Z") ∈ lw_all := lw_g (lw_at lw_m7 162 rfl) rfl
theorem q1705 : (Jvm.Cond.soleField "GrassFieldModel" "hasImage") ∈ lw_all := lw_g (lw_at lw_m7 163 rfl) rfl
theorem q1706 : (Jvm.Cond.laysFinal "GrassFieldModel" "GrassFieldModel" "tape" "[B") ∈ lw_all := lw_g (lw_at lw_m7 164 rfl) rfl
theorem q1707 : (Jvm.Cond.soleField "GrassFieldModel" "tape") ∈ lw_all := lw_g (lw_at lw_m7 165 rfl) rfl
theorem q1708 : (Jvm.Cond.lays "GrassFieldModel" "GrassFieldModel" "taped" "I") ∈ lw_all := lw_g (lw_at lw_m7 166 rfl) rfl
theorem q1709 : (Jvm.Cond.soleField "GrassFieldModel" "taped") ∈ lw_all := lw_g (lw_at lw_m7 167 rfl) rfl
theorem q1710 : (Jvm.Cond.lays "GrassFieldModel" "GrassFieldModel" "point" "I") ∈ lw_all := lw_g (lw_at lw_m7 168 rfl) rfl
theorem q1711 : (Jvm.Cond.soleField "GrassFieldModel" "point") ∈ lw_all := lw_g (lw_at lw_m7 169 rfl) rfl
theorem q1712 : (Jvm.Cond.lays "GrassFieldModel" "GrassFieldModel" "last" "I") ∈ lw_all := lw_g (lw_at lw_m7 170 rfl) rfl
theorem q1713 : (Jvm.Cond.soleField "GrassFieldModel" "last") ∈ lw_all := lw_g (lw_at lw_m7 171 rfl) rfl
theorem q1714 : (Jvm.Cond.lays "GrassFieldModel" "GrassFieldModel" "begin" "I") ∈ lw_all := lw_g (lw_at lw_m7 172 rfl) rfl
theorem q1715 : (Jvm.Cond.soleField "GrassFieldModel" "begin") ∈ lw_all := lw_g (lw_at lw_m7 173 rfl) rfl
theorem q1716 : (Jvm.Cond.lays "GrassFieldModel" "GrassFieldModel" "deep" "I") ∈ lw_all := lw_g (lw_at lw_m7 174 rfl) rfl
theorem q1717 : (Jvm.Cond.soleField "GrassFieldModel" "deep") ∈ lw_all := lw_g (lw_at lw_m7 175 rfl) rfl
theorem q1718 : (Jvm.Cond.lays "GrassFieldModel" "GrassFieldModel" "faultAt" "I") ∈ lw_all := lw_g (lw_at lw_m7 176 rfl) rfl
theorem q1719 : (Jvm.Cond.soleField "GrassFieldModel" "faultAt") ∈ lw_all := lw_g (lw_at lw_m7 177 rfl) rfl
theorem q1720 : (Jvm.Cond.laysFinal "GrassFieldModel" "GrassFieldModel" "five" "[I") ∈ lw_all := lw_g (lw_at lw_m7 178 rfl) rfl
theorem q1721 : (Jvm.Cond.soleField "GrassFieldModel" "five") ∈ lw_all := lw_g (lw_at lw_m7 179 rfl) rfl
theorem q1722 : (Jvm.Cond.lays "GrassFieldModel" "GrassFieldModel" "steps" "I") ∈ lw_all := lw_g (lw_at lw_m7 180 rfl) rfl
theorem q1723 : (Jvm.Cond.soleField "GrassFieldModel" "steps") ∈ lw_all := lw_g (lw_at lw_m7 181 rfl) rfl
theorem q1724 : (Jvm.Cond.lays "GrassFieldModel" "GrassFieldModel" "isStory" "Z") ∈ lw_all := lw_g (lw_at lw_m7 182 rfl) rfl
theorem q1725 : (Jvm.Cond.soleField "GrassFieldModel" "isStory") ∈ lw_all := lw_g (lw_at lw_m7 183 rfl) rfl
theorem q1726 : (Jvm.Cond.laysFinal "GrassFieldModel" "GrassFieldModel" "facts" "[I") ∈ lw_all := lw_g (lw_at lw_m7 184 rfl) rfl
theorem q1727 : (Jvm.Cond.soleField "GrassFieldModel" "facts") ∈ lw_all := lw_g (lw_at lw_m7 185 rfl) rfl
theorem q1728 : (Jvm.Cond.lays "GrassFieldModel" "GrassFieldModel" "isArmed" "Z") ∈ lw_all := lw_g (lw_at lw_m7 186 rfl) rfl
theorem q1729 : (Jvm.Cond.soleField "GrassFieldModel" "isArmed") ∈ lw_all := lw_g (lw_at lw_m7 187 rfl) rfl
theorem q1730 : (Jvm.Cond.lays "GrassFieldModel" "GrassFieldModel" "isAlone" "Z") ∈ lw_all := lw_g (lw_at lw_m7 188 rfl) rfl
theorem q1731 : (Jvm.Cond.soleField "GrassFieldModel" "isAlone") ∈ lw_all := lw_g (lw_at lw_m7 189 rfl) rfl
theorem q1732 : (Jvm.Cond.lays "GrassFieldModel" "GrassFieldModel" "mostHeld" "I") ∈ lw_all := lw_g (lw_at lw_m7 190 rfl) rfl
theorem q1733 : (Jvm.Cond.soleField "GrassFieldModel" "mostHeld") ∈ lw_all := lw_g (lw_at lw_m7 191 rfl) rfl
theorem q1734 : (Jvm.Cond.laysFinal "GrassFieldModel" "GrassFieldModel" "value" "[I") ∈ lw_all := lw_g (lw_at lw_m7 192 rfl) rfl
theorem q1735 : (Jvm.Cond.soleField "GrassFieldModel" "value") ∈ lw_all := lw_g (lw_at lw_m7 193 rfl) rfl
theorem q1736 : (Jvm.Cond.laysFinal "GrassFieldModel" "GrassFieldModel" "its" "[I") ∈ lw_all := lw_g (lw_at lw_m7 194 rfl) rfl
theorem q1737 : (Jvm.Cond.soleField "GrassFieldModel" "its") ∈ lw_all := lw_g (lw_at lw_m7 195 rfl) rfl
theorem q1738 : (Jvm.Cond.lays "GrassFieldModel" "GrassFieldModel" "itsMany" "I") ∈ lw_all := lw_g (lw_at lw_m7 196 rfl) rfl
theorem q1739 : (Jvm.Cond.soleField "GrassFieldModel" "itsMany") ∈ lw_all := lw_g (lw_at lw_m7 197 rfl) rfl
theorem q1740 : (Jvm.Cond.laysFinal "GrassFieldModel" "GrassFieldModel" "done" "[I") ∈ lw_all := lw_g (lw_at lw_m7 198 rfl) rfl
theorem q1741 : (Jvm.Cond.soleField "GrassFieldModel" "done") ∈ lw_all := lw_g (lw_at lw_m7 199 rfl) rfl
theorem q1742 : (Jvm.Cond.laysFinal "GrassFieldModel" "GrassFieldModel" "hands" "[I") ∈ lw_all := lw_g (lw_at lw_m7 200 rfl) rfl
theorem q1743 : (Jvm.Cond.soleField "GrassFieldModel" "hands") ∈ lw_all := lw_g (lw_at lw_m7 201 rfl) rfl
theorem q1744 : (Jvm.Cond.laysFinal "GrassFieldModel" "GrassFieldModel" "xs" "[I") ∈ lw_all := lw_g (lw_at lw_m7 202 rfl) rfl
theorem q1745 : (Jvm.Cond.soleField "GrassFieldModel" "xs") ∈ lw_all := lw_g (lw_at lw_m7 203 rfl) rfl
theorem q1746 : (Jvm.Cond.lays "GrassFieldModel" "GrassFieldModel" "xMany" "I") ∈ lw_all := lw_g (lw_at lw_m7 204 rfl) rfl
theorem q1747 : (Jvm.Cond.soleField "GrassFieldModel" "xMany") ∈ lw_all := lw_g (lw_at lw_m7 205 rfl) rfl
theorem q1748 : (Jvm.Cond.laysFinal "GrassFieldModel" "GrassFieldModel" "bones" "[I") ∈ lw_all := lw_g (lw_at lw_m7 206 rfl) rfl
theorem q1749 : (Jvm.Cond.soleField "GrassFieldModel" "bones") ∈ lw_all := lw_g (lw_at lw_m7 207 rfl) rfl
theorem q1750 : (Jvm.Cond.lays "GrassFieldModel" "GrassFieldModel" "boneMany" "I") ∈ lw_all := lw_g (lw_at lw_m7 208 rfl) rfl
theorem q1751 : (Jvm.Cond.soleField "GrassFieldModel" "boneMany") ∈ lw_all := lw_g (lw_at lw_m7 209 rfl) rfl
theorem q1752 : (Jvm.Cond.laysFinal "GrassFieldModel" "GrassFieldModel" "canBe" "[Z") ∈ lw_all := lw_g (lw_at lw_m7 210 rfl) rfl
theorem q1753 : (Jvm.Cond.soleField "GrassFieldModel" "canBe") ∈ lw_all := lw_g (lw_at lw_m7 211 rfl) rfl
theorem q1754 : (Jvm.Cond.superclass "GrassFieldModel" "java/lang/Object") ∈ lw_all := lw_g (lw_at lw_m7 212 rfl) rfl
theorem q1757 : (Jvm.Cond.instanceMethod ({ cls := "GrassFieldModel", name := "image", desc := "()V" } : Jvm.MethodName)) ∈ lw_all := lw_g (lw_at lw_m7 215 rfl) rfl
theorem q1758 : (Jvm.Cond.selects "GrassFieldModel" ({ cls := "GrassFieldModel", name := "image", desc := "()V" } : Jvm.MethodName) ({ cls := "GrassFieldModel", name := "image", desc := "()V" } : Jvm.MethodName)) ∈ lw_all := lw_g (lw_at lw_m7 216 rfl) rfl
theorem q1759 : (Jvm.Cond.code ({ cls := "GrassFieldModel", name := "image", desc := "()V" } : Jvm.MethodName) prog_30_method_5_code (2 : Nat) (Option.none : Option Jvm.ClassFile.FieldType)) ∈ lw_all := lw_g (lw_at lw_m7 217 rfl) rfl
theorem q1761 : (Jvm.Cond.instanceMethod ({ cls := "GrassFieldModel", name := "back", desc := "()Z" } : Jvm.MethodName)) ∈ lw_all := lw_g (lw_at lw_m7 219 rfl) rfl
theorem q1762 : (Jvm.Cond.selects "GrassFieldModel" ({ cls := "GrassFieldModel", name := "back", desc := "()Z" } : Jvm.MethodName) ({ cls := "GrassFieldModel", name := "back", desc := "()Z" } : Jvm.MethodName)) ∈ lw_all := lw_g (lw_at lw_m7 220 rfl) rfl
theorem q1763 : (Jvm.Cond.code ({ cls := "GrassFieldModel", name := "back", desc := "()Z" } : Jvm.MethodName) prog_30_method_6_code (2 : Nat) (Option.some Jvm.ClassFile.FieldType.boolean)) ∈ lw_all := lw_g (lw_at lw_m7 221 rfl) rfl
theorem q1765 : (Jvm.Cond.instanceMethod ({ cls := "GrassFieldModel", name := "ground", desc := "(III)V" } : Jvm.MethodName)) ∈ lw_all := lw_g (lw_at lw_m7 223 rfl) rfl
theorem q1766 : (Jvm.Cond.selects "GrassFieldModel" ({ cls := "GrassFieldModel", name := "ground", desc := "(III)V" } : Jvm.MethodName) ({ cls := "GrassFieldModel", name := "ground", desc := "(III)V" } : Jvm.MethodName)) ∈ lw_all := lw_g (lw_at lw_m7 224 rfl) rfl
theorem q1767 : (Jvm.Cond.code ({ cls := "GrassFieldModel", name := "ground", desc := "(III)V" } : Jvm.MethodName) prog_30_method_12_code (5 : Nat) (Option.none : Option Jvm.ClassFile.FieldType)) ∈ lw_all := lw_g (lw_at lw_m7 225 rfl) rfl
theorem q1768 : (Jvm.Cond.methodLink "GrassFieldModel" (76 : Nat) ({ cls := "GrassFieldModel", name := "noCell", desc := "(I)Z" } : Jvm.MethodName)) ∈ lw_all := lw_g (lw_at lw_m7 226 rfl) rfl
theorem q1769 : (Jvm.Cond.static ({ cls := "GrassFieldModel", name := "noCell", desc := "(I)Z" } : Jvm.MethodName)) ∈ lw_all := lw_g (lw_at lw_m7 227 rfl) rfl
theorem q1770 : (Jvm.Cond.code ({ cls := "GrassFieldModel", name := "noCell", desc := "(I)Z" } : Jvm.MethodName) prog_30_method_8_code (1 : Nat) (Option.some Jvm.ClassFile.FieldType.boolean)) ∈ lw_all := lw_g (lw_at lw_m7 228 rfl) rfl
theorem q1771 : (Jvm.Cond.methodLink "GrassFieldModel" (59 : Nat) ({ cls := "GrassFieldModel", name := "in", desc := "(III)Z" } : Jvm.MethodName)) ∈ lw_all := lw_g (lw_at lw_m7 229 rfl) rfl
theorem q1772 : (Jvm.Cond.static ({ cls := "GrassFieldModel", name := "in", desc := "(III)Z" } : Jvm.MethodName)) ∈ lw_all := lw_g (lw_at lw_m7 230 rfl) rfl
theorem q1773 : (Jvm.Cond.code ({ cls := "GrassFieldModel", name := "in", desc := "(III)Z" } : Jvm.MethodName) prog_30_method_3_code (3 : Nat) (Option.some Jvm.ClassFile.FieldType.boolean)) ∈ lw_all := lw_g (lw_at lw_m7 231 rfl) rfl
theorem q1774 : (Jvm.Cond.methodLink "GrassFieldModel" (80 : Nat) ({ cls := "GrassFieldModel", name := "throwsIf", desc := "(ZI)Z" } : Jvm.MethodName)) ∈ lw_all := lw_g (lw_at lw_m7 232 rfl) rfl
theorem q1775 : (Jvm.Cond.privateMethod ({ cls := "GrassFieldModel", name := "throwsIf", desc := "(ZI)Z" } : Jvm.MethodName)) ∈ lw_tbl := lw_at lw_m7 233 rfl
theorem q1776 : (Jvm.Cond.instanceMethod ({ cls := "GrassFieldModel", name := "throwsIf", desc := "(ZI)Z" } : Jvm.MethodName)) ∈ lw_all := lw_g (lw_at lw_m7 234 rfl) rfl
theorem q1777 : (Jvm.Cond.code ({ cls := "GrassFieldModel", name := "throwsIf", desc := "(ZI)Z" } : Jvm.MethodName) prog_30_method_2_code (3 : Nat) (Option.some Jvm.ClassFile.FieldType.boolean)) ∈ lw_all := lw_g (lw_at lw_m7 235 rfl) rfl
theorem q1778 : (Jvm.Cond.methodLink "GrassFieldModel" (84 : Nat) ({ cls := "GrassFieldModel", name := "isInArea", desc := "(III)Z" } : Jvm.MethodName)) ∈ lw_all := lw_g (lw_at lw_m7 236 rfl) rfl
theorem q1779 : (Jvm.Cond.static ({ cls := "GrassFieldModel", name := "isInArea", desc := "(III)Z" } : Jvm.MethodName)) ∈ lw_all := lw_g (lw_at lw_m7 237 rfl) rfl
theorem q1780 : (Jvm.Cond.code ({ cls := "GrassFieldModel", name := "isInArea", desc := "(III)Z" } : Jvm.MethodName) prog_30_method_11_code (3 : Nat) (Option.some Jvm.ClassFile.FieldType.boolean)) ∈ lw_all := lw_g (lw_at lw_m7 238 rfl) rfl
theorem q1781 : (Jvm.Cond.methodLink "GrassFieldModel" (73 : Nat) ({ cls := "java/lang/Math", name := "min", desc := "(II)I" } : Jvm.MethodName)) ∈ lw_all := lw_g (lw_at lw_m7 239 rfl) rfl
theorem q1782 : (Jvm.Cond.methodLink "GrassFieldModel" (69 : Nat) ({ cls := "java/lang/Math", name := "max", desc := "(II)I" } : Jvm.MethodName)) ∈ lw_all := lw_g (lw_at lw_m8 0 rfl) rfl
theorem q1784 : (Jvm.Cond.instanceMethod ({ cls := "GrassFieldModel", name := "height", desc := "(I)I" } : Jvm.MethodName)) ∈ lw_all := lw_g (lw_at lw_m8 2 rfl) rfl
theorem q1785 : (Jvm.Cond.selects "GrassFieldModel" ({ cls := "GrassFieldModel", name := "height", desc := "(I)I" } : Jvm.MethodName) ({ cls := "GrassFieldModel", name := "height", desc := "(I)I" } : Jvm.MethodName)) ∈ lw_all := lw_g (lw_at lw_m8 3 rfl) rfl
theorem q1786 : (Jvm.Cond.code ({ cls := "GrassFieldModel", name := "height", desc := "(I)I" } : Jvm.MethodName) prog_30_method_13_code (2 : Nat) (Option.some Jvm.ClassFile.FieldType.int)) ∈ lw_all := lw_g (lw_at lw_m8 4 rfl) rfl
theorem q1788 : (Jvm.Cond.instanceMethod ({ cls := "GrassFieldModel", name := "sees", desc := "(II)Z" } : Jvm.MethodName)) ∈ lw_all := lw_g (lw_at lw_m8 6 rfl) rfl
theorem q1789 : (Jvm.Cond.selects "GrassFieldModel" ({ cls := "GrassFieldModel", name := "sees", desc := "(II)Z" } : Jvm.MethodName) ({ cls := "GrassFieldModel", name := "sees", desc := "(II)Z" } : Jvm.MethodName)) ∈ lw_all := lw_g (lw_at lw_m8 7 rfl) rfl
theorem q1790 : (Jvm.Cond.code ({ cls := "GrassFieldModel", name := "sees", desc := "(II)Z" } : Jvm.MethodName) prog_30_method_16_code (3 : Nat) (Option.some Jvm.ClassFile.FieldType.boolean)) ∈ lw_all := lw_g (lw_at lw_m8 8 rfl) rfl
theorem q1791 : (Jvm.Cond.methodLink "GrassFieldModel" (96 : Nat) ({ cls := "GrassFieldModel", name := "isSeenFrom", desc := "(II)Z" } : Jvm.MethodName)) ∈ lw_all := lw_g (lw_at lw_m8 9 rfl) rfl
theorem q1792 : (Jvm.Cond.privateMethod ({ cls := "GrassFieldModel", name := "isSeenFrom", desc := "(II)Z" } : Jvm.MethodName)) ∈ lw_tbl := lw_at lw_m8 10 rfl
theorem q1793 : (Jvm.Cond.instanceMethod ({ cls := "GrassFieldModel", name := "isSeenFrom", desc := "(II)Z" } : Jvm.MethodName)) ∈ lw_all := lw_g (lw_at lw_m8 11 rfl) rfl
theorem q1794 : (Jvm.Cond.code ({ cls := "GrassFieldModel", name := "isSeenFrom", desc := "(II)Z" } : Jvm.MethodName) prog_30_method_15_code (7 : Nat) (Option.some Jvm.ClassFile.FieldType.boolean)) ∈ lw_all := lw_g (lw_at lw_m8 12 rfl) rfl
theorem q1795 : (Jvm.Cond.methodLink "GrassFieldModel" (90 : Nat) ({ cls := "GrassFieldModel", name := "far", desc := "(II)I" } : Jvm.MethodName)) ∈ lw_all := lw_g (lw_at lw_m8 13 rfl) rfl
theorem q1796 : (Jvm.Cond.static ({ cls := "GrassFieldModel", name := "far", desc := "(II)I" } : Jvm.MethodName)) ∈ lw_all := lw_g (lw_at lw_m8 14 rfl) rfl
theorem q1797 : (Jvm.Cond.code ({ cls := "GrassFieldModel", name := "far", desc := "(II)I" } : Jvm.MethodName) prog_30_method_10_code (2 : Nat) (Option.some Jvm.ClassFile.FieldType.int)) ∈ lw_all := lw_g (lw_at lw_m8 15 rfl) rfl
theorem q1798 : (Jvm.Cond.methodLink "GrassFieldModel" (63 : Nat) ({ cls := "java/lang/Math", name := "abs", desc := "(I)I" } : Jvm.MethodName)) ∈ lw_all := lw_g (lw_at lw_m8 16 rfl) rfl
theorem q1799 : (Jvm.Cond.methodLink "GrassFieldModel" (93 : Nat) ({ cls := "GrassFieldModel", name := "nearest", desc := "(II)I" } : Jvm.MethodName)) ∈ lw_all := lw_g (lw_at lw_m8 17 rfl) rfl
theorem q1800 : (Jvm.Cond.static ({ cls := "GrassFieldModel", name := "nearest", desc := "(II)I" } : Jvm.MethodName)) ∈ lw_all := lw_g (lw_at lw_m8 18 rfl) rfl
theorem q1801 : (Jvm.Cond.code ({ cls := "GrassFieldModel", name := "nearest", desc := "(II)I" } : Jvm.MethodName) prog_30_method_14_code (2 : Nat) (Option.some Jvm.ClassFile.FieldType.int)) ∈ lw_all := lw_g (lw_at lw_m8 19 rfl) rfl
theorem q1802 : (Jvm.Cond.methodLink "GrassFieldModel" (87 : Nat) ({ cls := "java/lang/Math", name := "floorDiv", desc := "(II)I" } : Jvm.MethodName)) ∈ lw_all := lw_g (lw_at lw_m8 20 rfl) rfl
theorem q1804 : (Jvm.Cond.instanceMethod ({ cls := "GrassFieldModel", name := "gun", desc := "(IIII)I" } : Jvm.MethodName)) ∈ lw_all := lw_g (lw_at lw_m8 22 rfl) rfl
theorem q1805 : (Jvm.Cond.selects "GrassFieldModel" ({ cls := "GrassFieldModel", name := "gun", desc := "(IIII)I" } : Jvm.MethodName) ({ cls := "GrassFieldModel", name := "gun", desc := "(IIII)I" } : Jvm.MethodName)) ∈ lw_all := lw_g (lw_at lw_m8 23 rfl) rfl
theorem q1806 : (Jvm.Cond.code ({ cls := "GrassFieldModel", name := "gun", desc := "(IIII)I" } : Jvm.MethodName) prog_30_method_17_code (6 : Nat) (Option.some Jvm.ClassFile.FieldType.int)) ∈ lw_all := lw_g (lw_at lw_m8 24 rfl) rfl
theorem q1807 : (Jvm.Cond.methodLink "GrassFieldModel" (100 : Nat) ({ cls := "GrassFieldModel", name := "noYear", desc := "(I)Z" } : Jvm.MethodName)) ∈ lw_all := lw_g (lw_at lw_m8 25 rfl) rfl
theorem q1808 : (Jvm.Cond.static ({ cls := "GrassFieldModel", name := "noYear", desc := "(I)Z" } : Jvm.MethodName)) ∈ lw_all := lw_g (lw_at lw_m8 26 rfl) rfl
theorem q1809 : (Jvm.Cond.code ({ cls := "GrassFieldModel", name := "noYear", desc := "(I)Z" } : Jvm.MethodName) prog_30_method_9_code (1 : Nat) (Option.some Jvm.ClassFile.FieldType.boolean)) ∈ lw_all := lw_g (lw_at lw_m8 27 rfl) rfl
theorem q1811 : (Jvm.Cond.instanceMethod ({ cls := "GrassFieldModel", name := "day", desc := "(I)V" } : Jvm.MethodName)) ∈ lw_all := lw_g (lw_at lw_m8 29 rfl) rfl
theorem q1812 : (Jvm.Cond.selects "GrassFieldModel" ({ cls := "GrassFieldModel", name := "day", desc := "(I)V" } : Jvm.MethodName) ({ cls := "GrassFieldModel", name := "day", desc := "(I)V" } : Jvm.MethodName)) ∈ lw_all := lw_g (lw_at lw_m8 30 rfl) rfl
theorem q1813 : (Jvm.Cond.code ({ cls := "GrassFieldModel", name := "day", desc := "(I)V" } : Jvm.MethodName) prog_30_method_18_code (2 : Nat) (Option.none : Option Jvm.ClassFile.FieldType)) ∈ lw_all := lw_g (lw_at lw_m8 31 rfl) rfl
theorem q1815 : (Jvm.Cond.instanceMethod ({ cls := "GrassFieldModel", name := "feed", desc := "(IIIII)I" } : Jvm.MethodName)) ∈ lw_all := lw_g (lw_at lw_m8 33 rfl) rfl
theorem q1816 : (Jvm.Cond.selects "GrassFieldModel" ({ cls := "GrassFieldModel", name := "feed", desc := "(IIIII)I" } : Jvm.MethodName) ({ cls := "GrassFieldModel", name := "feed", desc := "(IIIII)I" } : Jvm.MethodName)) ∈ lw_all := lw_g (lw_at lw_m8 34 rfl) rfl
theorem q1817 : (Jvm.Cond.code ({ cls := "GrassFieldModel", name := "feed", desc := "(IIIII)I" } : Jvm.MethodName) prog_30_method_19_code (7 : Nat) (Option.some Jvm.ClassFile.FieldType.int)) ∈ lw_all := lw_g (lw_at lw_m8 35 rfl) rfl
theorem q1819 : (Jvm.Cond.instanceMethod ({ cls := "GrassFieldModel", name := "end", desc := "(I)Z" } : Jvm.MethodName)) ∈ lw_all := lw_g (lw_at lw_m8 37 rfl) rfl
theorem q1820 : (Jvm.Cond.selects "GrassFieldModel" ({ cls := "GrassFieldModel", name := "end", desc := "(I)Z" } : Jvm.MethodName) ({ cls := "GrassFieldModel", name := "end", desc := "(I)Z" } : Jvm.MethodName)) ∈ lw_all := lw_g (lw_at lw_m8 38 rfl) rfl
theorem q1821 : (Jvm.Cond.code ({ cls := "GrassFieldModel", name := "end", desc := "(I)Z" } : Jvm.MethodName) prog_30_method_20_code (2 : Nat) (Option.some Jvm.ClassFile.FieldType.boolean)) ∈ lw_all := lw_g (lw_at lw_m8 39 rfl) rfl
theorem q1823 : (Jvm.Cond.instanceMethod ({ cls := "GrassFieldModel", name := "fault", desc := "()I" } : Jvm.MethodName)) ∈ lw_all := lw_g (lw_at lw_m8 41 rfl) rfl
theorem q1824 : (Jvm.Cond.selects "GrassFieldModel" ({ cls := "GrassFieldModel", name := "fault", desc := "()I" } : Jvm.MethodName) ({ cls := "GrassFieldModel", name := "fault", desc := "()I" } : Jvm.MethodName)) ∈ lw_all := lw_g (lw_at lw_m8 42 rfl) rfl
theorem q1825 : (Jvm.Cond.code ({ cls := "GrassFieldModel", name := "fault", desc := "()I" } : Jvm.MethodName) prog_30_method_29_code (1 : Nat) (Option.some Jvm.ClassFile.FieldType.int)) ∈ lw_all := lw_g (lw_at lw_m8 43 rfl) rfl
theorem q1827 : (Jvm.Cond.instanceMethod ({ cls := "GrassFieldModel", name := "law", desc := "()I" } : Jvm.MethodName)) ∈ lw_all := lw_g (lw_at lw_m8 45 rfl) rfl
theorem q1828 : (Jvm.Cond.selects "GrassFieldModel" ({ cls := "GrassFieldModel", name := "law", desc := "()I" } : Jvm.MethodName) ({ cls := "GrassFieldModel", name := "law", desc := "()I" } : Jvm.MethodName)) ∈ lw_all := lw_g (lw_at lw_m8 46 rfl) rfl
theorem q1829 : (Jvm.Cond.code ({ cls := "GrassFieldModel", name := "law", desc := "()I" } : Jvm.MethodName) prog_30_method_47_code (1 : Nat) (Option.some Jvm.ClassFile.FieldType.int)) ∈ lw_all := lw_g (lw_at lw_m8 47 rfl) rfl
theorem q1830 : (Jvm.Cond.methodLink "GrassFieldModel" (256 : Nat) ({ cls := "GrassFieldModel", name := "reads", desc := "(Z)Z" } : Jvm.MethodName)) ∈ lw_all := lw_g (lw_at lw_m8 48 rfl) rfl
theorem q1831 : (Jvm.Cond.privateMethod ({ cls := "GrassFieldModel", name := "reads", desc := "(Z)Z" } : Jvm.MethodName)) ∈ lw_tbl := lw_at lw_m8 49 rfl
theorem q1832 : (Jvm.Cond.instanceMethod ({ cls := "GrassFieldModel", name := "reads", desc := "(Z)Z" } : Jvm.MethodName)) ∈ lw_all := lw_g (lw_at lw_m8 50 rfl) rfl
theorem q1833 : (Jvm.Cond.code ({ cls := "GrassFieldModel", name := "reads", desc := "(Z)Z" } : Jvm.MethodName) prog_30_method_45_code (3 : Nat) (Option.some Jvm.ClassFile.FieldType.boolean)) ∈ lw_all := lw_g (lw_at lw_m8 51 rfl) rfl
theorem q1834 : (Jvm.Cond.methodLink "GrassFieldModel" (247 : Nat) ({ cls := "GrassFieldModel", name := "uses", desc := "()V" } : Jvm.MethodName)) ∈ lw_all := lw_g (lw_at lw_m8 52 rfl) rfl
theorem q1835 : (Jvm.Cond.privateMethod ({ cls := "GrassFieldModel", name := "uses", desc := "()V" } : Jvm.MethodName)) ∈ lw_tbl := lw_at lw_m8 53 rfl
theorem q1836 : (Jvm.Cond.instanceMethod ({ cls := "GrassFieldModel", name := "uses", desc := "()V" } : Jvm.MethodName)) ∈ lw_all := lw_g (lw_at lw_m8 54 rfl) rfl
theorem q1837 : (Jvm.Cond.code ({ cls := "GrassFieldModel", name := "uses", desc := "()V" } : Jvm.MethodName) prog_30_method_21_code (1 : Nat) (Option.none : Option Jvm.ClassFile.FieldType)) ∈ lw_all := lw_g (lw_at lw_m8 55 rfl) rfl
theorem q1838 : (Jvm.Cond.methodLink "GrassFieldModel" (250 : Nat) ({ cls := "GrassFieldModel", name := "readOne", desc := "()I" } : Jvm.MethodName)) ∈ lw_all := lw_g (lw_at lw_m8 56 rfl) rfl
theorem q1839 : (Jvm.Cond.privateMethod ({ cls := "GrassFieldModel", name := "readOne", desc := "()I" } : Jvm.MethodName)) ∈ lw_tbl := lw_at lw_m8 57 rfl
theorem q1840 : (Jvm.Cond.instanceMethod ({ cls := "GrassFieldModel", name := "readOne", desc := "()I" } : Jvm.MethodName)) ∈ lw_all := lw_g (lw_at lw_m8 58 rfl) rfl
theorem q1841 : (Jvm.Cond.code ({ cls := "GrassFieldModel", name := "readOne", desc := "()I" } : Jvm.MethodName) prog_30_method_44_code (2 : Nat) (Option.some Jvm.ClassFile.FieldType.int)) ∈ lw_all := lw_g (lw_at lw_m8 59 rfl) rfl
theorem q1842 : (Jvm.Cond.methodLink "GrassFieldModel" (229 : Nat) ({ cls := "GrassFieldModel", name := "lineAt", desc := "(II)I" } : Jvm.MethodName)) ∈ lw_all := lw_g (lw_at lw_m8 60 rfl) rfl
theorem q1843 : (Jvm.Cond.static ({ cls := "GrassFieldModel", name := "lineAt", desc := "(II)I" } : Jvm.MethodName)) ∈ lw_all := lw_g (lw_at lw_m8 61 rfl) rfl
theorem q1844 : (Jvm.Cond.code ({ cls := "GrassFieldModel", name := "lineAt", desc := "(II)I" } : Jvm.MethodName) prog_30_method_31_code (2 : Nat) (Option.some Jvm.ClassFile.FieldType.int)) ∈ lw_all := lw_g (lw_at lw_m8 62 rfl) rfl
theorem q1845 : (Jvm.Cond.methodLink "GrassFieldModel" (144 : Nat) ({ cls := "GrassFieldModel", name := "textAt", desc := "(I)I" } : Jvm.MethodName)) ∈ lw_all := lw_g (lw_at lw_m8 63 rfl) rfl
theorem q1846 : (Jvm.Cond.static ({ cls := "GrassFieldModel", name := "textAt", desc := "(I)I" } : Jvm.MethodName)) ∈ lw_all := lw_g (lw_at lw_m8 64 rfl) rfl
theorem q1847 : (Jvm.Cond.code ({ cls := "GrassFieldModel", name := "textAt", desc := "(I)I" } : Jvm.MethodName) prog_30_method_30_code (1 : Nat) (Option.some Jvm.ClassFile.FieldType.int)) ∈ lw_all := lw_g (lw_at lw_m8 65 rfl) rfl
theorem q1848 : (Jvm.Cond.methodLink "GrassFieldModel" (205 : Nat) ({ cls := "GrassFieldModel", name := "readCond", desc := "()Z" } : Jvm.MethodName)) ∈ lw_all := lw_g (lw_at lw_m8 66 rfl) rfl
theorem q1849 : (Jvm.Cond.privateMethod ({ cls := "GrassFieldModel", name := "readCond", desc := "()Z" } : Jvm.MethodName)) ∈ lw_tbl := lw_at lw_m8 67 rfl
theorem q1850 : (Jvm.Cond.instanceMethod ({ cls := "GrassFieldModel", name := "readCond", desc := "()Z" } : Jvm.MethodName)) ∈ lw_all := lw_g (lw_at lw_m8 68 rfl) rfl
theorem q1851 : (Jvm.Cond.code ({ cls := "GrassFieldModel", name := "readCond", desc := "()Z" } : Jvm.MethodName) prog_30_method_41_code (1 : Nat) (Option.some Jvm.ClassFile.FieldType.boolean)) ∈ lw_all := lw_g (lw_at lw_m8 69 rfl) rfl
theorem q1852 : (Jvm.Cond.methodLink "GrassFieldModel" (224 : Nat) ({ cls := "GrassFieldModel", name := "readAllOf", desc := "()Z" } : Jvm.MethodName)) ∈ lw_all := lw_g (lw_at lw_m8 70 rfl) rfl
theorem q1853 : (Jvm.Cond.privateMethod ({ cls := "GrassFieldModel", name := "readAllOf", desc := "()Z" } : Jvm.MethodName)) ∈ lw_tbl := lw_at lw_m8 71 rfl
theorem q1854 : (Jvm.Cond.instanceMethod ({ cls := "GrassFieldModel", name := "readAllOf", desc := "()Z" } : Jvm.MethodName)) ∈ lw_all := lw_g (lw_at lw_m8 72 rfl) rfl
theorem q1855 : (Jvm.Cond.code ({ cls := "GrassFieldModel", name := "readAllOf", desc := "()Z" } : Jvm.MethodName) prog_30_method_40_code (1 : Nat) (Option.some Jvm.ClassFile.FieldType.boolean)) ∈ lw_all := lw_g (lw_at lw_m8 73 rfl) rfl
theorem q1856 : (Jvm.Cond.methodLink "GrassFieldModel" (213 : Nat) ({ cls := "GrassFieldModel", name := "readAtom", desc := "()Z" } : Jvm.MethodName)) ∈ lw_all := lw_g (lw_at lw_m8 74 rfl) rfl
theorem q1857 : (Jvm.Cond.privateMethod ({ cls := "GrassFieldModel", name := "readAtom", desc := "()Z" } : Jvm.MethodName)) ∈ lw_tbl := lw_at lw_m8 75 rfl
theorem q1858 : (Jvm.Cond.instanceMethod ({ cls := "GrassFieldModel", name := "readAtom", desc := "()Z" } : Jvm.MethodName)) ∈ lw_all := lw_g (lw_at lw_m8 76 rfl) rfl
theorem q1859 : (Jvm.Cond.code ({ cls := "GrassFieldModel", name := "readAtom", desc := "()Z" } : Jvm.MethodName) prog_30_method_39_code (2 : Nat) (Option.some Jvm.ClassFile.FieldType.boolean)) ∈ lw_all := lw_g (lw_at lw_m8 77 rfl) rfl
theorem q1860 : (Jvm.Cond.methodLink "GrassFieldModel" (193 : Nat) ({ cls := "GrassFieldModel", name := "sign", desc := "(I)Z" } : Jvm.MethodName)) ∈ lw_all := lw_g (lw_at lw_m8 78 rfl) rfl
theorem q1861 : (Jvm.Cond.privateMethod ({ cls := "GrassFieldModel", name := "sign", desc := "(I)Z" } : Jvm.MethodName)) ∈ lw_tbl := lw_at lw_m8 79 rfl
theorem q1862 : (Jvm.Cond.instanceMethod ({ cls := "GrassFieldModel", name := "sign", desc := "(I)Z" } : Jvm.MethodName)) ∈ lw_all := lw_g (lw_at lw_m8 80 rfl) rfl
theorem q1863 : (Jvm.Cond.code ({ cls := "GrassFieldModel", name := "sign", desc := "(I)Z" } : Jvm.MethodName) prog_30_method_27_code (2 : Nat) (Option.some Jvm.ClassFile.FieldType.boolean)) ∈ lw_all := lw_g (lw_at lw_m8 81 rfl) rfl
theorem q1864 : (Jvm.Cond.methodLink "GrassFieldModel" (124 : Nat) ({ cls := "GrassFieldModel", name := "blanks", desc := "()V" } : Jvm.MethodName)) ∈ lw_all := lw_g (lw_at lw_m8 82 rfl) rfl
theorem q1865 : (Jvm.Cond.privateMethod ({ cls := "GrassFieldModel", name := "blanks", desc := "()V" } : Jvm.MethodName)) ∈ lw_tbl := lw_at lw_m8 83 rfl
theorem q1866 : (Jvm.Cond.instanceMethod ({ cls := "GrassFieldModel", name := "blanks", desc := "()V" } : Jvm.MethodName)) ∈ lw_all := lw_g (lw_at lw_m8 84 rfl) rfl
theorem q1867 : (Jvm.Cond.code ({ cls := "GrassFieldModel", name := "blanks", desc := "()V" } : Jvm.MethodName) prog_30_method_23_code (1 : Nat) (Option.none : Option Jvm.ClassFile.FieldType)) ∈ lw_all := lw_g (lw_at lw_m8 85 rfl) rfl
theorem q1868 : (Jvm.Cond.methodLink "GrassFieldModel" (118 : Nat) ({ cls := "GrassFieldModel", name := "isAt", desc := "(II)Z" } : Jvm.MethodName)) ∈ lw_all := lw_g (lw_at lw_m8 86 rfl) rfl
theorem q1869 : (Jvm.Cond.privateMethod ({ cls := "GrassFieldModel", name := "isAt", desc := "(II)Z" } : Jvm.MethodName)) ∈ lw_tbl := lw_at lw_m8 87 rfl
theorem q1870 : (Jvm.Cond.instanceMethod ({ cls := "GrassFieldModel", name := "isAt", desc := "(II)Z" } : Jvm.MethodName)) ∈ lw_all := lw_g (lw_at lw_m8 88 rfl) rfl
theorem q1871 : (Jvm.Cond.code ({ cls := "GrassFieldModel", name := "isAt", desc := "(II)Z" } : Jvm.MethodName) prog_30_method_22_code (3 : Nat) (Option.some Jvm.ClassFile.FieldType.boolean)) ∈ lw_all := lw_g (lw_at lw_m8 89 rfl) rfl
theorem q1872 : (Jvm.Cond.stringRef "GrassFieldModel" (208 : Nat) "not") ∈ lw_tbl := lw_at lw_m8 90 rfl
theorem q1873 : (Jvm.Cond.methodLink "GrassFieldModel" (210 : Nat) ({ cls := "GrassFieldModel", name := "passes", desc := "(Ljava/lang/String;)Z" } : Jvm.MethodName)) ∈ lw_all := lw_g (lw_at lw_m8 91 rfl) rfl
theorem q1874 : (Jvm.Cond.privateMethod ({ cls := "GrassFieldModel", name := "passes", desc := "(Ljava/lang/String;)Z" } : Jvm.MethodName)) ∈ lw_tbl := lw_at lw_m8 92 rfl
theorem q1875 : (Jvm.Cond.instanceMethod ({ cls := "GrassFieldModel", name := "passes", desc := "(Ljava/lang/String;)Z" } : Jvm.MethodName)) ∈ lw_all := lw_g (lw_at lw_m8 93 rfl) rfl
theorem q1876 : (Jvm.Cond.code ({ cls := "GrassFieldModel", name := "passes", desc := "(Ljava/lang/String;)Z" } : Jvm.MethodName) prog_30_method_26_code (2 : Nat) (Option.some Jvm.ClassFile.FieldType.boolean)) ∈ lw_all := lw_g (lw_at lw_m8 94 rfl) rfl
theorem q1877 : (Jvm.Cond.methodLink "GrassFieldModel" (137 : Nat) ({ cls := "GrassFieldModel", name := "letters", desc := "()V" } : Jvm.MethodName)) ∈ lw_all := lw_g (lw_at lw_m8 95 rfl) rfl
theorem q1878 : (Jvm.Cond.privateMethod ({ cls := "GrassFieldModel", name := "letters", desc := "()V" } : Jvm.MethodName)) ∈ lw_tbl := lw_at lw_m8 96 rfl
theorem q1879 : (Jvm.Cond.instanceMethod ({ cls := "GrassFieldModel", name := "letters", desc := "()V" } : Jvm.MethodName)) ∈ lw_all := lw_g (lw_at lw_m8 97 rfl) rfl
theorem q1880 : (Jvm.Cond.code ({ cls := "GrassFieldModel", name := "letters", desc := "()V" } : Jvm.MethodName) prog_30_method_24_code (1 : Nat) (Option.none : Option Jvm.ClassFile.FieldType)) ∈ lw_all := lw_g (lw_at lw_m8 98 rfl) rfl
theorem q1881 : (Jvm.Cond.methodLink "GrassFieldModel" (140 : Nat) ({ cls := "GrassFieldModel", name := "isWord", desc := "(Ljava/lang/String;)Z" } : Jvm.MethodName)) ∈ lw_all := lw_g (lw_at lw_m8 99 rfl) rfl
theorem q1882 : (Jvm.Cond.privateMethod ({ cls := "GrassFieldModel", name := "isWord", desc := "(Ljava/lang/String;)Z" } : Jvm.MethodName)) ∈ lw_tbl := lw_at lw_m8 100 rfl
theorem q1883 : (Jvm.Cond.instanceMethod ({ cls := "GrassFieldModel", name := "isWord", desc := "(Ljava/lang/String;)Z" } : Jvm.MethodName)) ∈ lw_all := lw_g (lw_at lw_m8 101 rfl) rfl
theorem q1884 : (Jvm.Cond.code ({ cls := "GrassFieldModel", name := "isWord", desc := "(Ljava/lang/String;)Z" } : Jvm.MethodName) prog_30_method_25_code (4 : Nat) (Option.some Jvm.ClassFile.FieldType.boolean)) ∈ lw_all := lw_g (lw_at lw_m8 102 rfl) rfl
theorem q1885 : (Jvm.Cond.methodLink "GrassFieldModel" (127 : Nat) ({ cls := "java/lang/String", name := "length", desc := "()I" } : Jvm.MethodName)) ∈ lw_all := lw_g (lw_at lw_m8 103 rfl) rfl
theorem q1886 : (Jvm.Cond.methodLink "GrassFieldModel" (133 : Nat) ({ cls := "java/lang/String", name := "charAt", desc := "(I)C" } : Jvm.MethodName)) ∈ lw_all := lw_g (lw_at lw_m8 104 rfl) rfl
theorem q1887 : (Jvm.Cond.methodLink "GrassFieldModel" (147 : Nat) ({ cls := "GrassFieldModel", name := "emits", desc := "(II)V" } : Jvm.MethodName)) ∈ lw_all := lw_g (lw_at lw_m8 105 rfl) rfl
theorem q1888 : (Jvm.Cond.privateMethod ({ cls := "GrassFieldModel", name := "emits", desc := "(II)V" } : Jvm.MethodName)) ∈ lw_tbl := lw_at lw_m8 106 rfl
theorem q1889 : (Jvm.Cond.instanceMethod ({ cls := "GrassFieldModel", name := "emits", desc := "(II)V" } : Jvm.MethodName)) ∈ lw_all := lw_g (lw_at lw_m8 107 rfl) rfl
theorem q1890 : (Jvm.Cond.code ({ cls := "GrassFieldModel", name := "emits", desc := "(II)V" } : Jvm.MethodName) prog_30_method_32_code (4 : Nat) (Option.none : Option Jvm.ClassFile.FieldType)) ∈ lw_all := lw_g (lw_at lw_m8 108 rfl) rfl
theorem q1891 : (Jvm.Cond.methodLink "GrassFieldModel" (216 : Nat) ({ cls := "GrassFieldModel", name := "readTag", desc := "()Z" } : Jvm.MethodName)) ∈ lw_all := lw_g (lw_at lw_m8 109 rfl) rfl
theorem q1892 : (Jvm.Cond.privateMethod ({ cls := "GrassFieldModel", name := "readTag", desc := "()Z" } : Jvm.MethodName)) ∈ lw_tbl := lw_at lw_m8 110 rfl
theorem q1893 : (Jvm.Cond.instanceMethod ({ cls := "GrassFieldModel", name := "readTag", desc := "()Z" } : Jvm.MethodName)) ∈ lw_all := lw_g (lw_at lw_m8 111 rfl) rfl
theorem q1894 : (Jvm.Cond.code ({ cls := "GrassFieldModel", name := "readTag", desc := "()Z" } : Jvm.MethodName) prog_30_method_38_code (2 : Nat) (Option.some Jvm.ClassFile.FieldType.boolean)) ∈ lw_all := lw_g (lw_at lw_m8 112 rfl) rfl
theorem q1895 : (Jvm.Cond.stringRef "GrassFieldModel" (199 : Nat) "held") ∈ lw_tbl := lw_at lw_m8 113 rfl
theorem q1896 : (Jvm.Cond.stringRef "GrassFieldModel" (201 : Nat) "armed") ∈ lw_tbl := lw_at lw_m8 114 rfl
theorem q1897 : (Jvm.Cond.stringRef "GrassFieldModel" (203 : Nat) "alone") ∈ lw_tbl := lw_at lw_m8 115 rfl
theorem q1898 : (Jvm.Cond.methodLink "GrassFieldModel" (187 : Nat) ({ cls := "GrassFieldModel", name := "number", desc := "()I" } : Jvm.MethodName)) ∈ lw_all := lw_g (lw_at lw_m8 116 rfl) rfl
theorem q1899 : (Jvm.Cond.privateMethod ({ cls := "GrassFieldModel", name := "number", desc := "()I" } : Jvm.MethodName)) ∈ lw_tbl := lw_at lw_m8 117 rfl
theorem q1900 : (Jvm.Cond.instanceMethod ({ cls := "GrassFieldModel", name := "number", desc := "()I" } : Jvm.MethodName)) ∈ lw_all := lw_g (lw_at lw_m8 118 rfl) rfl
theorem q1901 : (Jvm.Cond.code ({ cls := "GrassFieldModel", name := "number", desc := "()I" } : Jvm.MethodName) prog_30_method_28_code (2 : Nat) (Option.some Jvm.ClassFile.FieldType.int)) ∈ lw_all := lw_g (lw_at lw_m8 119 rfl) rfl
theorem q1902 : (Jvm.Cond.methodLink "GrassFieldModel" (219 : Nat) ({ cls := "GrassFieldModel", name := "readSum", desc := "()Z" } : Jvm.MethodName)) ∈ lw_all := lw_g (lw_at lw_m8 120 rfl) rfl
theorem q1903 : (Jvm.Cond.privateMethod ({ cls := "GrassFieldModel", name := "readSum", desc := "()Z" } : Jvm.MethodName)) ∈ lw_tbl := lw_at lw_m8 121 rfl
theorem q1904 : (Jvm.Cond.instanceMethod ({ cls := "GrassFieldModel", name := "readSum", desc := "()Z" } : Jvm.MethodName)) ∈ lw_all := lw_g (lw_at lw_m8 122 rfl) rfl
theorem q1905 : (Jvm.Cond.code ({ cls := "GrassFieldModel", name := "readSum", desc := "()Z" } : Jvm.MethodName) prog_30_method_37_code (1 : Nat) (Option.some Jvm.ClassFile.FieldType.boolean)) ∈ lw_all := lw_g (lw_at lw_m8 123 rfl) rfl
theorem q1906 : (Jvm.Cond.methodLink "GrassFieldModel" (196 : Nat) ({ cls := "GrassFieldModel", name := "readPart", desc := "()Z" } : Jvm.MethodName)) ∈ lw_all := lw_g (lw_at lw_m8 124 rfl) rfl
theorem q1907 : (Jvm.Cond.privateMethod ({ cls := "GrassFieldModel", name := "readPart", desc := "()Z" } : Jvm.MethodName)) ∈ lw_tbl := lw_at lw_m8 125 rfl
theorem q1908 : (Jvm.Cond.instanceMethod ({ cls := "GrassFieldModel", name := "readPart", desc := "()Z" } : Jvm.MethodName)) ∈ lw_all := lw_g (lw_at lw_m8 126 rfl) rfl
theorem q1909 : (Jvm.Cond.code ({ cls := "GrassFieldModel", name := "readPart", desc := "()Z" } : Jvm.MethodName) prog_30_method_36_code (1 : Nat) (Option.some Jvm.ClassFile.FieldType.boolean)) ∈ lw_all := lw_g (lw_at lw_m8 127 rfl) rfl
theorem q1910 : (Jvm.Cond.methodLink "GrassFieldModel" (183 : Nat) ({ cls := "GrassFieldModel", name := "readFact", desc := "()Z" } : Jvm.MethodName)) ∈ lw_all := lw_g (lw_at lw_m8 128 rfl) rfl
theorem q1911 : (Jvm.Cond.privateMethod ({ cls := "GrassFieldModel", name := "readFact", desc := "()Z" } : Jvm.MethodName)) ∈ lw_tbl := lw_at lw_m8 129 rfl
theorem q1912 : (Jvm.Cond.instanceMethod ({ cls := "GrassFieldModel", name := "readFact", desc := "()Z" } : Jvm.MethodName)) ∈ lw_all := lw_g (lw_at lw_m8 130 rfl) rfl
theorem q1913 : (Jvm.Cond.code ({ cls := "GrassFieldModel", name := "readFact", desc := "()Z" } : Jvm.MethodName) prog_30_method_35_code (2 : Nat) (Option.some Jvm.ClassFile.FieldType.boolean)) ∈ lw_all := lw_g (lw_at lw_m8 131 rfl) rfl
theorem q1914 : (Jvm.Cond.methodLink "GrassFieldModel" (180 : Nat) ({ cls := "GrassFieldModel", name := "factAt", desc := "()I" } : Jvm.MethodName)) ∈ lw_all := lw_g (lw_at lw_m8 132 rfl) rfl
theorem q1915 : (Jvm.Cond.privateMethod ({ cls := "GrassFieldModel", name := "factAt", desc := "()I" } : Jvm.MethodName)) ∈ lw_tbl := lw_at lw_m8 133 rfl
theorem q1916 : (Jvm.Cond.instanceMethod ({ cls := "GrassFieldModel", name := "factAt", desc := "()I" } : Jvm.MethodName)) ∈ lw_all := lw_g (lw_at lw_m8 134 rfl) rfl
theorem q1917 : (Jvm.Cond.code ({ cls := "GrassFieldModel", name := "factAt", desc := "()I" } : Jvm.MethodName) prog_30_method_34_code (1 : Nat) (Option.some Jvm.ClassFile.FieldType.int)) ∈ lw_all := lw_g (lw_at lw_m8 135 rfl) rfl
theorem q1918 : (Jvm.Cond.stringRef "GrassFieldModel" (154 : Nat) "cases") ∈ lw_tbl := lw_at lw_m8 136 rfl
theorem q1919 : (Jvm.Cond.stringRef "GrassFieldModel" (156 : Nat) "balls") ∈ lw_tbl := lw_at lw_m8 137 rfl
theorem q1920 : (Jvm.Cond.stringRef "GrassFieldModel" (158 : Nat) "bones") ∈ lw_tbl := lw_at lw_m8 138 rfl
theorem q1921 : (Jvm.Cond.stringRef "GrassFieldModel" (159 : Nat) "later") ∈ lw_tbl := lw_at lw_m8 139 rfl
theorem q1922 : (Jvm.Cond.stringRef "GrassFieldModel" (161 : Nat) "guns") ∈ lw_tbl := lw_at lw_m8 140 rfl
theorem q1923 : (Jvm.Cond.stringRef "GrassFieldModel" (163 : Nat) "fits") ∈ lw_tbl := lw_at lw_m8 141 rfl
theorem q1924 : (Jvm.Cond.stringRef "GrassFieldModel" (165 : Nat) "heaps") ∈ lw_tbl := lw_at lw_m8 142 rfl
theorem q1925 : (Jvm.Cond.stringRef "GrassFieldModel" (167 : Nat) "foes") ∈ lw_tbl := lw_at lw_m8 143 rfl
theorem q1926 : (Jvm.Cond.stringRef "GrassFieldModel" (169 : Nat) "friends") ∈ lw_tbl := lw_at lw_m8 144 rfl
theorem q1927 : (Jvm.Cond.stringRef "GrassFieldModel" (171 : Nat) "fear") ∈ lw_tbl := lw_at lw_m8 145 rfl
theorem q1928 : (Jvm.Cond.stringRef "GrassFieldModel" (173 : Nat) "minute") ∈ lw_tbl := lw_at lw_m8 146 rfl
theorem q1929 : (Jvm.Cond.stringRef "GrassFieldModel" (175 : Nat) "height") ∈ lw_tbl := lw_at lw_m8 147 rfl
theorem q1930 : (Jvm.Cond.stringRef "GrassFieldModel" (177 : Nat) "rounds") ∈ lw_tbl := lw_at lw_m8 148 rfl
theorem q1931 : (Jvm.Cond.stringRef "GrassFieldModel" (179 : Nat) "far") ∈ lw_tbl := lw_at lw_m8 149 rfl
theorem q1932 : (Jvm.Cond.methodLink "GrassFieldModel" (190 : Nat) ({ cls := "GrassFieldModel", name := "emitsIf", desc := "(II)Z" } : Jvm.MethodName)) ∈ lw_all := lw_g (lw_at lw_m8 150 rfl) rfl
theorem q1933 : (Jvm.Cond.privateMethod ({ cls := "GrassFieldModel", name := "emitsIf", desc := "(II)Z" } : Jvm.MethodName)) ∈ lw_tbl := lw_at lw_m8 151 rfl
theorem q1934 : (Jvm.Cond.instanceMethod ({ cls := "GrassFieldModel", name := "emitsIf", desc := "(II)Z" } : Jvm.MethodName)) ∈ lw_all := lw_g (lw_at lw_m8 152 rfl) rfl
theorem q1935 : (Jvm.Cond.code ({ cls := "GrassFieldModel", name := "emitsIf", desc := "(II)Z" } : Jvm.MethodName) prog_30_method_33_code (3 : Nat) (Option.some Jvm.ClassFile.FieldType.boolean)) ∈ lw_all := lw_g (lw_at lw_m8 153 rfl) rfl
theorem q1936 : (Jvm.Cond.stringRef "GrassFieldModel" (222 : Nat) "and") ∈ lw_tbl := lw_at lw_m8 154 rfl
theorem q1937 : (Jvm.Cond.stringRef "GrassFieldModel" (227 : Nat) "or") ∈ lw_tbl := lw_at lw_m8 155 rfl
theorem q1938 : (Jvm.Cond.methodLink "GrassFieldModel" (253 : Nat) ({ cls := "GrassFieldModel", name := "readAll", desc := "()I" } : Jvm.MethodName)) ∈ lw_all := lw_g (lw_at lw_m8 156 rfl) rfl
theorem q1939 : (Jvm.Cond.privateMethod ({ cls := "GrassFieldModel", name := "readAll", desc := "()I" } : Jvm.MethodName)) ∈ lw_tbl := lw_at lw_m8 157 rfl
theorem q1940 : (Jvm.Cond.instanceMethod ({ cls := "GrassFieldModel", name := "readAll", desc := "()I" } : Jvm.MethodName)) ∈ lw_all := lw_g (lw_at lw_m8 158 rfl) rfl
theorem q1941 : (Jvm.Cond.code ({ cls := "GrassFieldModel", name := "readAll", desc := "()I" } : Jvm.MethodName) prog_30_method_43_code (2 : Nat) (Option.some Jvm.ClassFile.FieldType.int)) ∈ lw_all := lw_g (lw_at lw_m8 159 rfl) rfl
theorem q1942 : (Jvm.Cond.methodLink "GrassFieldModel" (244 : Nat) ({ cls := "GrassFieldModel", name := "readLine", desc := "(I)Z" } : Jvm.MethodName)) ∈ lw_all := lw_g (lw_at lw_m8 160 rfl) rfl
theorem q1943 : (Jvm.Cond.privateMethod ({ cls := "GrassFieldModel", name := "readLine", desc := "(I)Z" } : Jvm.MethodName)) ∈ lw_tbl := lw_at lw_m8 161 rfl
theorem q1944 : (Jvm.Cond.instanceMethod ({ cls := "GrassFieldModel", name := "readLine", desc := "(I)Z" } : Jvm.MethodName)) ∈ lw_all := lw_g (lw_at lw_m8 162 rfl) rfl
theorem q1945 : (Jvm.Cond.code ({ cls := "GrassFieldModel", name := "readLine", desc := "(I)Z" } : Jvm.MethodName) prog_30_method_42_code (3 : Nat) (Option.some Jvm.ClassFile.FieldType.boolean)) ∈ lw_all := lw_g (lw_at lw_m8 163 rfl) rfl
theorem q1946 : (Jvm.Cond.stringRef "GrassFieldModel" (232 : Nat) "shoot") ∈ lw_tbl := lw_at lw_m8 164 rfl
theorem q1947 : (Jvm.Cond.stringRef "GrassFieldModel" (234 : Nat) "flee") ∈ lw_tbl := lw_at lw_m8 165 rfl
theorem q1948 : (Jvm.Cond.stringRef "GrassFieldModel" (236 : Nat) "join") ∈ lw_tbl := lw_at lw_m8 166 rfl
theorem q1949 : (Jvm.Cond.stringRef "GrassFieldModel" (238 : Nat) "hold") ∈ lw_tbl := lw_at lw_m8 167 rfl
theorem q1950 : (Jvm.Cond.stringRef "GrassFieldModel" (240 : Nat) "drop") ∈ lw_tbl := lw_at lw_m8 168 rfl
theorem q1951 : (Jvm.Cond.stringRef "GrassFieldModel" (242 : Nat) "if") ∈ lw_tbl := lw_at lw_m8 169 rfl
theorem q1952 : (Jvm.Cond.methodLink "GrassFieldModel" (260 : Nat) ({ cls := "GrassFieldModel", name := "keeps", desc := "(I)V" } : Jvm.MethodName)) ∈ lw_all := lw_g (lw_at lw_m8 170 rfl) rfl
theorem q1953 : (Jvm.Cond.privateMethod ({ cls := "GrassFieldModel", name := "keeps", desc := "(I)V" } : Jvm.MethodName)) ∈ lw_tbl := lw_at lw_m8 171 rfl
theorem q1954 : (Jvm.Cond.instanceMethod ({ cls := "GrassFieldModel", name := "keeps", desc := "(I)V" } : Jvm.MethodName)) ∈ lw_all := lw_g (lw_at lw_m8 172 rfl) rfl
theorem q1955 : (Jvm.Cond.code ({ cls := "GrassFieldModel", name := "keeps", desc := "(I)V" } : Jvm.MethodName) prog_30_method_46_code (3 : Nat) (Option.none : Option Jvm.ClassFile.FieldType)) ∈ lw_all := lw_g (lw_at lw_m8 173 rfl) rfl
theorem q1957 : (Jvm.Cond.instanceMethod ({ cls := "GrassFieldModel", name := "story", desc := "(I)I" } : Jvm.MethodName)) ∈ lw_all := lw_g (lw_at lw_m8 175 rfl) rfl
theorem q1958 : (Jvm.Cond.selects "GrassFieldModel" ({ cls := "GrassFieldModel", name := "story", desc := "(I)I" } : Jvm.MethodName) ({ cls := "GrassFieldModel", name := "story", desc := "(I)I" } : Jvm.MethodName)) ∈ lw_all := lw_g (lw_at lw_m8 176 rfl) rfl
theorem q1959 : (Jvm.Cond.code ({ cls := "GrassFieldModel", name := "story", desc := "(I)I" } : Jvm.MethodName) prog_30_method_48_code (3 : Nat) (Option.some Jvm.ClassFile.FieldType.int)) ∈ lw_all := lw_g (lw_at lw_m8 177 rfl) rfl
theorem q1961 : (Jvm.Cond.instanceMethod ({ cls := "GrassFieldModel", name := "person", desc := "(IIII)I" } : Jvm.MethodName)) ∈ lw_all := lw_g (lw_at lw_m8 179 rfl) rfl
theorem q1962 : (Jvm.Cond.selects "GrassFieldModel" ({ cls := "GrassFieldModel", name := "person", desc := "(IIII)I" } : Jvm.MethodName) ({ cls := "GrassFieldModel", name := "person", desc := "(IIII)I" } : Jvm.MethodName)) ∈ lw_all := lw_g (lw_at lw_m8 180 rfl) rfl
theorem q1963 : (Jvm.Cond.code ({ cls := "GrassFieldModel", name := "person", desc := "(IIII)I" } : Jvm.MethodName) prog_30_method_54_code (7 : Nat) (Option.some Jvm.ClassFile.FieldType.int)) ∈ lw_all := lw_g (lw_at lw_m8 181 rfl) rfl
theorem q1964 : (Jvm.Cond.methodLink "GrassFieldModel" (276 : Nat) ({ cls := "GrassFieldModel", name := "none", desc := "(II)Z" } : Jvm.MethodName)) ∈ lw_all := lw_g (lw_at lw_m8 182 rfl) rfl
theorem q1965 : (Jvm.Cond.privateMethod ({ cls := "GrassFieldModel", name := "none", desc := "(II)Z" } : Jvm.MethodName)) ∈ lw_tbl := lw_at lw_m8 183 rfl
theorem q1966 : (Jvm.Cond.instanceMethod ({ cls := "GrassFieldModel", name := "none", desc := "(II)Z" } : Jvm.MethodName)) ∈ lw_all := lw_g (lw_at lw_m8 184 rfl) rfl
theorem q1967 : (Jvm.Cond.code ({ cls := "GrassFieldModel", name := "none", desc := "(II)Z" } : Jvm.MethodName) prog_30_method_7_code (3 : Nat) (Option.some Jvm.ClassFile.FieldType.boolean)) ∈ lw_all := lw_g (lw_at lw_m8 185 rfl) rfl
theorem q1968 : (Jvm.Cond.methodLink "GrassFieldModel" (273 : Nat) ({ cls := "GrassFieldModel", name := "of", desc := "(II)I" } : Jvm.MethodName)) ∈ lw_all := lw_g (lw_at lw_m8 186 rfl) rfl
theorem q1969 : (Jvm.Cond.privateMethod ({ cls := "GrassFieldModel", name := "of", desc := "(II)I" } : Jvm.MethodName)) ∈ lw_tbl := lw_at lw_m8 187 rfl
theorem q1970 : (Jvm.Cond.instanceMethod ({ cls := "GrassFieldModel", name := "of", desc := "(II)I" } : Jvm.MethodName)) ∈ lw_all := lw_g (lw_at lw_m8 188 rfl) rfl
theorem q1971 : (Jvm.Cond.code ({ cls := "GrassFieldModel", name := "of", desc := "(II)I" } : Jvm.MethodName) prog_30_method_50_code (3 : Nat) (Option.some Jvm.ClassFile.FieldType.int)) ∈ lw_all := lw_g (lw_at lw_m8 189 rfl) rfl
theorem q1972 : (Jvm.Cond.methodLink "GrassFieldModel" (279 : Nat) ({ cls := "GrassFieldModel", name := "sets", desc := "(III)V" } : Jvm.MethodName)) ∈ lw_all := lw_g (lw_at lw_m8 190 rfl) rfl
theorem q1973 : (Jvm.Cond.privateMethod ({ cls := "GrassFieldModel", name := "sets", desc := "(III)V" } : Jvm.MethodName)) ∈ lw_tbl := lw_at lw_m8 191 rfl
theorem q1974 : (Jvm.Cond.instanceMethod ({ cls := "GrassFieldModel", name := "sets", desc := "(III)V" } : Jvm.MethodName)) ∈ lw_all := lw_g (lw_at lw_m8 192 rfl) rfl
theorem q1975 : (Jvm.Cond.code ({ cls := "GrassFieldModel", name := "sets", desc := "(III)V" } : Jvm.MethodName) prog_30_method_51_code (4 : Nat) (Option.none : Option Jvm.ClassFile.FieldType)) ∈ lw_all := lw_g (lw_at lw_m8 193 rfl) rfl
theorem q1977 : (Jvm.Cond.instanceMethod ({ cls := "GrassFieldModel", name := "look", desc := "(II)I" } : Jvm.MethodName)) ∈ lw_all := lw_g (lw_at lw_m8 195 rfl) rfl
theorem q1978 : (Jvm.Cond.selects "GrassFieldModel" ({ cls := "GrassFieldModel", name := "look", desc := "(II)I" } : Jvm.MethodName) ({ cls := "GrassFieldModel", name := "look", desc := "(II)I" } : Jvm.MethodName)) ∈ lw_all := lw_g (lw_at lw_m8 196 rfl) rfl
theorem q1979 : (Jvm.Cond.code ({ cls := "GrassFieldModel", name := "look", desc := "(II)I" } : Jvm.MethodName) prog_30_method_57_code (3 : Nat) (Option.some Jvm.ClassFile.FieldType.int)) ∈ lw_all := lw_g (lw_at lw_m8 197 rfl) rfl
theorem q1980 : (Jvm.Cond.methodLink "GrassFieldModel" (289 : Nat) ({ cls := "GrassFieldModel", name := "near", desc := "(IZI)I" } : Jvm.MethodName)) ∈ lw_all := lw_g (lw_at lw_m8 198 rfl) rfl
theorem q1981 : (Jvm.Cond.privateMethod ({ cls := "GrassFieldModel", name := "near", desc := "(IZI)I" } : Jvm.MethodName)) ∈ lw_tbl := lw_at lw_m8 199 rfl
theorem q1982 : (Jvm.Cond.instanceMethod ({ cls := "GrassFieldModel", name := "near", desc := "(IZI)I" } : Jvm.MethodName)) ∈ lw_all := lw_g (lw_at lw_m8 200 rfl) rfl
theorem q1983 : (Jvm.Cond.code ({ cls := "GrassFieldModel", name := "near", desc := "(IZI)I" } : Jvm.MethodName) prog_30_method_55_code (6 : Nat) (Option.some Jvm.ClassFile.FieldType.int)) ∈ lw_all := lw_g (lw_at lw_m8 201 rfl) rfl
theorem q1984 : (Jvm.Cond.methodLink "GrassFieldModel" (283 : Nat) ({ cls := "GrassFieldModel", name := "isFoe", desc := "(II)Z" } : Jvm.MethodName)) ∈ lw_all := lw_g (lw_at lw_m8 202 rfl) rfl
theorem q1985 : (Jvm.Cond.privateMethod ({ cls := "GrassFieldModel", name := "isFoe", desc := "(II)Z" } : Jvm.MethodName)) ∈ lw_tbl := lw_at lw_m8 203 rfl
theorem q1986 : (Jvm.Cond.instanceMethod ({ cls := "GrassFieldModel", name := "isFoe", desc := "(II)Z" } : Jvm.MethodName)) ∈ lw_all := lw_g (lw_at lw_m8 204 rfl) rfl
theorem q1987 : (Jvm.Cond.code ({ cls := "GrassFieldModel", name := "isFoe", desc := "(II)Z" } : Jvm.MethodName) prog_30_method_52_code (3 : Nat) (Option.some Jvm.ClassFile.FieldType.boolean)) ∈ lw_all := lw_g (lw_at lw_m8 205 rfl) rfl
theorem q1988 : (Jvm.Cond.methodLink "GrassFieldModel" (286 : Nat) ({ cls := "GrassFieldModel", name := "isFriend", desc := "(II)Z" } : Jvm.MethodName)) ∈ lw_all := lw_g (lw_at lw_m8 206 rfl) rfl
theorem q1989 : (Jvm.Cond.privateMethod ({ cls := "GrassFieldModel", name := "isFriend", desc := "(II)Z" } : Jvm.MethodName)) ∈ lw_tbl := lw_at lw_m8 207 rfl
theorem q1990 : (Jvm.Cond.instanceMethod ({ cls := "GrassFieldModel", name := "isFriend", desc := "(II)Z" } : Jvm.MethodName)) ∈ lw_all := lw_g (lw_at lw_m8 208 rfl) rfl
theorem q1991 : (Jvm.Cond.code ({ cls := "GrassFieldModel", name := "isFriend", desc := "(II)Z" } : Jvm.MethodName) prog_30_method_53_code (3 : Nat) (Option.some Jvm.ClassFile.FieldType.boolean)) ∈ lw_all := lw_g (lw_at lw_m8 209 rfl) rfl
theorem q1993 : (Jvm.Cond.instanceMethod ({ cls := "GrassFieldModel", name := "seed", desc := "(I)V" } : Jvm.MethodName)) ∈ lw_all := lw_g (lw_at lw_m8 211 rfl) rfl
theorem q1994 : (Jvm.Cond.selects "GrassFieldModel" ({ cls := "GrassFieldModel", name := "seed", desc := "(I)V" } : Jvm.MethodName) ({ cls := "GrassFieldModel", name := "seed", desc := "(I)V" } : Jvm.MethodName)) ∈ lw_all := lw_g (lw_at lw_m8 212 rfl) rfl
theorem q1995 : (Jvm.Cond.code ({ cls := "GrassFieldModel", name := "seed", desc := "(I)V" } : Jvm.MethodName) prog_30_method_58_code (2 : Nat) (Option.none : Option Jvm.ClassFile.FieldType)) ∈ lw_all := lw_g (lw_at lw_m8 213 rfl) rfl
theorem q1997 : (Jvm.Cond.instanceMethod ({ cls := "GrassFieldModel", name := "run", desc := "(I)I" } : Jvm.MethodName)) ∈ lw_all := lw_g (lw_at lw_m8 215 rfl) rfl
theorem q1998 : (Jvm.Cond.selects "GrassFieldModel" ({ cls := "GrassFieldModel", name := "run", desc := "(I)I" } : Jvm.MethodName) ({ cls := "GrassFieldModel", name := "run", desc := "(I)I" } : Jvm.MethodName)) ∈ lw_all := lw_g (lw_at lw_m8 216 rfl) rfl
theorem q1999 : (Jvm.Cond.code ({ cls := "GrassFieldModel", name := "run", desc := "(I)I" } : Jvm.MethodName) prog_30_method_66_code (4 : Nat) (Option.some Jvm.ClassFile.FieldType.int)) ∈ lw_all := lw_g (lw_at lw_m8 217 rfl) rfl
theorem q2000 : (Jvm.Cond.methodLink "GrassFieldModel" (320 : Nat) ({ cls := "GrassFieldModel", name := "acts", desc := "(I)V" } : Jvm.MethodName)) ∈ lw_all := lw_g (lw_at lw_m8 218 rfl) rfl
theorem q2001 : (Jvm.Cond.privateMethod ({ cls := "GrassFieldModel", name := "acts", desc := "(I)V" } : Jvm.MethodName)) ∈ lw_tbl := lw_at lw_m8 219 rfl
theorem q2002 : (Jvm.Cond.instanceMethod ({ cls := "GrassFieldModel", name := "acts", desc := "(I)V" } : Jvm.MethodName)) ∈ lw_all := lw_g (lw_at lw_m8 220 rfl) rfl
theorem q2003 : (Jvm.Cond.code ({ cls := "GrassFieldModel", name := "acts", desc := "(I)V" } : Jvm.MethodName) prog_30_method_65_code (3 : Nat) (Option.none : Option Jvm.ClassFile.FieldType)) ∈ lw_all := lw_g (lw_at lw_m8 221 rfl) rfl
theorem q2004 : (Jvm.Cond.methodLink "GrassFieldModel" (310 : Nat) ({ cls := "GrassFieldModel", name := "sortOf", desc := "(I)I" } : Jvm.MethodName)) ∈ lw_all := lw_g (lw_at lw_m8 222 rfl) rfl
theorem q2005 : (Jvm.Cond.privateMethod ({ cls := "GrassFieldModel", name := "sortOf", desc := "(I)I" } : Jvm.MethodName)) ∈ lw_tbl := lw_at lw_m8 223 rfl
theorem q2006 : (Jvm.Cond.instanceMethod ({ cls := "GrassFieldModel", name := "sortOf", desc := "(I)I" } : Jvm.MethodName)) ∈ lw_all := lw_g (lw_at lw_m8 224 rfl) rfl
theorem q2007 : (Jvm.Cond.code ({ cls := "GrassFieldModel", name := "sortOf", desc := "(I)I" } : Jvm.MethodName) prog_30_method_64_code (5 : Nat) (Option.some Jvm.ClassFile.FieldType.int)) ∈ lw_all := lw_g (lw_at lw_m8 225 rfl) rfl
theorem q2008 : (Jvm.Cond.methodLink "GrassFieldModel" (296 : Nat) ({ cls := "GrassFieldModel", name := "roundsOf", desc := "(I)I" } : Jvm.MethodName)) ∈ lw_all := lw_g (lw_at lw_m8 226 rfl) rfl
theorem q2009 : (Jvm.Cond.privateMethod ({ cls := "GrassFieldModel", name := "roundsOf", desc := "(I)I" } : Jvm.MethodName)) ∈ lw_tbl := lw_at lw_m8 227 rfl
theorem q2010 : (Jvm.Cond.instanceMethod ({ cls := "GrassFieldModel", name := "roundsOf", desc := "(I)I" } : Jvm.MethodName)) ∈ lw_all := lw_g (lw_at lw_m8 228 rfl) rfl
theorem q2011 : (Jvm.Cond.code ({ cls := "GrassFieldModel", name := "roundsOf", desc := "(I)I" } : Jvm.MethodName) prog_30_method_59_code (2 : Nat) (Option.some Jvm.ClassFile.FieldType.int)) ∈ lw_all := lw_g (lw_at lw_m8 229 rfl) rfl
theorem q2012 : (Jvm.Cond.methodLink "GrassFieldModel" (293 : Nat) ({ cls := "GrassFieldModel", name := "nearestTo", desc := "(IZI)I" } : Jvm.MethodName)) ∈ lw_all := lw_g (lw_at lw_m8 230 rfl) rfl
theorem q2013 : (Jvm.Cond.privateMethod ({ cls := "GrassFieldModel", name := "nearestTo", desc := "(IZI)I" } : Jvm.MethodName)) ∈ lw_tbl := lw_at lw_m8 231 rfl
theorem q2014 : (Jvm.Cond.instanceMethod ({ cls := "GrassFieldModel", name := "nearestTo", desc := "(IZI)I" } : Jvm.MethodName)) ∈ lw_all := lw_g (lw_at lw_m8 232 rfl) rfl
theorem q2015 : (Jvm.Cond.code ({ cls := "GrassFieldModel", name := "nearestTo", desc := "(IZI)I" } : Jvm.MethodName) prog_30_method_56_code (6 : Nat) (Option.some Jvm.ClassFile.FieldType.int)) ∈ lw_all := lw_g (lw_at lw_m8 233 rfl) rfl
theorem q2016 : (Jvm.Cond.methodLink "GrassFieldModel" (307 : Nat) ({ cls := "GrassFieldModel", name := "holdsLine", desc := "(II)Z" } : Jvm.MethodName)) ∈ lw_all := lw_g (lw_at lw_m8 234 rfl) rfl
theorem q2017 : (Jvm.Cond.privateMethod ({ cls := "GrassFieldModel", name := "holdsLine", desc := "(II)Z" } : Jvm.MethodName)) ∈ lw_tbl := lw_at lw_m8 235 rfl
theorem q2018 : (Jvm.Cond.instanceMethod ({ cls := "GrassFieldModel", name := "holdsLine", desc := "(II)Z" } : Jvm.MethodName)) ∈ lw_all := lw_g (lw_at lw_m8 236 rfl) rfl
theorem q2019 : (Jvm.Cond.code ({ cls := "GrassFieldModel", name := "holdsLine", desc := "(II)Z" } : Jvm.MethodName) prog_30_method_49_code (11 : Nat) (Option.some Jvm.ClassFile.FieldType.boolean)) ∈ lw_all := lw_g (lw_at lw_m8 237 rfl) rfl
theorem q2020 : (Jvm.Cond.methodLink "GrassFieldModel" (313 : Nat) ({ cls := "GrassFieldModel", name := "shoots", desc := "(I)V" } : Jvm.MethodName)) ∈ lw_all := lw_g (lw_at lw_m8 238 rfl) rfl
theorem q2021 : (Jvm.Cond.privateMethod ({ cls := "GrassFieldModel", name := "shoots", desc := "(I)V" } : Jvm.MethodName)) ∈ lw_tbl := lw_at lw_m8 239 rfl
theorem q2022 : (Jvm.Cond.instanceMethod ({ cls := "GrassFieldModel", name := "shoots", desc := "(I)V" } : Jvm.MethodName)) ∈ lw_all := lw_g (lw_at lw_m9 0 rfl) rfl
theorem q2023 : (Jvm.Cond.code ({ cls := "GrassFieldModel", name := "shoots", desc := "(I)V" } : Jvm.MethodName) prog_30_method_62_code (5 : Nat) (Option.none : Option Jvm.ClassFile.FieldType)) ∈ lw_all := lw_g (lw_at lw_m9 1 rfl) rfl
theorem q2024 : (Jvm.Cond.methodLink "GrassFieldModel" (299 : Nat) ({ cls := "GrassFieldModel", name := "holdsStill", desc := "(I)V" } : Jvm.MethodName)) ∈ lw_all := lw_g (lw_at lw_m9 2 rfl) rfl
theorem q2025 : (Jvm.Cond.privateMethod ({ cls := "GrassFieldModel", name := "holdsStill", desc := "(I)V" } : Jvm.MethodName)) ∈ lw_tbl := lw_at lw_m9 3 rfl
theorem q2026 : (Jvm.Cond.instanceMethod ({ cls := "GrassFieldModel", name := "holdsStill", desc := "(I)V" } : Jvm.MethodName)) ∈ lw_all := lw_g (lw_at lw_m9 4 rfl) rfl
theorem q2027 : (Jvm.Cond.code ({ cls := "GrassFieldModel", name := "holdsStill", desc := "(I)V" } : Jvm.MethodName) prog_30_method_61_code (2 : Nat) (Option.none : Option Jvm.ClassFile.FieldType)) ∈ lw_all := lw_g (lw_at lw_m9 5 rfl) rfl
theorem q2028 : (Jvm.Cond.methodLink "GrassFieldModel" (302 : Nat) ({ cls := "GrassFieldModel", name := "leaves", desc := "(IIII)V" } : Jvm.MethodName)) ∈ lw_all := lw_g (lw_at lw_m9 6 rfl) rfl
theorem q2029 : (Jvm.Cond.privateMethod ({ cls := "GrassFieldModel", name := "leaves", desc := "(IIII)V" } : Jvm.MethodName)) ∈ lw_tbl := lw_at lw_m9 7 rfl
theorem q2030 : (Jvm.Cond.instanceMethod ({ cls := "GrassFieldModel", name := "leaves", desc := "(IIII)V" } : Jvm.MethodName)) ∈ lw_all := lw_g (lw_at lw_m9 8 rfl) rfl
theorem q2031 : (Jvm.Cond.code ({ cls := "GrassFieldModel", name := "leaves", desc := "(IIII)V" } : Jvm.MethodName) prog_30_method_60_code (6 : Nat) (Option.none : Option Jvm.ClassFile.FieldType)) ∈ lw_all := lw_g (lw_at lw_m9 9 rfl) rfl
theorem q2032 : (Jvm.Cond.constant "GrassFieldModel" (306 : Nat) (1103515245 : Int32)) ∈ lw_all := lw_g (lw_at lw_m9 10 rfl) rfl
theorem q2033 : (Jvm.Cond.methodLink "GrassFieldModel" (316 : Nat) ({ cls := "GrassFieldModel", name := "moves", desc := "(IZ)V" } : Jvm.MethodName)) ∈ lw_all := lw_g (lw_at lw_m9 11 rfl) rfl
theorem q2034 : (Jvm.Cond.privateMethod ({ cls := "GrassFieldModel", name := "moves", desc := "(IZ)V" } : Jvm.MethodName)) ∈ lw_tbl := lw_at lw_m9 12 rfl
theorem q2035 : (Jvm.Cond.instanceMethod ({ cls := "GrassFieldModel", name := "moves", desc := "(IZ)V" } : Jvm.MethodName)) ∈ lw_all := lw_g (lw_at lw_m9 13 rfl) rfl
theorem q2036 : (Jvm.Cond.code ({ cls := "GrassFieldModel", name := "moves", desc := "(IZ)V" } : Jvm.MethodName) prog_30_method_63_code (9 : Nat) (Option.none : Option Jvm.ClassFile.FieldType)) ∈ lw_all := lw_g (lw_at lw_m9 14 rfl) rfl
theorem q2038 : (Jvm.Cond.instanceMethod ({ cls := "GrassFieldModel", name := "found", desc := "(III)I" } : Jvm.MethodName)) ∈ lw_all := lw_g (lw_at lw_m9 16 rfl) rfl
theorem q2039 : (Jvm.Cond.selects "GrassFieldModel" ({ cls := "GrassFieldModel", name := "found", desc := "(III)I" } : Jvm.MethodName) ({ cls := "GrassFieldModel", name := "found", desc := "(III)I" } : Jvm.MethodName)) ∈ lw_all := lw_g (lw_at lw_m9 17 rfl) rfl
theorem q2040 : (Jvm.Cond.code ({ cls := "GrassFieldModel", name := "found", desc := "(III)I" } : Jvm.MethodName) prog_30_method_73_code (4 : Nat) (Option.some Jvm.ClassFile.FieldType.int)) ∈ lw_all := lw_g (lw_at lw_m9 18 rfl) rfl
theorem q2041 : (Jvm.Cond.constant "GrassFieldModel" (332 : Nat) (65535 : Int32)) ∈ lw_all := lw_g (lw_at lw_m9 19 rfl) rfl
theorem q2042 : (Jvm.Cond.methodLink "GrassFieldModel" (333 : Nat) ({ cls := "GrassFieldModel", name := "finds", desc := "()I" } : Jvm.MethodName)) ∈ lw_all := lw_g (lw_at lw_m9 20 rfl) rfl
theorem q2043 : (Jvm.Cond.privateMethod ({ cls := "GrassFieldModel", name := "finds", desc := "()I" } : Jvm.MethodName)) ∈ lw_tbl := lw_at lw_m9 21 rfl
theorem q2044 : (Jvm.Cond.instanceMethod ({ cls := "GrassFieldModel", name := "finds", desc := "()I" } : Jvm.MethodName)) ∈ lw_all := lw_g (lw_at lw_m9 22 rfl) rfl
theorem q2045 : (Jvm.Cond.code ({ cls := "GrassFieldModel", name := "finds", desc := "()I" } : Jvm.MethodName) prog_30_method_68_code (1 : Nat) (Option.some Jvm.ClassFile.FieldType.int)) ∈ lw_all := lw_g (lw_at lw_m9 23 rfl) rfl
theorem q2047 : (Jvm.Cond.instanceMethod ({ cls := "GrassFieldModel", name := "other", desc := "(IIII)I" } : Jvm.MethodName)) ∈ lw_all := lw_g (lw_at lw_m9 25 rfl) rfl
theorem q2048 : (Jvm.Cond.selects "GrassFieldModel" ({ cls := "GrassFieldModel", name := "other", desc := "(IIII)I" } : Jvm.MethodName) ({ cls := "GrassFieldModel", name := "other", desc := "(IIII)I" } : Jvm.MethodName)) ∈ lw_all := lw_g (lw_at lw_m9 26 rfl) rfl
theorem q2049 : (Jvm.Cond.code ({ cls := "GrassFieldModel", name := "other", desc := "(IIII)I" } : Jvm.MethodName) prog_30_method_74_code (6 : Nat) (Option.some Jvm.ClassFile.FieldType.int)) ∈ lw_all := lw_g (lw_at lw_m9 27 rfl) rfl
theorem q2051 : (Jvm.Cond.instanceMethod ({ cls := "GrassFieldModel", name := "about", desc := "(II)I" } : Jvm.MethodName)) ∈ lw_all := lw_g (lw_at lw_m9 29 rfl) rfl
theorem q2052 : (Jvm.Cond.selects "GrassFieldModel" ({ cls := "GrassFieldModel", name := "about", desc := "(II)I" } : Jvm.MethodName) ({ cls := "GrassFieldModel", name := "about", desc := "(II)I" } : Jvm.MethodName)) ∈ lw_all := lw_g (lw_at lw_m9 30 rfl) rfl
theorem q2053 : (Jvm.Cond.code ({ cls := "GrassFieldModel", name := "about", desc := "(II)I" } : Jvm.MethodName) prog_30_method_75_code (3 : Nat) (Option.some Jvm.ClassFile.FieldType.int)) ∈ lw_all := lw_g (lw_at lw_m9 31 rfl) rfl
theorem q2054 : (Jvm.Cond.methodLink "GrassFieldModel" (323 : Nat) ({ cls := "GrassFieldModel", name := "ofFind", desc := "(II)I" } : Jvm.MethodName)) ∈ lw_all := lw_g (lw_at lw_m9 32 rfl) rfl
theorem q2055 : (Jvm.Cond.privateMethod ({ cls := "GrassFieldModel", name := "ofFind", desc := "(II)I" } : Jvm.MethodName)) ∈ lw_tbl := lw_at lw_m9 33 rfl
theorem q2056 : (Jvm.Cond.instanceMethod ({ cls := "GrassFieldModel", name := "ofFind", desc := "(II)I" } : Jvm.MethodName)) ∈ lw_all := lw_g (lw_at lw_m9 34 rfl) rfl
theorem q2057 : (Jvm.Cond.code ({ cls := "GrassFieldModel", name := "ofFind", desc := "(II)I" } : Jvm.MethodName) prog_30_method_67_code (3 : Nat) (Option.some Jvm.ClassFile.FieldType.int)) ∈ lw_all := lw_g (lw_at lw_m9 35 rfl) rfl
theorem q2058 : (Jvm.Cond.methodLink "GrassFieldModel" (336 : Nat) ({ cls := "GrassFieldModel", name := "isSeen", desc := "(I)Z" } : Jvm.MethodName)) ∈ lw_all := lw_g (lw_at lw_m9 36 rfl) rfl
theorem q2059 : (Jvm.Cond.privateMethod ({ cls := "GrassFieldModel", name := "isSeen", desc := "(I)Z" } : Jvm.MethodName)) ∈ lw_tbl := lw_at lw_m9 37 rfl
theorem q2060 : (Jvm.Cond.instanceMethod ({ cls := "GrassFieldModel", name := "isSeen", desc := "(I)Z" } : Jvm.MethodName)) ∈ lw_all := lw_g (lw_at lw_m9 38 rfl) rfl
theorem q2061 : (Jvm.Cond.code ({ cls := "GrassFieldModel", name := "isSeen", desc := "(I)Z" } : Jvm.MethodName) prog_30_method_71_code (2 : Nat) (Option.some Jvm.ClassFile.FieldType.boolean)) ∈ lw_all := lw_g (lw_at lw_m9 39 rfl) rfl
theorem q2062 : (Jvm.Cond.methodLink "GrassFieldModel" (326 : Nat) ({ cls := "GrassFieldModel", name := "isCovered", desc := "(I)Z" } : Jvm.MethodName)) ∈ lw_all := lw_g (lw_at lw_m9 40 rfl) rfl
theorem q2063 : (Jvm.Cond.privateMethod ({ cls := "GrassFieldModel", name := "isCovered", desc := "(I)Z" } : Jvm.MethodName)) ∈ lw_tbl := lw_at lw_m9 41 rfl
theorem q2064 : (Jvm.Cond.instanceMethod ({ cls := "GrassFieldModel", name := "isCovered", desc := "(I)Z" } : Jvm.MethodName)) ∈ lw_all := lw_g (lw_at lw_m9 42 rfl) rfl
theorem q2065 : (Jvm.Cond.code ({ cls := "GrassFieldModel", name := "isCovered", desc := "(I)Z" } : Jvm.MethodName) prog_30_method_70_code (4 : Nat) (Option.some Jvm.ClassFile.FieldType.boolean)) ∈ lw_all := lw_g (lw_at lw_m9 43 rfl) rfl
theorem q2066 : (Jvm.Cond.methodLink "GrassFieldModel" (339 : Nat) ({ cls := "GrassFieldModel", name := "mayBe", desc := "(I)I" } : Jvm.MethodName)) ∈ lw_all := lw_g (lw_at lw_m9 44 rfl) rfl
theorem q2067 : (Jvm.Cond.privateMethod ({ cls := "GrassFieldModel", name := "mayBe", desc := "(I)I" } : Jvm.MethodName)) ∈ lw_tbl := lw_at lw_m9 45 rfl
theorem q2068 : (Jvm.Cond.instanceMethod ({ cls := "GrassFieldModel", name := "mayBe", desc := "(I)I" } : Jvm.MethodName)) ∈ lw_all := lw_g (lw_at lw_m9 46 rfl) rfl
theorem q2069 : (Jvm.Cond.code ({ cls := "GrassFieldModel", name := "mayBe", desc := "(I)I" } : Jvm.MethodName) prog_30_method_72_code (4 : Nat) (Option.some Jvm.ClassFile.FieldType.int)) ∈ lw_all := lw_g (lw_at lw_m9 47 rfl) rfl
theorem q2070 : (Jvm.Cond.methodLink "GrassFieldModel" (329 : Nat) ({ cls := "GrassFieldModel", name := "isKind", desc := "(II)Z" } : Jvm.MethodName)) ∈ lw_all := lw_g (lw_at lw_m9 48 rfl) rfl
theorem q2071 : (Jvm.Cond.privateMethod ({ cls := "GrassFieldModel", name := "isKind", desc := "(II)Z" } : Jvm.MethodName)) ∈ lw_tbl := lw_at lw_m9 49 rfl
theorem q2072 : (Jvm.Cond.instanceMethod ({ cls := "GrassFieldModel", name := "isKind", desc := "(II)Z" } : Jvm.MethodName)) ∈ lw_all := lw_g (lw_at lw_m9 50 rfl) rfl
theorem q2073 : (Jvm.Cond.code ({ cls := "GrassFieldModel", name := "isKind", desc := "(II)Z" } : Jvm.MethodName) prog_30_method_69_code (3 : Nat) (Option.some Jvm.ClassFile.FieldType.boolean)) ∈ lw_all := lw_g (lw_at lw_m9 51 rfl) rfl
theorem q2075 : (Jvm.Cond.instanceMethod ({ cls := "GrassFieldModel", name := "when", desc := "(III)V" } : Jvm.MethodName)) ∈ lw_all := lw_g (lw_at lw_m9 53 rfl) rfl
theorem q2076 : (Jvm.Cond.selects "GrassFieldModel" ({ cls := "GrassFieldModel", name := "when", desc := "(III)V" } : Jvm.MethodName) ({ cls := "GrassFieldModel", name := "when", desc := "(III)V" } : Jvm.MethodName)) ∈ lw_all := lw_g (lw_at lw_m9 54 rfl) rfl
theorem q2077 : (Jvm.Cond.code ({ cls := "GrassFieldModel", name := "when", desc := "(III)V" } : Jvm.MethodName) prog_30_method_76_code (4 : Nat) (Option.none : Option Jvm.ClassFile.FieldType)) ∈ lw_all := lw_g (lw_at lw_m9 55 rfl) rfl
theorem q2079 : (Jvm.Cond.instanceMethod ({ cls := "GrassFieldModel", name := "machine", desc := "(II)V" } : Jvm.MethodName)) ∈ lw_all := lw_g (lw_at lw_m9 57 rfl) rfl
theorem q2080 : (Jvm.Cond.selects "GrassFieldModel" ({ cls := "GrassFieldModel", name := "machine", desc := "(II)V" } : Jvm.MethodName) ({ cls := "GrassFieldModel", name := "machine", desc := "(II)V" } : Jvm.MethodName)) ∈ lw_all := lw_g (lw_at lw_m9 58 rfl) rfl
theorem q2081 : (Jvm.Cond.code ({ cls := "GrassFieldModel", name := "machine", desc := "(II)V" } : Jvm.MethodName) prog_30_method_77_code (3 : Nat) (Option.none : Option Jvm.ClassFile.FieldType)) ∈ lw_all := lw_g (lw_at lw_m9 59 rfl) rfl
theorem q2083 : (Jvm.Cond.instanceMethod ({ cls := "GrassFieldModel", name := "walk", desc := "(I)I" } : Jvm.MethodName)) ∈ lw_all := lw_g (lw_at lw_m9 61 rfl) rfl
theorem q2084 : (Jvm.Cond.selects "GrassFieldModel" ({ cls := "GrassFieldModel", name := "walk", desc := "(I)I" } : Jvm.MethodName) ({ cls := "GrassFieldModel", name := "walk", desc := "(I)I" } : Jvm.MethodName)) ∈ lw_all := lw_g (lw_at lw_m9 62 rfl) rfl
theorem q2085 : (Jvm.Cond.code ({ cls := "GrassFieldModel", name := "walk", desc := "(I)I" } : Jvm.MethodName) prog_30_method_80_code (3 : Nat) (Option.some Jvm.ClassFile.FieldType.int)) ∈ lw_all := lw_g (lw_at lw_m9 63 rfl) rfl
theorem q2086 : (Jvm.Cond.methodLink "GrassFieldModel" (342 : Nat) ({ cls := "GrassFieldModel", name := "noRow", desc := "(I)Z" } : Jvm.MethodName)) ∈ lw_all := lw_g (lw_at lw_m9 64 rfl) rfl
theorem q2087 : (Jvm.Cond.static ({ cls := "GrassFieldModel", name := "noRow", desc := "(I)Z" } : Jvm.MethodName)) ∈ lw_all := lw_g (lw_at lw_m9 65 rfl) rfl
theorem q2088 : (Jvm.Cond.code ({ cls := "GrassFieldModel", name := "noRow", desc := "(I)Z" } : Jvm.MethodName) prog_30_method_79_code (1 : Nat) (Option.some Jvm.ClassFile.FieldType.boolean)) ∈ lw_all := lw_g (lw_at lw_m9 66 rfl) rfl
theorem q2089 : (Jvm.Cond.methodLink "GrassFieldModel" (345 : Nat) ({ cls := "GrassFieldModel", name := "seenMany", desc := "()I" } : Jvm.MethodName)) ∈ lw_all := lw_g (lw_at lw_m9 67 rfl) rfl
theorem q2090 : (Jvm.Cond.privateMethod ({ cls := "GrassFieldModel", name := "seenMany", desc := "()I" } : Jvm.MethodName)) ∈ lw_tbl := lw_at lw_m9 68 rfl
theorem q2091 : (Jvm.Cond.instanceMethod ({ cls := "GrassFieldModel", name := "seenMany", desc := "()I" } : Jvm.MethodName)) ∈ lw_all := lw_g (lw_at lw_m9 69 rfl) rfl
theorem q2092 : (Jvm.Cond.code ({ cls := "GrassFieldModel", name := "seenMany", desc := "()I" } : Jvm.MethodName) prog_30_method_78_code (3 : Nat) (Option.some Jvm.ClassFile.FieldType.int)) ∈ lw_all := lw_g (lw_at lw_m9 70 rfl) rfl
theorem q2094 : (Jvm.Cond.instanceMethod ({ cls := "GrassFieldModel", name := "next", desc := "()I" } : Jvm.MethodName)) ∈ lw_all := lw_g (lw_at lw_m9 72 rfl) rfl
theorem q2095 : (Jvm.Cond.selects "GrassFieldModel" ({ cls := "GrassFieldModel", name := "next", desc := "()I" } : Jvm.MethodName) ({ cls := "GrassFieldModel", name := "next", desc := "()I" } : Jvm.MethodName)) ∈ lw_all := lw_g (lw_at lw_m9 73 rfl) rfl
theorem q2096 : (Jvm.Cond.code ({ cls := "GrassFieldModel", name := "next", desc := "()I" } : Jvm.MethodName) prog_30_method_81_code (7 : Nat) (Option.some Jvm.ClassFile.FieldType.int)) ∈ lw_all := lw_g (lw_at lw_m9 74 rfl) rfl
theorem q2098 : (Jvm.Cond.instanceMethod ({ cls := "GrassFieldModel", name := "needed", desc := "(II)I" } : Jvm.MethodName)) ∈ lw_all := lw_g (lw_at lw_m9 76 rfl) rfl
theorem q2099 : (Jvm.Cond.selects "GrassFieldModel" ({ cls := "GrassFieldModel", name := "needed", desc := "(II)I" } : Jvm.MethodName) ({ cls := "GrassFieldModel", name := "needed", desc := "(II)I" } : Jvm.MethodName)) ∈ lw_all := lw_g (lw_at lw_m9 77 rfl) rfl
theorem q2100 : (Jvm.Cond.code ({ cls := "GrassFieldModel", name := "needed", desc := "(II)I" } : Jvm.MethodName) prog_30_method_85_code (3 : Nat) (Option.some Jvm.ClassFile.FieldType.int)) ∈ lw_all := lw_g (lw_at lw_m9 78 rfl) rfl
theorem q2101 : (Jvm.Cond.methodLink "GrassFieldModel" (359 : Nat) ({ cls := "GrassFieldModel", name := "neededIn", desc := "(II)I" } : Jvm.MethodName)) ∈ lw_all := lw_g (lw_at lw_m9 79 rfl) rfl
theorem q2102 : (Jvm.Cond.privateMethod ({ cls := "GrassFieldModel", name := "neededIn", desc := "(II)I" } : Jvm.MethodName)) ∈ lw_tbl := lw_at lw_m9 80 rfl
theorem q2103 : (Jvm.Cond.instanceMethod ({ cls := "GrassFieldModel", name := "neededIn", desc := "(II)I" } : Jvm.MethodName)) ∈ lw_all := lw_g (lw_at lw_m9 81 rfl) rfl
theorem q2104 : (Jvm.Cond.code ({ cls := "GrassFieldModel", name := "neededIn", desc := "(II)I" } : Jvm.MethodName) prog_30_method_84_code (8 : Nat) (Option.some Jvm.ClassFile.FieldType.int)) ∈ lw_all := lw_g (lw_at lw_m9 82 rfl) rfl
theorem q2105 : (Jvm.Cond.methodLink "GrassFieldModel" (351 : Nat) ({ cls := "java/lang/Integer", name := "bitCount", desc := "(I)I" } : Jvm.MethodName)) ∈ lw_all := lw_g (lw_at lw_m9 83 rfl) rfl
theorem q2106 : (Jvm.Cond.methodLink "GrassFieldModel" (348 : Nat) ({ cls := "GrassFieldModel", name := "isSeenCase", desc := "(I)Z" } : Jvm.MethodName)) ∈ lw_all := lw_g (lw_at lw_m9 84 rfl) rfl
theorem q2107 : (Jvm.Cond.privateMethod ({ cls := "GrassFieldModel", name := "isSeenCase", desc := "(I)Z" } : Jvm.MethodName)) ∈ lw_tbl := lw_at lw_m9 85 rfl
theorem q2108 : (Jvm.Cond.instanceMethod ({ cls := "GrassFieldModel", name := "isSeenCase", desc := "(I)Z" } : Jvm.MethodName)) ∈ lw_all := lw_g (lw_at lw_m9 86 rfl) rfl
theorem q2109 : (Jvm.Cond.code ({ cls := "GrassFieldModel", name := "isSeenCase", desc := "(I)Z" } : Jvm.MethodName) prog_30_method_82_code (2 : Nat) (Option.some Jvm.ClassFile.FieldType.boolean)) ∈ lw_all := lw_g (lw_at lw_m9 87 rfl) rfl
theorem q2111 : (Jvm.Cond.instanceMethod ({ cls := "GrassFieldModel", name := "same", desc := "(III)I" } : Jvm.MethodName)) ∈ lw_all := lw_g (lw_at lw_m9 89 rfl) rfl
theorem q2112 : (Jvm.Cond.selects "GrassFieldModel" ({ cls := "GrassFieldModel", name := "same", desc := "(III)I" } : Jvm.MethodName) ({ cls := "GrassFieldModel", name := "same", desc := "(III)I" } : Jvm.MethodName)) ∈ lw_all := lw_g (lw_at lw_m9 90 rfl) rfl
theorem q2113 : (Jvm.Cond.code ({ cls := "GrassFieldModel", name := "same", desc := "(III)I" } : Jvm.MethodName) prog_30_method_86_code (4 : Nat) (Option.some Jvm.ClassFile.FieldType.int)) ∈ lw_all := lw_g (lw_at lw_m9 91 rfl) rfl
theorem q2115 : (Jvm.Cond.instanceMethod ({ cls := "GrassFieldModel", name := "later", desc := "(I)I" } : Jvm.MethodName)) ∈ lw_all := lw_g (lw_at lw_m9 93 rfl) rfl
theorem q2116 : (Jvm.Cond.selects "GrassFieldModel" ({ cls := "GrassFieldModel", name := "later", desc := "(I)I" } : Jvm.MethodName) ({ cls := "GrassFieldModel", name := "later", desc := "(I)I" } : Jvm.MethodName)) ∈ lw_all := lw_g (lw_at lw_m9 94 rfl) rfl
theorem q2117 : (Jvm.Cond.code ({ cls := "GrassFieldModel", name := "later", desc := "(I)I" } : Jvm.MethodName) prog_30_method_88_code (6 : Nat) (Option.some Jvm.ClassFile.FieldType.int)) ∈ lw_all := lw_g (lw_at lw_m9 95 rfl) rfl
theorem q2118 : (Jvm.Cond.methodLink "GrassFieldModel" (362 : Nat) ({ cls := "GrassFieldModel", name := "isModern", desc := "(I)Z" } : Jvm.MethodName)) ∈ lw_all := lw_g (lw_at lw_m9 96 rfl) rfl
theorem q2119 : (Jvm.Cond.privateMethod ({ cls := "GrassFieldModel", name := "isModern", desc := "(I)Z" } : Jvm.MethodName)) ∈ lw_tbl := lw_at lw_m9 97 rfl
theorem q2120 : (Jvm.Cond.instanceMethod ({ cls := "GrassFieldModel", name := "isModern", desc := "(I)Z" } : Jvm.MethodName)) ∈ lw_all := lw_g (lw_at lw_m9 98 rfl) rfl
theorem q2121 : (Jvm.Cond.code ({ cls := "GrassFieldModel", name := "isModern", desc := "(I)Z" } : Jvm.MethodName) prog_30_method_87_code (5 : Nat) (Option.some Jvm.ClassFile.FieldType.boolean)) ∈ lw_all := lw_g (lw_at lw_m9 99 rfl) rfl
theorem q2123 : (Jvm.Cond.instanceMethod ({ cls := "GrassFieldModel", name := "way", desc := "(II)I" } : Jvm.MethodName)) ∈ lw_all := lw_g (lw_at lw_m9 101 rfl) rfl
theorem q2124 : (Jvm.Cond.selects "GrassFieldModel" ({ cls := "GrassFieldModel", name := "way", desc := "(II)I" } : Jvm.MethodName) ({ cls := "GrassFieldModel", name := "way", desc := "(II)I" } : Jvm.MethodName)) ∈ lw_all := lw_g (lw_at lw_m9 102 rfl) rfl
theorem q2125 : (Jvm.Cond.code ({ cls := "GrassFieldModel", name := "way", desc := "(II)I" } : Jvm.MethodName) prog_30_method_94_code (6 : Nat) (Option.some Jvm.ClassFile.FieldType.int)) ∈ lw_all := lw_g (lw_at lw_m9 103 rfl) rfl
theorem q2126 : (Jvm.Cond.methodLink "GrassFieldModel" (378 : Nat) ({ cls := "GrassFieldModel", name := "gathers", desc := "(I)V" } : Jvm.MethodName)) ∈ lw_all := lw_g (lw_at lw_m9 104 rfl) rfl
theorem q2127 : (Jvm.Cond.privateMethod ({ cls := "GrassFieldModel", name := "gathers", desc := "(I)V" } : Jvm.MethodName)) ∈ lw_tbl := lw_at lw_m9 105 rfl
theorem q2128 : (Jvm.Cond.instanceMethod ({ cls := "GrassFieldModel", name := "gathers", desc := "(I)V" } : Jvm.MethodName)) ∈ lw_all := lw_g (lw_at lw_m9 106 rfl) rfl
theorem q2129 : (Jvm.Cond.code ({ cls := "GrassFieldModel", name := "gathers", desc := "(I)V" } : Jvm.MethodName) prog_30_method_89_code (3 : Nat) (Option.none : Option Jvm.ClassFile.FieldType)) ∈ lw_all := lw_g (lw_at lw_m9 107 rfl) rfl
theorem q2130 : (Jvm.Cond.methodLink "GrassFieldModel" (368 : Nat) ({ cls := "GrassFieldModel", name := "sureOf", desc := "(I)I" } : Jvm.MethodName)) ∈ lw_all := lw_g (lw_at lw_m9 108 rfl) rfl
theorem q2131 : (Jvm.Cond.privateMethod ({ cls := "GrassFieldModel", name := "sureOf", desc := "(I)I" } : Jvm.MethodName)) ∈ lw_tbl := lw_at lw_m9 109 rfl
theorem q2132 : (Jvm.Cond.instanceMethod ({ cls := "GrassFieldModel", name := "sureOf", desc := "(I)I" } : Jvm.MethodName)) ∈ lw_all := lw_g (lw_at lw_m9 110 rfl) rfl
theorem q2133 : (Jvm.Cond.code ({ cls := "GrassFieldModel", name := "sureOf", desc := "(I)I" } : Jvm.MethodName) prog_30_method_83_code (3 : Nat) (Option.some Jvm.ClassFile.FieldType.int)) ∈ lw_all := lw_g (lw_at lw_m9 111 rfl) rfl
theorem q2134 : (Jvm.Cond.methodLink "GrassFieldModel" (356 : Nat) ({ cls := "java/lang/Integer", name := "numberOfTrailingZeros", desc := "(I)I" } : Jvm.MethodName)) ∈ lw_all := lw_g (lw_at lw_m9 112 rfl) rfl
theorem q2135 : (Jvm.Cond.methodLink "GrassFieldModel" (381 : Nat) ({ cls := "GrassFieldModel", name := "leads", desc := "(I)V" } : Jvm.MethodName)) ∈ lw_all := lw_g (lw_at lw_m9 113 rfl) rfl
theorem q2136 : (Jvm.Cond.privateMethod ({ cls := "GrassFieldModel", name := "leads", desc := "(I)V" } : Jvm.MethodName)) ∈ lw_tbl := lw_at lw_m9 114 rfl
theorem q2137 : (Jvm.Cond.instanceMethod ({ cls := "GrassFieldModel", name := "leads", desc := "(I)V" } : Jvm.MethodName)) ∈ lw_all := lw_g (lw_at lw_m9 115 rfl) rfl
theorem q2138 : (Jvm.Cond.code ({ cls := "GrassFieldModel", name := "leads", desc := "(I)V" } : Jvm.MethodName) prog_30_method_91_code (8 : Nat) (Option.none : Option Jvm.ClassFile.FieldType)) ∈ lw_all := lw_g (lw_at lw_m9 116 rfl) rfl
theorem q2139 : (Jvm.Cond.constant "GrassFieldModel" (371 : Nat) (100000 : Int32)) ∈ lw_all := lw_g (lw_at lw_m9 117 rfl) rfl
theorem q2140 : (Jvm.Cond.methodLink "GrassFieldModel" (372 : Nat) ({ cls := "GrassFieldModel", name := "goes", desc := "(II)I" } : Jvm.MethodName)) ∈ lw_all := lw_g (lw_at lw_m9 118 rfl) rfl
theorem q2141 : (Jvm.Cond.privateMethod ({ cls := "GrassFieldModel", name := "goes", desc := "(II)I" } : Jvm.MethodName)) ∈ lw_tbl := lw_at lw_m9 119 rfl
theorem q2142 : (Jvm.Cond.instanceMethod ({ cls := "GrassFieldModel", name := "goes", desc := "(II)I" } : Jvm.MethodName)) ∈ lw_all := lw_g (lw_at lw_m9 120 rfl) rfl
theorem q2143 : (Jvm.Cond.code ({ cls := "GrassFieldModel", name := "goes", desc := "(II)I" } : Jvm.MethodName) prog_30_method_90_code (3 : Nat) (Option.some Jvm.ClassFile.FieldType.int)) ∈ lw_all := lw_g (lw_at lw_m9 121 rfl) rfl
theorem q2144 : (Jvm.Cond.methodLink "GrassFieldModel" (384 : Nat) ({ cls := "GrassFieldModel", name := "handsOf", desc := "()I" } : Jvm.MethodName)) ∈ lw_all := lw_g (lw_at lw_m9 122 rfl) rfl
theorem q2145 : (Jvm.Cond.privateMethod ({ cls := "GrassFieldModel", name := "handsOf", desc := "()I" } : Jvm.MethodName)) ∈ lw_tbl := lw_at lw_m9 123 rfl
theorem q2146 : (Jvm.Cond.instanceMethod ({ cls := "GrassFieldModel", name := "handsOf", desc := "()I" } : Jvm.MethodName)) ∈ lw_all := lw_g (lw_at lw_m9 124 rfl) rfl
theorem q2147 : (Jvm.Cond.code ({ cls := "GrassFieldModel", name := "handsOf", desc := "()I" } : Jvm.MethodName) prog_30_method_93_code (3 : Nat) (Option.some Jvm.ClassFile.FieldType.int)) ∈ lw_all := lw_g (lw_at lw_m9 125 rfl) rfl
theorem q2148 : (Jvm.Cond.methodLink "GrassFieldModel" (375 : Nat) ({ cls := "GrassFieldModel", name := "earliest", desc := "(I)I" } : Jvm.MethodName)) ∈ lw_all := lw_g (lw_at lw_m9 126 rfl) rfl
theorem q2149 : (Jvm.Cond.privateMethod ({ cls := "GrassFieldModel", name := "earliest", desc := "(I)I" } : Jvm.MethodName)) ∈ lw_tbl := lw_at lw_m9 127 rfl
theorem q2150 : (Jvm.Cond.instanceMethod ({ cls := "GrassFieldModel", name := "earliest", desc := "(I)I" } : Jvm.MethodName)) ∈ lw_all := lw_g (lw_at lw_m9 128 rfl) rfl
theorem q2151 : (Jvm.Cond.code ({ cls := "GrassFieldModel", name := "earliest", desc := "(I)I" } : Jvm.MethodName) prog_30_method_92_code (4 : Nat) (Option.some Jvm.ClassFile.FieldType.int)) ∈ lw_all := lw_g (lw_at lw_m9 129 rfl) rfl
theorem q2153 : (Jvm.Cond.instanceMethod ({ cls := "GrassFieldModel", name := "held", desc := "(IIIZ)I" } : Jvm.MethodName)) ∈ lw_all := lw_g (lw_at lw_m9 131 rfl) rfl
theorem q2154 : (Jvm.Cond.selects "GrassFieldModel" ({ cls := "GrassFieldModel", name := "held", desc := "(IIIZ)I" } : Jvm.MethodName) ({ cls := "GrassFieldModel", name := "held", desc := "(IIIZ)I" } : Jvm.MethodName)) ∈ lw_all := lw_g (lw_at lw_m9 132 rfl) rfl
theorem q2155 : (Jvm.Cond.code ({ cls := "GrassFieldModel", name := "held", desc := "(IIIZ)I" } : Jvm.MethodName) prog_30_method_98_code (6 : Nat) (Option.some Jvm.ClassFile.FieldType.int)) ∈ lw_all := lw_g (lw_at lw_m9 133 rfl) rfl
theorem q2156 : (Jvm.Cond.methodLink "GrassFieldModel" (393 : Nat) ({ cls := "GrassFieldModel", name := "noSide", desc := "(I)Z" } : Jvm.MethodName)) ∈ lw_all := lw_g (lw_at lw_m9 134 rfl) rfl
theorem q2157 : (Jvm.Cond.static ({ cls := "GrassFieldModel", name := "noSide", desc := "(I)Z" } : Jvm.MethodName)) ∈ lw_all := lw_g (lw_at lw_m9 135 rfl) rfl
theorem q2158 : (Jvm.Cond.code ({ cls := "GrassFieldModel", name := "noSide", desc := "(I)Z" } : Jvm.MethodName) prog_30_method_97_code (1 : Nat) (Option.some Jvm.ClassFile.FieldType.boolean)) ∈ lw_all := lw_g (lw_at lw_m9 136 rfl) rfl
theorem q2159 : (Jvm.Cond.methodLink "GrassFieldModel" (396 : Nat) ({ cls := "GrassFieldModel", name := "longestHeld", desc := "(III)I" } : Jvm.MethodName)) ∈ lw_all := lw_g (lw_at lw_m9 137 rfl) rfl
theorem q2160 : (Jvm.Cond.privateMethod ({ cls := "GrassFieldModel", name := "longestHeld", desc := "(III)I" } : Jvm.MethodName)) ∈ lw_tbl := lw_at lw_m9 138 rfl
theorem q2161 : (Jvm.Cond.instanceMethod ({ cls := "GrassFieldModel", name := "longestHeld", desc := "(III)I" } : Jvm.MethodName)) ∈ lw_all := lw_g (lw_at lw_m9 139 rfl) rfl
theorem q2162 : (Jvm.Cond.code ({ cls := "GrassFieldModel", name := "longestHeld", desc := "(III)I" } : Jvm.MethodName) prog_30_method_96_code (9 : Nat) (Option.some Jvm.ClassFile.FieldType.int)) ∈ lw_all := lw_g (lw_at lw_m9 140 rfl) rfl
theorem q2163 : (Jvm.Cond.methodLink "GrassFieldModel" (390 : Nat) ({ cls := "GrassFieldModel", name := "gathersRow", desc := "(II)V" } : Jvm.MethodName)) ∈ lw_all := lw_g (lw_at lw_m9 141 rfl) rfl
theorem q2164 : (Jvm.Cond.privateMethod ({ cls := "GrassFieldModel", name := "gathersRow", desc := "(II)V" } : Jvm.MethodName)) ∈ lw_tbl := lw_at lw_m9 142 rfl
theorem q2165 : (Jvm.Cond.instanceMethod ({ cls := "GrassFieldModel", name := "gathersRow", desc := "(II)V" } : Jvm.MethodName)) ∈ lw_all := lw_g (lw_at lw_m9 143 rfl) rfl
theorem q2166 : (Jvm.Cond.code ({ cls := "GrassFieldModel", name := "gathersRow", desc := "(II)V" } : Jvm.MethodName) prog_30_method_95_code (6 : Nat) (Option.none : Option Jvm.ClassFile.FieldType)) ∈ lw_all := lw_g (lw_at lw_m9 144 rfl) rfl
theorem q2168 : (Jvm.Cond.instanceMethod ({ cls := "GrassFieldModel", name := "heaps", desc := "(IZ)I" } : Jvm.MethodName)) ∈ lw_all := lw_g (lw_at lw_m9 146 rfl) rfl
theorem q2169 : (Jvm.Cond.selects "GrassFieldModel" ({ cls := "GrassFieldModel", name := "heaps", desc := "(IZ)I" } : Jvm.MethodName) ({ cls := "GrassFieldModel", name := "heaps", desc := "(IZ)I" } : Jvm.MethodName)) ∈ lw_all := lw_g (lw_at lw_m9 147 rfl) rfl
theorem q2170 : (Jvm.Cond.code ({ cls := "GrassFieldModel", name := "heaps", desc := "(IZ)I" } : Jvm.MethodName) prog_30_method_101_code (3 : Nat) (Option.some Jvm.ClassFile.FieldType.int)) ∈ lw_all := lw_g (lw_at lw_m9 148 rfl) rfl
theorem q2171 : (Jvm.Cond.methodLink "GrassFieldModel" (403 : Nat) ({ cls := "GrassFieldModel", name := "heapsOf", desc := "(IZ)I" } : Jvm.MethodName)) ∈ lw_all := lw_g (lw_at lw_m9 149 rfl) rfl
theorem q2172 : (Jvm.Cond.privateMethod ({ cls := "GrassFieldModel", name := "heapsOf", desc := "(IZ)I" } : Jvm.MethodName)) ∈ lw_tbl := lw_at lw_m9 150 rfl
theorem q2173 : (Jvm.Cond.instanceMethod ({ cls := "GrassFieldModel", name := "heapsOf", desc := "(IZ)I" } : Jvm.MethodName)) ∈ lw_all := lw_g (lw_at lw_m9 151 rfl) rfl
theorem q2174 : (Jvm.Cond.code ({ cls := "GrassFieldModel", name := "heapsOf", desc := "(IZ)I" } : Jvm.MethodName) prog_30_method_100_code (5 : Nat) (Option.some Jvm.ClassFile.FieldType.int)) ∈ lw_all := lw_g (lw_at lw_m9 152 rfl) rfl
theorem q2175 : (Jvm.Cond.methodLink "GrassFieldModel" (400 : Nat) ({ cls := "GrassFieldModel", name := "casesAt", desc := "(I)I" } : Jvm.MethodName)) ∈ lw_all := lw_g (lw_at lw_m9 153 rfl) rfl
theorem q2176 : (Jvm.Cond.privateMethod ({ cls := "GrassFieldModel", name := "casesAt", desc := "(I)I" } : Jvm.MethodName)) ∈ lw_tbl := lw_at lw_m9 154 rfl
theorem q2177 : (Jvm.Cond.instanceMethod ({ cls := "GrassFieldModel", name := "casesAt", desc := "(I)I" } : Jvm.MethodName)) ∈ lw_all := lw_g (lw_at lw_m9 155 rfl) rfl
theorem q2178 : (Jvm.Cond.code ({ cls := "GrassFieldModel", name := "casesAt", desc := "(I)I" } : Jvm.MethodName) prog_30_method_99_code (4 : Nat) (Option.some Jvm.ClassFile.FieldType.int)) ∈ lw_all := lw_g (lw_at lw_m9 156 rfl) rfl
theorem q2180 : (Jvm.Cond.instanceMethod ({ cls := "GrassFieldModel", name := "length", desc := "(IIIZ)I" } : Jvm.MethodName)) ∈ lw_all := lw_g (lw_at lw_m9 158 rfl) rfl
theorem q2181 : (Jvm.Cond.selects "GrassFieldModel" ({ cls := "GrassFieldModel", name := "length", desc := "(IIIZ)I" } : Jvm.MethodName) ({ cls := "GrassFieldModel", name := "length", desc := "(IIIZ)I" } : Jvm.MethodName)) ∈ lw_all := lw_g (lw_at lw_m9 159 rfl) rfl
theorem q2182 : (Jvm.Cond.code ({ cls := "GrassFieldModel", name := "length", desc := "(IIIZ)I" } : Jvm.MethodName) prog_30_method_102_code (9 : Nat) (Option.some Jvm.ClassFile.FieldType.int)) ∈ lw_all := lw_g (lw_at lw_m9 160 rfl) rfl
theorem q2184 : (Jvm.Cond.instanceMethod ({ cls := "GrassFieldModel", name := "still", desc := "(II)I" } : Jvm.MethodName)) ∈ lw_all := lw_g (lw_at lw_m9 162 rfl) rfl
theorem q2185 : (Jvm.Cond.selects "GrassFieldModel" ({ cls := "GrassFieldModel", name := "still", desc := "(II)I" } : Jvm.MethodName) ({ cls := "GrassFieldModel", name := "still", desc := "(II)I" } : Jvm.MethodName)) ∈ lw_all := lw_g (lw_at lw_m9 163 rfl) rfl
theorem q2186 : (Jvm.Cond.code ({ cls := "GrassFieldModel", name := "still", desc := "(II)I" } : Jvm.MethodName) prog_30_method_103_code (8 : Nat) (Option.some Jvm.ClassFile.FieldType.int)) ∈ lw_all := lw_g (lw_at lw_m9 164 rfl) rfl
theorem q2188 : (Jvm.Cond.instanceMethod ({ cls := "GrassFieldModel", name := "teller", desc := "(IIII)I" } : Jvm.MethodName)) ∈ lw_all := lw_g (lw_at lw_m9 166 rfl) rfl
theorem q2189 : (Jvm.Cond.selects "GrassFieldModel" ({ cls := "GrassFieldModel", name := "teller", desc := "(IIII)I" } : Jvm.MethodName) ({ cls := "GrassFieldModel", name := "teller", desc := "(IIII)I" } : Jvm.MethodName)) ∈ lw_all := lw_g (lw_at lw_m9 167 rfl) rfl
theorem q2190 : (Jvm.Cond.code ({ cls := "GrassFieldModel", name := "teller", desc := "(IIII)I" } : Jvm.MethodName) prog_30_method_106_code (6 : Nat) (Option.some Jvm.ClassFile.FieldType.int)) ∈ lw_all := lw_g (lw_at lw_m9 168 rfl) rfl
theorem q2192 : (Jvm.Cond.instanceMethod ({ cls := "GrassFieldModel", name := "tells", desc := "(III)I" } : Jvm.MethodName)) ∈ lw_all := lw_g (lw_at lw_m9 170 rfl) rfl
theorem q2193 : (Jvm.Cond.selects "GrassFieldModel" ({ cls := "GrassFieldModel", name := "tells", desc := "(III)I" } : Jvm.MethodName) ({ cls := "GrassFieldModel", name := "tells", desc := "(III)I" } : Jvm.MethodName)) ∈ lw_all := lw_g (lw_at lw_m9 171 rfl) rfl
theorem q2194 : (Jvm.Cond.code ({ cls := "GrassFieldModel", name := "tells", desc := "(III)I" } : Jvm.MethodName) prog_30_method_107_code (5 : Nat) (Option.some Jvm.ClassFile.FieldType.int)) ∈ lw_all := lw_g (lw_at lw_m9 172 rfl) rfl
theorem q2196 : (Jvm.Cond.instanceMethod ({ cls := "GrassFieldModel", name := "could", desc := "(IZ)Z" } : Jvm.MethodName)) ∈ lw_all := lw_g (lw_at lw_m9 174 rfl) rfl
theorem q2197 : (Jvm.Cond.selects "GrassFieldModel" ({ cls := "GrassFieldModel", name := "could", desc := "(IZ)Z" } : Jvm.MethodName) ({ cls := "GrassFieldModel", name := "could", desc := "(IZ)Z" } : Jvm.MethodName)) ∈ lw_all := lw_g (lw_at lw_m9 175 rfl) rfl
theorem q2198 : (Jvm.Cond.code ({ cls := "GrassFieldModel", name := "could", desc := "(IZ)Z" } : Jvm.MethodName) prog_30_method_110_code (3 : Nat) (Option.some Jvm.ClassFile.FieldType.boolean)) ∈ lw_all := lw_g (lw_at lw_m9 176 rfl) rfl
theorem q2199 : (Jvm.Cond.methodLink "GrassFieldModel" (416 : Nat) ({ cls := "GrassFieldModel", name := "fitsAll", desc := "(I)Z" } : Jvm.MethodName)) ∈ lw_all := lw_g (lw_at lw_m9 177 rfl) rfl
theorem q2200 : (Jvm.Cond.privateMethod ({ cls := "GrassFieldModel", name := "fitsAll", desc := "(I)Z" } : Jvm.MethodName)) ∈ lw_tbl := lw_at lw_m9 178 rfl
theorem q2201 : (Jvm.Cond.instanceMethod ({ cls := "GrassFieldModel", name := "fitsAll", desc := "(I)Z" } : Jvm.MethodName)) ∈ lw_all := lw_g (lw_at lw_m9 179 rfl) rfl
theorem q2202 : (Jvm.Cond.code ({ cls := "GrassFieldModel", name := "fitsAll", desc := "(I)Z" } : Jvm.MethodName) prog_30_method_109_code (4 : Nat) (Option.some Jvm.ClassFile.FieldType.boolean)) ∈ lw_all := lw_g (lw_at lw_m9 180 rfl) rfl
theorem q2203 : (Jvm.Cond.methodLink "GrassFieldModel" (407 : Nat) ({ cls := "GrassFieldModel", name := "ofTelling", desc := "(II)I" } : Jvm.MethodName)) ∈ lw_all := lw_g (lw_at lw_m9 181 rfl) rfl
theorem q2204 : (Jvm.Cond.privateMethod ({ cls := "GrassFieldModel", name := "ofTelling", desc := "(II)I" } : Jvm.MethodName)) ∈ lw_tbl := lw_at lw_m9 182 rfl
theorem q2205 : (Jvm.Cond.instanceMethod ({ cls := "GrassFieldModel", name := "ofTelling", desc := "(II)I" } : Jvm.MethodName)) ∈ lw_all := lw_g (lw_at lw_m9 183 rfl) rfl
theorem q2206 : (Jvm.Cond.code ({ cls := "GrassFieldModel", name := "ofTelling", desc := "(II)I" } : Jvm.MethodName) prog_30_method_105_code (3 : Nat) (Option.some Jvm.ClassFile.FieldType.int)) ∈ lw_all := lw_g (lw_at lw_m9 184 rfl) rfl
theorem q2207 : (Jvm.Cond.methodLink "GrassFieldModel" (413 : Nat) ({ cls := "GrassFieldModel", name := "couldBe", desc := "(I)Z" } : Jvm.MethodName)) ∈ lw_all := lw_g (lw_at lw_m9 185 rfl) rfl
theorem q2208 : (Jvm.Cond.privateMethod ({ cls := "GrassFieldModel", name := "couldBe", desc := "(I)Z" } : Jvm.MethodName)) ∈ lw_tbl := lw_at lw_m9 186 rfl
theorem q2209 : (Jvm.Cond.instanceMethod ({ cls := "GrassFieldModel", name := "couldBe", desc := "(I)Z" } : Jvm.MethodName)) ∈ lw_all := lw_g (lw_at lw_m9 187 rfl) rfl
theorem q2210 : (Jvm.Cond.code ({ cls := "GrassFieldModel", name := "couldBe", desc := "(I)Z" } : Jvm.MethodName) prog_30_method_108_code (3 : Nat) (Option.some Jvm.ClassFile.FieldType.boolean)) ∈ lw_all := lw_g (lw_at lw_m9 188 rfl) rfl
theorem q2211 : (Jvm.Cond.methodLink "GrassFieldModel" (410 : Nat) ({ cls := "GrassFieldModel", name := "ofTeller", desc := "(II)I" } : Jvm.MethodName)) ∈ lw_all := lw_g (lw_at lw_m9 189 rfl) rfl
theorem q2212 : (Jvm.Cond.privateMethod ({ cls := "GrassFieldModel", name := "ofTeller", desc := "(II)I" } : Jvm.MethodName)) ∈ lw_tbl := lw_at lw_m9 190 rfl
theorem q2213 : (Jvm.Cond.instanceMethod ({ cls := "GrassFieldModel", name := "ofTeller", desc := "(II)I" } : Jvm.MethodName)) ∈ lw_all := lw_g (lw_at lw_m9 191 rfl) rfl
theorem q2214 : (Jvm.Cond.code ({ cls := "GrassFieldModel", name := "ofTeller", desc := "(II)I" } : Jvm.MethodName) prog_30_method_104_code (3 : Nat) (Option.some Jvm.ClassFile.FieldType.int)) ∈ lw_all := lw_g (lw_at lw_m9 192 rfl) rfl
theorem q2216 : (Jvm.Cond.instanceMethod ({ cls := "GrassFieldModel", name := "talked", desc := "(II)Z" } : Jvm.MethodName)) ∈ lw_all := lw_g (lw_at lw_m9 194 rfl) rfl
theorem q2217 : (Jvm.Cond.selects "GrassFieldModel" ({ cls := "GrassFieldModel", name := "talked", desc := "(II)Z" } : Jvm.MethodName) ({ cls := "GrassFieldModel", name := "talked", desc := "(II)Z" } : Jvm.MethodName)) ∈ lw_all := lw_g (lw_at lw_m9 195 rfl) rfl
theorem q2218 : (Jvm.Cond.code ({ cls := "GrassFieldModel", name := "talked", desc := "(II)Z" } : Jvm.MethodName) prog_30_method_112_code (3 : Nat) (Option.some Jvm.ClassFile.FieldType.boolean)) ∈ lw_all := lw_g (lw_at lw_m9 196 rfl) rfl
theorem q2219 : (Jvm.Cond.methodLink "GrassFieldModel" (419 : Nat) ({ cls := "GrassFieldModel", name := "mayHaveTalked", desc := "(II)Z" } : Jvm.MethodName)) ∈ lw_all := lw_g (lw_at lw_m9 197 rfl) rfl
theorem q2220 : (Jvm.Cond.privateMethod ({ cls := "GrassFieldModel", name := "mayHaveTalked", desc := "(II)Z" } : Jvm.MethodName)) ∈ lw_tbl := lw_at lw_m9 198 rfl
theorem q2221 : (Jvm.Cond.instanceMethod ({ cls := "GrassFieldModel", name := "mayHaveTalked", desc := "(II)Z" } : Jvm.MethodName)) ∈ lw_all := lw_g (lw_at lw_m9 199 rfl) rfl
theorem q2222 : (Jvm.Cond.code ({ cls := "GrassFieldModel", name := "mayHaveTalked", desc := "(II)Z" } : Jvm.MethodName) prog_30_method_111_code (6 : Nat) (Option.some Jvm.ClassFile.FieldType.boolean)) ∈ lw_all := lw_g (lw_at lw_m9 200 rfl) rfl
theorem q2224 : (Jvm.Cond.instanceMethod ({ cls := "GrassFieldModel", name := "apart", desc := "()I" } : Jvm.MethodName)) ∈ lw_all := lw_g (lw_at lw_m9 202 rfl) rfl
theorem q2225 : (Jvm.Cond.selects "GrassFieldModel" ({ cls := "GrassFieldModel", name := "apart", desc := "()I" } : Jvm.MethodName) ({ cls := "GrassFieldModel", name := "apart", desc := "()I" } : Jvm.MethodName)) ∈ lw_all := lw_g (lw_at lw_m9 203 rfl) rfl
theorem q2226 : (Jvm.Cond.code ({ cls := "GrassFieldModel", name := "apart", desc := "()I" } : Jvm.MethodName) prog_30_method_113_code (7 : Nat) (Option.some Jvm.ClassFile.FieldType.int)) ∈ lw_all := lw_g (lw_at lw_m9 204 rfl) rfl
theorem q2228 : (Jvm.Cond.instanceMethod ({ cls := "GrassFieldModel", name := "who", desc := "(I)I" } : Jvm.MethodName)) ∈ lw_all := lw_g (lw_at lw_m9 206 rfl) rfl
theorem q2229 : (Jvm.Cond.selects "GrassFieldModel" ({ cls := "GrassFieldModel", name := "who", desc := "(I)I" } : Jvm.MethodName) ({ cls := "GrassFieldModel", name := "who", desc := "(I)I" } : Jvm.MethodName)) ∈ lw_all := lw_g (lw_at lw_m9 207 rfl) rfl
theorem q2230 : (Jvm.Cond.code ({ cls := "GrassFieldModel", name := "who", desc := "(I)I" } : Jvm.MethodName) prog_30_method_115_code (5 : Nat) (Option.some Jvm.ClassFile.FieldType.int)) ∈ lw_all := lw_g (lw_at lw_m9 208 rfl) rfl
theorem q2231 : (Jvm.Cond.methodLink "GrassFieldModel" (425 : Nat) ({ cls := "GrassFieldModel", name := "canAll", desc := "(II)Z" } : Jvm.MethodName)) ∈ lw_all := lw_g (lw_at lw_m9 209 rfl) rfl
theorem q2232 : (Jvm.Cond.privateMethod ({ cls := "GrassFieldModel", name := "canAll", desc := "(II)Z" } : Jvm.MethodName)) ∈ lw_tbl := lw_at lw_m9 210 rfl
theorem q2233 : (Jvm.Cond.instanceMethod ({ cls := "GrassFieldModel", name := "canAll", desc := "(II)Z" } : Jvm.MethodName)) ∈ lw_all := lw_g (lw_at lw_m9 211 rfl) rfl
theorem q2234 : (Jvm.Cond.code ({ cls := "GrassFieldModel", name := "canAll", desc := "(II)Z" } : Jvm.MethodName) prog_30_method_114_code (8 : Nat) (Option.some Jvm.ClassFile.FieldType.boolean)) ∈ lw_all := lw_g (lw_at lw_m9 212 rfl) rfl
theorem q2236 : (Jvm.Cond.instanceMethod ({ cls := "GrassFieldModel", name := "joined", desc := "(IIIIZ)I" } : Jvm.MethodName)) ∈ lw_all := lw_g (lw_at lw_m9 214 rfl) rfl
theorem q2237 : (Jvm.Cond.selects "GrassFieldModel" ({ cls := "GrassFieldModel", name := "joined", desc := "(IIIIZ)I" } : Jvm.MethodName) ({ cls := "GrassFieldModel", name := "joined", desc := "(IIIIZ)I" } : Jvm.MethodName)) ∈ lw_all := lw_g (lw_at lw_m9 215 rfl) rfl
theorem q2238 : (Jvm.Cond.code ({ cls := "GrassFieldModel", name := "joined", desc := "(IIIIZ)I" } : Jvm.MethodName) prog_30_method_117_code (6 : Nat) (Option.some Jvm.ClassFile.FieldType.int)) ∈ lw_all := lw_g (lw_at lw_m9 216 rfl) rfl
theorem q2239 : (Jvm.Cond.methodLink "GrassFieldModel" (428 : Nat) ({ cls := "GrassFieldModel", name := "gunsIn", desc := "(IIZ)I" } : Jvm.MethodName)) ∈ lw_all := lw_g (lw_at lw_m9 217 rfl) rfl
theorem q2240 : (Jvm.Cond.privateMethod ({ cls := "GrassFieldModel", name := "gunsIn", desc := "(IIZ)I" } : Jvm.MethodName)) ∈ lw_tbl := lw_at lw_m9 218 rfl
theorem q2241 : (Jvm.Cond.instanceMethod ({ cls := "GrassFieldModel", name := "gunsIn", desc := "(IIZ)I" } : Jvm.MethodName)) ∈ lw_all := lw_g (lw_at lw_m9 219 rfl) rfl
theorem q2242 : (Jvm.Cond.code ({ cls := "GrassFieldModel", name := "gunsIn", desc := "(IIZ)I" } : Jvm.MethodName) prog_30_method_116_code (6 : Nat) (Option.some Jvm.ClassFile.FieldType.int)) ∈ lw_all := lw_g (lw_at lw_m9 220 rfl) rfl
theorem q2244 : (Jvm.Cond.instanceMethod ({ cls := "GrassFieldModel", name := "holds", desc := "(I)Z" } : Jvm.MethodName)) ∈ lw_all := lw_g (lw_at lw_m9 222 rfl) rfl
theorem q2245 : (Jvm.Cond.selects "GrassFieldModel" ({ cls := "GrassFieldModel", name := "holds", desc := "(I)Z" } : Jvm.MethodName) ({ cls := "GrassFieldModel", name := "holds", desc := "(I)Z" } : Jvm.MethodName)) ∈ lw_all := lw_g (lw_at lw_m9 223 rfl) rfl
theorem q2246 : (Jvm.Cond.code ({ cls := "GrassFieldModel", name := "holds", desc := "(I)Z" } : Jvm.MethodName) prog_30_method_119_code (2 : Nat) (Option.some Jvm.ClassFile.FieldType.boolean)) ∈ lw_all := lw_g (lw_at lw_m9 224 rfl) rfl
theorem q2247 : (Jvm.Cond.methodLink "GrassFieldModel" (432 : Nat) ({ cls := "GrassFieldModel", name := "asks", desc := "()V" } : Jvm.MethodName)) ∈ lw_all := lw_g (lw_at lw_m9 225 rfl) rfl
theorem q2248 : (Jvm.Cond.privateMethod ({ cls := "GrassFieldModel", name := "asks", desc := "()V" } : Jvm.MethodName)) ∈ lw_tbl := lw_at lw_m9 226 rfl
theorem q2249 : (Jvm.Cond.instanceMethod ({ cls := "GrassFieldModel", name := "asks", desc := "()V" } : Jvm.MethodName)) ∈ lw_all := lw_g (lw_at lw_m9 227 rfl) rfl
theorem q2250 : (Jvm.Cond.code ({ cls := "GrassFieldModel", name := "asks", desc := "()V" } : Jvm.MethodName) prog_30_method_118_code (2 : Nat) (Option.none : Option Jvm.ClassFile.FieldType)) ∈ lw_all := lw_g (lw_at lw_m9 228 rfl) rfl
theorem q2252 : (Jvm.Cond.instanceMethod ({ cls := "GrassFieldModel", name := "odds", desc := "(I)I" } : Jvm.MethodName)) ∈ lw_all := lw_g (lw_at lw_m9 230 rfl) rfl
theorem q2253 : (Jvm.Cond.selects "GrassFieldModel" ({ cls := "GrassFieldModel", name := "odds", desc := "(I)I" } : Jvm.MethodName) ({ cls := "GrassFieldModel", name := "odds", desc := "(I)I" } : Jvm.MethodName)) ∈ lw_all := lw_g (lw_at lw_m9 231 rfl) rfl
theorem q2254 : (Jvm.Cond.code ({ cls := "GrassFieldModel", name := "odds", desc := "(I)I" } : Jvm.MethodName) prog_30_method_120_code (4 : Nat) (Option.some Jvm.ClassFile.FieldType.int)) ∈ lw_all := lw_g (lw_at lw_m9 232 rfl) rfl
theorem q2256 : (Jvm.Cond.instanceMethod ({ cls := "GrassFieldModel", name := "count", desc := "(I)I" } : Jvm.MethodName)) ∈ lw_all := lw_g (lw_at lw_m9 234 rfl) rfl
theorem q2257 : (Jvm.Cond.selects "GrassFieldModel" ({ cls := "GrassFieldModel", name := "count", desc := "(I)I" } : Jvm.MethodName) ({ cls := "GrassFieldModel", name := "count", desc := "(I)I" } : Jvm.MethodName)) ∈ lw_all := lw_g (lw_at lw_m9 235 rfl) rfl
theorem q2258 : (Jvm.Cond.code ({ cls := "GrassFieldModel", name := "count", desc := "(I)I" } : Jvm.MethodName) prog_30_method_121_code (4 : Nat) (Option.some Jvm.ClassFile.FieldType.int)) ∈ lw_all := lw_g (lw_at lw_m9 236 rfl) rfl
theorem q2268 : (Jvm.Cond.castable "GrassFieldModel" "java/lang/Object") ∈ lw_tbl := lw_at lw_m10 6 rfl
theorem in_X6 : ∀ w ∈ wsX60, w ∈ lw_all := lw_in wsX60 [1698, 1700, 1702, 1704, 1706, 1708, 1710, 1712, 1714, 1716, 1718, 1720, 1722, 1724, 1726, 1728, 1730, 1732, 1734, 1736, 1738, 1740, 1742, 1744, 1746, 1748, 1750, 1752] (by decide +kernel) (by decide +kernel)
theorem q118 : (Jvm.Cond.initialized "GrassField$Gun") ∈ lw_all := lw_g (lw_at lw_m1 16 rfl) rfl
theorem q592 : (Jvm.Cond.instantiable "GrassField$Gun" (4 : Nat)) ∈ lw_all := lw_g (lw_at lw_m3 10 rfl) rfl
theorem q594 : (Jvm.Cond.instanceMethod ({ cls := "GrassField$Gun", name := "<init>", desc := "(IIII)V" } : Jvm.MethodName)) ∈ lw_all := lw_g (lw_at lw_m3 12 rfl) rfl
theorem q595 : (Jvm.Cond.code ({ cls := "GrassField$Gun", name := "<init>", desc := "(IIII)V" } : Jvm.MethodName) prog_10_method_1_code (5 : Nat) (Option.none : Option Jvm.ClassFile.FieldType)) ∈ lw_all := lw_g (lw_at lw_m3 13 rfl) rfl
theorem q596 : (Jvm.Cond.methodLink "GrassField$Gun" (1 : Nat) ({ cls := "java/lang/Object", name := "<init>", desc := "()V" } : Jvm.MethodName)) ∈ lw_all := lw_g (lw_at lw_m3 14 rfl) rfl
theorem q597 : (Jvm.Cond.fieldLink "GrassField$Gun" (7 : Nat) "GrassField$Gun" "side" "I") ∈ lw_all := lw_g (lw_at lw_m3 15 rfl) rfl
theorem q600 : (Jvm.Cond.fieldLink "GrassField$Gun" (13 : Nat) "GrassField$Gun" "mark" "I") ∈ lw_all := lw_g (lw_at lw_m3 18 rfl) rfl
theorem q602 : (Jvm.Cond.fieldLink "GrassField$Gun" (16 : Nat) "GrassField$Gun" "year" "I") ∈ lw_all := lw_g (lw_at lw_m3 20 rfl) rfl
theorem q605 : (Jvm.Cond.fieldLink "GrassField$Gun" (19 : Nat) "GrassField$Gun" "rounds" "I") ∈ lw_all := lw_g (lw_at lw_m3 23 rfl) rfl
theorem q609 : (Jvm.Cond.laysFinal "GrassField$Gun" "GrassField$Gun" "side" "I") ∈ lw_all := lw_g (lw_at lw_m3 27 rfl) rfl
theorem q610 : (Jvm.Cond.soleField "GrassField$Gun" "side") ∈ lw_all := lw_g (lw_at lw_m3 28 rfl) rfl
theorem q611 : (Jvm.Cond.laysFinal "GrassField$Gun" "GrassField$Gun" "mark" "I") ∈ lw_all := lw_g (lw_at lw_m3 29 rfl) rfl
theorem q612 : (Jvm.Cond.soleField "GrassField$Gun" "mark") ∈ lw_all := lw_g (lw_at lw_m3 30 rfl) rfl
theorem q613 : (Jvm.Cond.laysFinal "GrassField$Gun" "GrassField$Gun" "year" "I") ∈ lw_all := lw_g (lw_at lw_m3 31 rfl) rfl
theorem q614 : (Jvm.Cond.soleField "GrassField$Gun" "year") ∈ lw_all := lw_g (lw_at lw_m3 32 rfl) rfl
theorem q615 : (Jvm.Cond.lays "GrassField$Gun" "GrassField$Gun" "rounds" "I") ∈ lw_all := lw_g (lw_at lw_m3 33 rfl) rfl
theorem q616 : (Jvm.Cond.soleField "GrassField$Gun" "rounds") ∈ lw_all := lw_g (lw_at lw_m3 34 rfl) rfl
theorem q617 : (Jvm.Cond.superclass "GrassField$Gun" "java/lang/Object") ∈ lw_all := lw_g (lw_at lw_m3 35 rfl) rfl
theorem q2273 : (Jvm.Cond.castable "GrassField$Gun" "java/lang/Object") ∈ lw_tbl := lw_at lw_m10 11 rfl
theorem in_X7 : ∀ w ∈ wsX70, w ∈ lw_all := lw_in wsX70 [609, 611, 613, 615] (by decide +kernel) (by decide +kernel)
theorem q122 : (Jvm.Cond.initialized "GrassField$Chain") ∈ lw_all := lw_g (lw_at lw_m1 20 rfl) rfl
theorem q906 : (Jvm.Cond.instantiable "GrassField$Chain" (3 : Nat)) ∈ lw_all := lw_g (lw_at lw_m4 84 rfl) rfl
theorem q987 : (Jvm.Cond.instanceMethod ({ cls := "GrassField$Chain", name := "<init>", desc := "(LGrassField$Cond;Z)V" } : Jvm.MethodName)) ∈ lw_all := lw_g (lw_at lw_m4 165 rfl) rfl
theorem q988 : (Jvm.Cond.code ({ cls := "GrassField$Chain", name := "<init>", desc := "(LGrassField$Cond;Z)V" } : Jvm.MethodName) prog_5_method_1_code (3 : Nat) (Option.none : Option Jvm.ClassFile.FieldType)) ∈ lw_all := lw_g (lw_at lw_m4 166 rfl) rfl
theorem q989 : (Jvm.Cond.methodLink "GrassField$Chain" (1 : Nat) ({ cls := "java/lang/Object", name := "<init>", desc := "()V" } : Jvm.MethodName)) ∈ lw_all := lw_g (lw_at lw_m4 167 rfl) rfl
theorem q990 : (Jvm.Cond.fieldLink "GrassField$Chain" (7 : Nat) "GrassField$Chain" "one" "LGrassField$Cond;") ∈ lw_all := lw_g (lw_at lw_m4 168 rfl) rfl
theorem q991 : (Jvm.Cond.fieldLink "GrassField$Chain" (13 : Nat) "GrassField$Chain" "all" "Z") ∈ lw_all := lw_g (lw_at lw_m4 169 rfl) rfl
theorem q992 : (Jvm.Cond.fieldLink "GrassField$Chain" (23 : Nat) "GrassField$Chain" "next" "LGrassField$Chain;") ∈ lw_all := lw_g (lw_at lw_m4 170 rfl) rfl
theorem q994 : (Jvm.Cond.laysFinal "GrassField$Chain" "GrassField$Chain" "one" "LGrassField$Cond;") ∈ lw_all := lw_g (lw_at lw_m4 172 rfl) rfl
theorem q995 : (Jvm.Cond.soleField "GrassField$Chain" "one") ∈ lw_all := lw_g (lw_at lw_m4 173 rfl) rfl
theorem q996 : (Jvm.Cond.laysFinal "GrassField$Chain" "GrassField$Chain" "all" "Z") ∈ lw_all := lw_g (lw_at lw_m4 174 rfl) rfl
theorem q997 : (Jvm.Cond.soleField "GrassField$Chain" "all") ∈ lw_all := lw_g (lw_at lw_m4 175 rfl) rfl
theorem q998 : (Jvm.Cond.lays "GrassField$Chain" "GrassField$Chain" "next" "LGrassField$Chain;") ∈ lw_all := lw_g (lw_at lw_m4 176 rfl) rfl
theorem q999 : (Jvm.Cond.soleField "GrassField$Chain" "next") ∈ lw_all := lw_g (lw_at lw_m4 177 rfl) rfl
theorem q1000 : (Jvm.Cond.superclass "GrassField$Chain" "java/lang/Object") ∈ lw_all := lw_g (lw_at lw_m4 178 rfl) rfl
theorem q1145 : (Jvm.Cond.castable "GrassField$Chain" "GrassField$Cond") ∈ lw_tbl := lw_at lw_m5 83 rfl
theorem q1146 : (Jvm.Cond.selects "GrassField$Chain" ({ cls := "GrassField$Cond", name := "holds", desc := "([I)Z" } : Jvm.MethodName) ({ cls := "GrassField$Chain", name := "holds", desc := "([I)Z" } : Jvm.MethodName)) ∈ lw_all := lw_g (lw_at lw_m5 84 rfl) rfl
theorem q1147 : (Jvm.Cond.unhidden "GrassField$Chain" "holds" "([I)Z") ∈ lw_tbl := lw_at lw_m5 85 rfl
theorem q1148 : (Jvm.Cond.instanceMethod ({ cls := "GrassField$Chain", name := "holds", desc := "([I)Z" } : Jvm.MethodName)) ∈ lw_all := lw_g (lw_at lw_m5 86 rfl) rfl
theorem q1149 : (Jvm.Cond.publicMethod ({ cls := "GrassField$Chain", name := "holds", desc := "([I)Z" } : Jvm.MethodName)) ∈ lw_tbl := lw_at lw_m5 87 rfl
theorem q1150 : (Jvm.Cond.code ({ cls := "GrassField$Chain", name := "holds", desc := "([I)Z" } : Jvm.MethodName) prog_5_method_2_code (3 : Nat) (Option.some Jvm.ClassFile.FieldType.boolean)) ∈ lw_all := lw_g (lw_at lw_m5 88 rfl) rfl
theorem q1151 : (Jvm.Cond.interfaceEntry "GrassField$Chain" (17 : Nat)) ∈ lw_tbl := lw_at lw_m5 89 rfl
theorem q1152 : (Jvm.Cond.methodLink "GrassField$Chain" (17 : Nat) ({ cls := "GrassField$Cond", name := "holds", desc := "([I)Z" } : Jvm.MethodName)) ∈ lw_all := lw_g (lw_at lw_m5 90 rfl) rfl
theorem q2274 : (Jvm.Cond.castable "GrassField$Chain" "java/lang/Object") ∈ lw_tbl := lw_at lw_m10 12 rfl
theorem in_X8 : ∀ w ∈ wsX80, w ∈ lw_all := lw_in wsX80 [994, 996, 998] (by decide +kernel) (by decide +kernel)
theorem q123 : (Jvm.Cond.initialized "GrassField$Tag") ∈ lw_all := lw_g (lw_at lw_m1 21 rfl) rfl
theorem q918 : (Jvm.Cond.instantiable "GrassField$Tag" (2 : Nat)) ∈ lw_all := lw_g (lw_at lw_m4 96 rfl) rfl
theorem q920 : (Jvm.Cond.instanceMethod ({ cls := "GrassField$Tag", name := "<init>", desc := "(II)V" } : Jvm.MethodName)) ∈ lw_all := lw_g (lw_at lw_m4 98 rfl) rfl
theorem q921 : (Jvm.Cond.code ({ cls := "GrassField$Tag", name := "<init>", desc := "(II)V" } : Jvm.MethodName) prog_24_method_1_code (3 : Nat) (Option.none : Option Jvm.ClassFile.FieldType)) ∈ lw_all := lw_g (lw_at lw_m4 99 rfl) rfl
theorem q922 : (Jvm.Cond.methodLink "GrassField$Tag" (1 : Nat) ({ cls := "java/lang/Object", name := "<init>", desc := "()V" } : Jvm.MethodName)) ∈ lw_all := lw_g (lw_at lw_m4 100 rfl) rfl
theorem q923 : (Jvm.Cond.fieldLink "GrassField$Tag" (7 : Nat) "GrassField$Tag" "fact" "I") ∈ lw_all := lw_g (lw_at lw_m4 101 rfl) rfl
theorem q924 : (Jvm.Cond.fieldLink "GrassField$Tag" (13 : Nat) "GrassField$Tag" "least" "I") ∈ lw_all := lw_g (lw_at lw_m4 102 rfl) rfl
theorem q925 : (Jvm.Cond.laysFinal "GrassField$Tag" "GrassField$Tag" "fact" "I") ∈ lw_all := lw_g (lw_at lw_m4 103 rfl) rfl
theorem q926 : (Jvm.Cond.soleField "GrassField$Tag" "fact") ∈ lw_all := lw_g (lw_at lw_m4 104 rfl) rfl
theorem q927 : (Jvm.Cond.laysFinal "GrassField$Tag" "GrassField$Tag" "least" "I") ∈ lw_all := lw_g (lw_at lw_m4 105 rfl) rfl
theorem q928 : (Jvm.Cond.soleField "GrassField$Tag" "least") ∈ lw_all := lw_g (lw_at lw_m4 106 rfl) rfl
theorem q929 : (Jvm.Cond.superclass "GrassField$Tag" "java/lang/Object") ∈ lw_all := lw_g (lw_at lw_m4 107 rfl) rfl
theorem q1171 : (Jvm.Cond.castable "GrassField$Tag" "GrassField$Cond") ∈ lw_tbl := lw_at lw_m5 109 rfl
theorem q1172 : (Jvm.Cond.selects "GrassField$Tag" ({ cls := "GrassField$Cond", name := "holds", desc := "([I)Z" } : Jvm.MethodName) ({ cls := "GrassField$Tag", name := "holds", desc := "([I)Z" } : Jvm.MethodName)) ∈ lw_all := lw_g (lw_at lw_m5 110 rfl) rfl
theorem q1173 : (Jvm.Cond.unhidden "GrassField$Tag" "holds" "([I)Z") ∈ lw_tbl := lw_at lw_m5 111 rfl
theorem q1174 : (Jvm.Cond.instanceMethod ({ cls := "GrassField$Tag", name := "holds", desc := "([I)Z" } : Jvm.MethodName)) ∈ lw_all := lw_g (lw_at lw_m5 112 rfl) rfl
theorem q1175 : (Jvm.Cond.publicMethod ({ cls := "GrassField$Tag", name := "holds", desc := "([I)Z" } : Jvm.MethodName)) ∈ lw_tbl := lw_at lw_m5 113 rfl
theorem q1176 : (Jvm.Cond.code ({ cls := "GrassField$Tag", name := "holds", desc := "([I)Z" } : Jvm.MethodName) prog_24_method_2_code (2 : Nat) (Option.some Jvm.ClassFile.FieldType.boolean)) ∈ lw_all := lw_g (lw_at lw_m5 114 rfl) rfl
theorem q2275 : (Jvm.Cond.castable "GrassField$Tag" "java/lang/Object") ∈ lw_tbl := lw_at lw_m10 13 rfl
theorem in_X9 : ∀ w ∈ wsX90, w ∈ lw_all := lw_in wsX90 [925, 927] (by decide +kernel) (by decide +kernel)
theorem q124 : (Jvm.Cond.initialized "GrassField$Sum") ∈ lw_all := lw_g (lw_at lw_m1 22 rfl) rfl
theorem q941 : (Jvm.Cond.instantiable "GrassField$Sum" (2 : Nat)) ∈ lw_all := lw_g (lw_at lw_m4 119 rfl) rfl
theorem q943 : (Jvm.Cond.instanceMethod ({ cls := "GrassField$Sum", name := "<init>", desc := "()V" } : Jvm.MethodName)) ∈ lw_all := lw_g (lw_at lw_m4 121 rfl) rfl
theorem q944 : (Jvm.Cond.code ({ cls := "GrassField$Sum", name := "<init>", desc := "()V" } : Jvm.MethodName) prog_23_method_1_code (1 : Nat) (Option.none : Option Jvm.ClassFile.FieldType)) ∈ lw_all := lw_g (lw_at lw_m4 122 rfl) rfl
theorem q945 : (Jvm.Cond.methodLink "GrassField$Sum" (3 : Nat) ({ cls := "java/lang/Object", name := "<init>", desc := "()V" } : Jvm.MethodName)) ∈ lw_all := lw_g (lw_at lw_m4 123 rfl) rfl
theorem q946 : (Jvm.Cond.fieldLink "GrassField$Sum" (9 : Nat) "GrassField$Sum" "times" "[I") ∈ lw_all := lw_g (lw_at lw_m4 124 rfl) rfl
theorem q948 : (Jvm.Cond.fieldLink "GrassField$Sum" (15 : Nat) "GrassField$Sum" "number" "I") ∈ lw_all := lw_g (lw_at lw_m4 126 rfl) rfl
theorem q950 : (Jvm.Cond.laysFinal "GrassField$Sum" "GrassField$Sum" "times" "[I") ∈ lw_all := lw_g (lw_at lw_m4 128 rfl) rfl
theorem q951 : (Jvm.Cond.soleField "GrassField$Sum" "times") ∈ lw_all := lw_g (lw_at lw_m4 129 rfl) rfl
theorem q952 : (Jvm.Cond.lays "GrassField$Sum" "GrassField$Sum" "number" "I") ∈ lw_all := lw_g (lw_at lw_m4 130 rfl) rfl
theorem q953 : (Jvm.Cond.soleField "GrassField$Sum" "number") ∈ lw_all := lw_g (lw_at lw_m4 131 rfl) rfl
theorem q954 : (Jvm.Cond.superclass "GrassField$Sum" "java/lang/Object") ∈ lw_all := lw_g (lw_at lw_m4 132 rfl) rfl
theorem q1160 : (Jvm.Cond.instanceMethod ({ cls := "GrassField$Sum", name := "of", desc := "([I)J" } : Jvm.MethodName)) ∈ lw_all := lw_g (lw_at lw_m5 98 rfl) rfl
theorem q1161 : (Jvm.Cond.selects "GrassField$Sum" ({ cls := "GrassField$Sum", name := "of", desc := "([I)J" } : Jvm.MethodName) ({ cls := "GrassField$Sum", name := "of", desc := "([I)J" } : Jvm.MethodName)) ∈ lw_all := lw_g (lw_at lw_m5 99 rfl) rfl
theorem q1162 : (Jvm.Cond.code ({ cls := "GrassField$Sum", name := "of", desc := "([I)J" } : Jvm.MethodName) prog_23_method_2_code (5 : Nat) (Option.some Jvm.ClassFile.FieldType.long)) ∈ lw_all := lw_g (lw_at lw_m5 100 rfl) rfl
theorem q2276 : (Jvm.Cond.castable "GrassField$Sum" "java/lang/Object") ∈ lw_tbl := lw_at lw_m10 14 rfl
theorem in_X10 : ∀ w ∈ wsX100, w ∈ lw_all := lw_in wsX100 [950, 952] (by decide +kernel) (by decide +kernel)
theorem q125 : (Jvm.Cond.initialized "GrassField$Less") ∈ lw_all := lw_g (lw_at lw_m1 23 rfl) rfl
theorem q964 : (Jvm.Cond.instantiable "GrassField$Less" (2 : Nat)) ∈ lw_all := lw_g (lw_at lw_m4 142 rfl) rfl
theorem q966 : (Jvm.Cond.instanceMethod ({ cls := "GrassField$Less", name := "<init>", desc := "(LGrassField$Sum;LGrassField$Sum;)V" } : Jvm.MethodName)) ∈ lw_all := lw_g (lw_at lw_m4 144 rfl) rfl
theorem q967 : (Jvm.Cond.code ({ cls := "GrassField$Less", name := "<init>", desc := "(LGrassField$Sum;LGrassField$Sum;)V" } : Jvm.MethodName) prog_16_method_1_code (3 : Nat) (Option.none : Option Jvm.ClassFile.FieldType)) ∈ lw_all := lw_g (lw_at lw_m4 145 rfl) rfl
theorem q968 : (Jvm.Cond.methodLink "GrassField$Less" (1 : Nat) ({ cls := "java/lang/Object", name := "<init>", desc := "()V" } : Jvm.MethodName)) ∈ lw_all := lw_g (lw_at lw_m4 146 rfl) rfl
theorem q969 : (Jvm.Cond.fieldLink "GrassField$Less" (7 : Nat) "GrassField$Less" "low" "LGrassField$Sum;") ∈ lw_all := lw_g (lw_at lw_m4 147 rfl) rfl
theorem q970 : (Jvm.Cond.fieldLink "GrassField$Less" (13 : Nat) "GrassField$Less" "high" "LGrassField$Sum;") ∈ lw_all := lw_g (lw_at lw_m4 148 rfl) rfl
theorem q971 : (Jvm.Cond.laysFinal "GrassField$Less" "GrassField$Less" "low" "LGrassField$Sum;") ∈ lw_all := lw_g (lw_at lw_m4 149 rfl) rfl
theorem q972 : (Jvm.Cond.soleField "GrassField$Less" "low") ∈ lw_all := lw_g (lw_at lw_m4 150 rfl) rfl
theorem q973 : (Jvm.Cond.laysFinal "GrassField$Less" "GrassField$Less" "high" "LGrassField$Sum;") ∈ lw_all := lw_g (lw_at lw_m4 151 rfl) rfl
theorem q974 : (Jvm.Cond.soleField "GrassField$Less" "high") ∈ lw_all := lw_g (lw_at lw_m4 152 rfl) rfl
theorem q975 : (Jvm.Cond.superclass "GrassField$Less" "java/lang/Object") ∈ lw_all := lw_g (lw_at lw_m4 153 rfl) rfl
theorem q1153 : (Jvm.Cond.castable "GrassField$Less" "GrassField$Cond") ∈ lw_tbl := lw_at lw_m5 91 rfl
theorem q1154 : (Jvm.Cond.selects "GrassField$Less" ({ cls := "GrassField$Cond", name := "holds", desc := "([I)Z" } : Jvm.MethodName) ({ cls := "GrassField$Less", name := "holds", desc := "([I)Z" } : Jvm.MethodName)) ∈ lw_all := lw_g (lw_at lw_m5 92 rfl) rfl
theorem q1155 : (Jvm.Cond.unhidden "GrassField$Less" "holds" "([I)Z") ∈ lw_tbl := lw_at lw_m5 93 rfl
theorem q1156 : (Jvm.Cond.instanceMethod ({ cls := "GrassField$Less", name := "holds", desc := "([I)Z" } : Jvm.MethodName)) ∈ lw_all := lw_g (lw_at lw_m5 94 rfl) rfl
theorem q1157 : (Jvm.Cond.publicMethod ({ cls := "GrassField$Less", name := "holds", desc := "([I)Z" } : Jvm.MethodName)) ∈ lw_tbl := lw_at lw_m5 95 rfl
theorem q1158 : (Jvm.Cond.code ({ cls := "GrassField$Less", name := "holds", desc := "([I)Z" } : Jvm.MethodName) prog_16_method_2_code (2 : Nat) (Option.some Jvm.ClassFile.FieldType.boolean)) ∈ lw_all := lw_g (lw_at lw_m5 96 rfl) rfl
theorem q1159 : (Jvm.Cond.methodLink "GrassField$Less" (16 : Nat) ({ cls := "GrassField$Sum", name := "of", desc := "([I)J" } : Jvm.MethodName)) ∈ lw_all := lw_g (lw_at lw_m5 97 rfl) rfl
theorem q2277 : (Jvm.Cond.castable "GrassField$Less" "java/lang/Object") ∈ lw_tbl := lw_at lw_m10 15 rfl
theorem in_X11 : ∀ w ∈ wsX110, w ∈ lw_all := lw_in wsX110 [971, 973] (by decide +kernel) (by decide +kernel)
theorem q126 : (Jvm.Cond.initialized "GrassField$Not") ∈ lw_all := lw_g (lw_at lw_m1 24 rfl) rfl
theorem q977 : (Jvm.Cond.instantiable "GrassField$Not" (1 : Nat)) ∈ lw_all := lw_g (lw_at lw_m4 155 rfl) rfl
theorem q979 : (Jvm.Cond.instanceMethod ({ cls := "GrassField$Not", name := "<init>", desc := "(LGrassField$Cond;)V" } : Jvm.MethodName)) ∈ lw_all := lw_g (lw_at lw_m4 157 rfl) rfl
theorem q980 : (Jvm.Cond.code ({ cls := "GrassField$Not", name := "<init>", desc := "(LGrassField$Cond;)V" } : Jvm.MethodName) prog_18_method_1_code (2 : Nat) (Option.none : Option Jvm.ClassFile.FieldType)) ∈ lw_all := lw_g (lw_at lw_m4 158 rfl) rfl
theorem q981 : (Jvm.Cond.methodLink "GrassField$Not" (1 : Nat) ({ cls := "java/lang/Object", name := "<init>", desc := "()V" } : Jvm.MethodName)) ∈ lw_all := lw_g (lw_at lw_m4 159 rfl) rfl
theorem q982 : (Jvm.Cond.fieldLink "GrassField$Not" (7 : Nat) "GrassField$Not" "of" "LGrassField$Cond;") ∈ lw_all := lw_g (lw_at lw_m4 160 rfl) rfl
theorem q983 : (Jvm.Cond.laysFinal "GrassField$Not" "GrassField$Not" "of" "LGrassField$Cond;") ∈ lw_all := lw_g (lw_at lw_m4 161 rfl) rfl
theorem q984 : (Jvm.Cond.soleField "GrassField$Not" "of") ∈ lw_all := lw_g (lw_at lw_m4 162 rfl) rfl
theorem q985 : (Jvm.Cond.superclass "GrassField$Not" "java/lang/Object") ∈ lw_all := lw_g (lw_at lw_m4 163 rfl) rfl
theorem q1163 : (Jvm.Cond.castable "GrassField$Not" "GrassField$Cond") ∈ lw_tbl := lw_at lw_m5 101 rfl
theorem q1164 : (Jvm.Cond.selects "GrassField$Not" ({ cls := "GrassField$Cond", name := "holds", desc := "([I)Z" } : Jvm.MethodName) ({ cls := "GrassField$Not", name := "holds", desc := "([I)Z" } : Jvm.MethodName)) ∈ lw_all := lw_g (lw_at lw_m5 102 rfl) rfl
theorem q1165 : (Jvm.Cond.unhidden "GrassField$Not" "holds" "([I)Z") ∈ lw_tbl := lw_at lw_m5 103 rfl
theorem q1166 : (Jvm.Cond.instanceMethod ({ cls := "GrassField$Not", name := "holds", desc := "([I)Z" } : Jvm.MethodName)) ∈ lw_all := lw_g (lw_at lw_m5 104 rfl) rfl
theorem q1167 : (Jvm.Cond.publicMethod ({ cls := "GrassField$Not", name := "holds", desc := "([I)Z" } : Jvm.MethodName)) ∈ lw_tbl := lw_at lw_m5 105 rfl
theorem q1168 : (Jvm.Cond.code ({ cls := "GrassField$Not", name := "holds", desc := "([I)Z" } : Jvm.MethodName) prog_18_method_2_code (2 : Nat) (Option.some Jvm.ClassFile.FieldType.boolean)) ∈ lw_all := lw_g (lw_at lw_m5 106 rfl) rfl
theorem q1169 : (Jvm.Cond.interfaceEntry "GrassField$Not" (13 : Nat)) ∈ lw_tbl := lw_at lw_m5 107 rfl
theorem q1170 : (Jvm.Cond.methodLink "GrassField$Not" (13 : Nat) ({ cls := "GrassField$Cond", name := "holds", desc := "([I)Z" } : Jvm.MethodName)) ∈ lw_all := lw_g (lw_at lw_m5 108 rfl) rfl
theorem q2278 : (Jvm.Cond.castable "GrassField$Not" "java/lang/Object") ∈ lw_tbl := lw_at lw_m10 16 rfl
theorem in_X12 : ∀ w ∈ wsX120, w ∈ lw_all := lw_in wsX120 [983] (by decide +kernel) (by decide +kernel)
theorem q127 : (Jvm.Cond.initialized "GrassField$Line") ∈ lw_all := lw_g (lw_at lw_m1 25 rfl) rfl
theorem q1012 : (Jvm.Cond.instanceMethod ({ cls := "GrassField$Line", name := "<init>", desc := "(LGrassField$Cond;)V" } : Jvm.MethodName)) ∈ lw_all := lw_g (lw_at lw_m4 190 rfl) rfl
theorem q1013 : (Jvm.Cond.code ({ cls := "GrassField$Line", name := "<init>", desc := "(LGrassField$Cond;)V" } : Jvm.MethodName) prog_17_method_1_code (2 : Nat) (Option.none : Option Jvm.ClassFile.FieldType)) ∈ lw_all := lw_g (lw_at lw_m4 191 rfl) rfl
theorem q1014 : (Jvm.Cond.methodLink "GrassField$Line" (1 : Nat) ({ cls := "java/lang/Object", name := "<init>", desc := "()V" } : Jvm.MethodName)) ∈ lw_all := lw_g (lw_at lw_m4 192 rfl) rfl
theorem q1015 : (Jvm.Cond.fieldLink "GrassField$Line" (7 : Nat) "GrassField$Line" "cond" "LGrassField$Cond;") ∈ lw_all := lw_g (lw_at lw_m4 193 rfl) rfl
theorem q1017 : (Jvm.Cond.soleField "GrassField$Line" "cond") ∈ lw_all := lw_g (lw_at lw_m4 195 rfl) rfl
theorem q1133 : (Jvm.Cond.instanceMethod ({ cls := "GrassField$Line", name := "is", desc := "([I)Z" } : Jvm.MethodName)) ∈ lw_all := lw_g (lw_at lw_m5 71 rfl) rfl
theorem q1134 : (Jvm.Cond.sameMethod "GrassField$Line" "GrassField$Line" "is" "([I)Z") ∈ lw_all := lw_g (lw_at lw_m5 72 rfl) rfl
theorem q1140 : (Jvm.Cond.code ({ cls := "GrassField$Line", name := "is", desc := "([I)Z" } : Jvm.MethodName) prog_17_method_2_code (2 : Nat) (Option.some Jvm.ClassFile.FieldType.boolean)) ∈ lw_all := lw_g (lw_at lw_m5 78 rfl) rfl
theorem q1141 : (Jvm.Cond.interfaceEntry "GrassField$Line" (13 : Nat)) ∈ lw_tbl := lw_at lw_m5 79 rfl
theorem q1142 : (Jvm.Cond.methodLink "GrassField$Line" (13 : Nat) ({ cls := "GrassField$Cond", name := "holds", desc := "([I)Z" } : Jvm.MethodName)) ∈ lw_all := lw_g (lw_at lw_m5 80 rfl) rfl
theorem q1178 : (Jvm.Cond.declares ({ cls := "GrassField$Line", name := "does", desc := "(LGrassField$House;LGrassField$Person;)V" } : Jvm.MethodName)) ∈ lw_tbl := lw_at lw_m5 116 rfl
theorem q1179 : (Jvm.Cond.sameMethod "GrassField$Line" "GrassField$Line" "does" "(LGrassField$House;LGrassField$Person;)V") ∈ lw_all := lw_g (lw_at lw_m5 117 rfl) rfl
theorem q128 : (Jvm.Cond.initialized "GrassField$Hold") ∈ lw_all := lw_g (lw_at lw_m1 26 rfl) rfl
theorem q644 : (Jvm.Cond.fieldLinkNest "GrassField$Hold" (7 : Nat) "GrassField$Person" "fear" "I" "GrassField") ∈ lw_tbl := lw_at lw_m3 62 rfl
theorem q1009 : (Jvm.Cond.instanceMethod ({ cls := "GrassField$Hold", name := "<init>", desc := "(LGrassField$Cond;)V" } : Jvm.MethodName)) ∈ lw_all := lw_g (lw_at lw_m4 187 rfl) rfl
theorem q1010 : (Jvm.Cond.code ({ cls := "GrassField$Hold", name := "<init>", desc := "(LGrassField$Cond;)V" } : Jvm.MethodName) prog_11_method_1_code (2 : Nat) (Option.none : Option Jvm.ClassFile.FieldType)) ∈ lw_all := lw_g (lw_at lw_m4 188 rfl) rfl
theorem q1011 : (Jvm.Cond.methodLink "GrassField$Hold" (1 : Nat) ({ cls := "GrassField$Line", name := "<init>", desc := "(LGrassField$Cond;)V" } : Jvm.MethodName)) ∈ lw_all := lw_g (lw_at lw_m4 189 rfl) rfl
theorem q1036 : (Jvm.Cond.instantiable "GrassField$Hold" (1 : Nat)) ∈ lw_all := lw_g (lw_at lw_m4 214 rfl) rfl
theorem q1038 : (Jvm.Cond.laysFinal "GrassField$Hold" "GrassField$Line" "cond" "LGrassField$Cond;") ∈ lw_all := lw_g (lw_at lw_m4 216 rfl) rfl
theorem q1039 : (Jvm.Cond.superclass "GrassField$Hold" "GrassField$Line") ∈ lw_all := lw_g (lw_at lw_m4 217 rfl) rfl
theorem q1137 : (Jvm.Cond.selects "GrassField$Hold" ({ cls := "GrassField$Line", name := "is", desc := "([I)Z" } : Jvm.MethodName) ({ cls := "GrassField$Line", name := "is", desc := "([I)Z" } : Jvm.MethodName)) ∈ lw_all := lw_g (lw_at lw_m5 75 rfl) rfl
theorem q1188 : (Jvm.Cond.selects "GrassField$Hold" ({ cls := "GrassField$Line", name := "does", desc := "(LGrassField$House;LGrassField$Person;)V" } : Jvm.MethodName) ({ cls := "GrassField$Hold", name := "does", desc := "(LGrassField$House;LGrassField$Person;)V" } : Jvm.MethodName)) ∈ lw_all := lw_g (lw_at lw_m5 126 rfl) rfl
theorem q1189 : (Jvm.Cond.instanceMethod ({ cls := "GrassField$Hold", name := "does", desc := "(LGrassField$House;LGrassField$Person;)V" } : Jvm.MethodName)) ∈ lw_all := lw_g (lw_at lw_m5 127 rfl) rfl
theorem q1190 : (Jvm.Cond.code ({ cls := "GrassField$Hold", name := "does", desc := "(LGrassField$House;LGrassField$Person;)V" } : Jvm.MethodName) prog_11_method_2_code (3 : Nat) (Option.none : Option Jvm.ClassFile.FieldType)) ∈ lw_all := lw_g (lw_at lw_m5 128 rfl) rfl
theorem q1191 : (Jvm.Cond.methodLink "GrassField$Hold" (13 : Nat) ({ cls := "java/lang/Math", name := "max", desc := "(II)I" } : Jvm.MethodName)) ∈ lw_all := lw_g (lw_at lw_m5 129 rfl) rfl
theorem q2261 : (Jvm.Cond.sameMethod "GrassField$Hold" "GrassField$Hold" "does" "(LGrassField$House;LGrassField$Person;)V") ∈ lw_all := lw_g (lw_at lw_m9 239 rfl) rfl
theorem q2282 : (Jvm.Cond.castable "GrassField$Hold" "java/lang/Object") ∈ lw_tbl := lw_at lw_m10 20 rfl
theorem q2299 : (Jvm.Cond.castable "GrassField$Hold" "GrassField$Line") ∈ lw_tbl := lw_at lw_m10 37 rfl
theorem in_X14 : ∀ w ∈ wsX140, w ∈ lw_all := lw_in wsX140 [1038] (by decide +kernel) (by decide +kernel)
theorem q129 : (Jvm.Cond.initialized "GrassField$Shoot") ∈ lw_all := lw_g (lw_at lw_m1 27 rfl) rfl
theorem q313 : (Jvm.Cond.fieldLinkNest "GrassField$Shoot" (24 : Nat) "GrassField$House" "guns" "[LGrassField$Gun;" "GrassField") ∈ lw_tbl := lw_at lw_m1 211 rfl
theorem q316 : (Jvm.Cond.fieldLinkNest "GrassField$Shoot" (37 : Nat) "GrassField$House" "people" "[LGrassField$Person;" "GrassField") ∈ lw_tbl := lw_at lw_m1 214 rfl
theorem q606 : (Jvm.Cond.fieldLinkNest "GrassField$Shoot" (28 : Nat) "GrassField$Gun" "rounds" "I" "GrassField") ∈ lw_tbl := lw_at lw_m3 24 rfl
theorem q634 : (Jvm.Cond.fieldLinkNest "GrassField$Shoot" (21 : Nat) "GrassField$Person" "gun" "I" "GrassField") ∈ lw_tbl := lw_at lw_m3 52 rfl
theorem q640 : (Jvm.Cond.fieldLinkNest "GrassField$Shoot" (9 : Nat) "GrassField$Person" "cell" "I" "GrassField") ∈ lw_tbl := lw_at lw_m3 58 rfl
theorem q1004 : (Jvm.Cond.instantiable "GrassField$Shoot" (1 : Nat)) ∈ lw_all := lw_g (lw_at lw_m4 182 rfl) rfl
theorem q1006 : (Jvm.Cond.instanceMethod ({ cls := "GrassField$Shoot", name := "<init>", desc := "(LGrassField$Cond;)V" } : Jvm.MethodName)) ∈ lw_all := lw_g (lw_at lw_m4 184 rfl) rfl
theorem q1007 : (Jvm.Cond.code ({ cls := "GrassField$Shoot", name := "<init>", desc := "(LGrassField$Cond;)V" } : Jvm.MethodName) prog_21_method_1_code (2 : Nat) (Option.none : Option Jvm.ClassFile.FieldType)) ∈ lw_all := lw_g (lw_at lw_m4 185 rfl) rfl
theorem q1008 : (Jvm.Cond.methodLink "GrassField$Shoot" (3 : Nat) ({ cls := "GrassField$Hold", name := "<init>", desc := "(LGrassField$Cond;)V" } : Jvm.MethodName)) ∈ lw_all := lw_g (lw_at lw_m4 186 rfl) rfl
theorem q1016 : (Jvm.Cond.laysFinal "GrassField$Shoot" "GrassField$Line" "cond" "LGrassField$Cond;") ∈ lw_all := lw_g (lw_at lw_m4 194 rfl) rfl
theorem q1018 : (Jvm.Cond.superclass "GrassField$Shoot" "GrassField$Hold") ∈ lw_all := lw_g (lw_at lw_m4 196 rfl) rfl
theorem q1139 : (Jvm.Cond.selects "GrassField$Shoot" ({ cls := "GrassField$Line", name := "is", desc := "([I)Z" } : Jvm.MethodName) ({ cls := "GrassField$Line", name := "is", desc := "([I)Z" } : Jvm.MethodName)) ∈ lw_all := lw_g (lw_at lw_m5 77 rfl) rfl
theorem q1198 : (Jvm.Cond.selects "GrassField$Shoot" ({ cls := "GrassField$Line", name := "does", desc := "(LGrassField$House;LGrassField$Person;)V" } : Jvm.MethodName) ({ cls := "GrassField$Shoot", name := "does", desc := "(LGrassField$House;LGrassField$Person;)V" } : Jvm.MethodName)) ∈ lw_all := lw_g (lw_at lw_m5 136 rfl) rfl
theorem q1199 : (Jvm.Cond.instanceMethod ({ cls := "GrassField$Shoot", name := "does", desc := "(LGrassField$House;LGrassField$Person;)V" } : Jvm.MethodName)) ∈ lw_all := lw_g (lw_at lw_m5 137 rfl) rfl
theorem q1200 : (Jvm.Cond.code ({ cls := "GrassField$Shoot", name := "does", desc := "(LGrassField$House;LGrassField$Person;)V" } : Jvm.MethodName) prog_21_method_2_code (4 : Nat) (Option.none : Option Jvm.ClassFile.FieldType)) ∈ lw_all := lw_g (lw_at lw_m5 138 rfl) rfl
theorem q1201 : (Jvm.Cond.methodLink "GrassField$Shoot" (15 : Nat) ({ cls := "GrassField$House", name := "nearest", desc := "(LGrassField$Person;IZ)I" } : Jvm.MethodName)) ∈ lw_all := lw_g (lw_at lw_m5 139 rfl) rfl
theorem q1202 : (Jvm.Cond.methodLink "GrassField$Shoot" (33 : Nat) ({ cls := "GrassField$Hold", name := "does", desc := "(LGrassField$House;LGrassField$Person;)V" } : Jvm.MethodName)) ∈ lw_all := lw_g (lw_at lw_m5 140 rfl) rfl
theorem q1203 : (Jvm.Cond.methodLink "GrassField$Shoot" (41 : Nat) ({ cls := "GrassField$House", name := "shoots", desc := "(LGrassField$Person;LGrassField$Person;)V" } : Jvm.MethodName)) ∈ lw_all := lw_g (lw_at lw_m5 141 rfl) rfl
theorem q2279 : (Jvm.Cond.castable "GrassField$Shoot" "java/lang/Object") ∈ lw_tbl := lw_at lw_m10 17 rfl
theorem q2296 : (Jvm.Cond.castable "GrassField$Shoot" "GrassField$Line") ∈ lw_tbl := lw_at lw_m10 34 rfl
theorem in_X15 : ∀ w ∈ wsX150, w ∈ lw_all := lw_in wsX150 [1016] (by decide +kernel) (by decide +kernel)
theorem q130 : (Jvm.Cond.initialized "GrassField$Flee") ∈ lw_all := lw_g (lw_at lw_m1 28 rfl) rfl
theorem q318 : (Jvm.Cond.fieldLinkNest "GrassField$Flee" (25 : Nat) "GrassField$House" "people" "[LGrassField$Person;" "GrassField") ∈ lw_tbl := lw_at lw_m1 216 rfl
theorem q638 : (Jvm.Cond.fieldLinkNest "GrassField$Flee" (9 : Nat) "GrassField$Person" "cell" "I" "GrassField") ∈ lw_tbl := lw_at lw_m3 56 rfl
theorem q1020 : (Jvm.Cond.instantiable "GrassField$Flee" (1 : Nat)) ∈ lw_all := lw_g (lw_at lw_m4 198 rfl) rfl
theorem q1022 : (Jvm.Cond.instanceMethod ({ cls := "GrassField$Flee", name := "<init>", desc := "(LGrassField$Cond;)V" } : Jvm.MethodName)) ∈ lw_all := lw_g (lw_at lw_m4 200 rfl) rfl
theorem q1023 : (Jvm.Cond.code ({ cls := "GrassField$Flee", name := "<init>", desc := "(LGrassField$Cond;)V" } : Jvm.MethodName) prog_9_method_1_code (2 : Nat) (Option.none : Option Jvm.ClassFile.FieldType)) ∈ lw_all := lw_g (lw_at lw_m4 201 rfl) rfl
theorem q1024 : (Jvm.Cond.methodLink "GrassField$Flee" (3 : Nat) ({ cls := "GrassField$Line", name := "<init>", desc := "(LGrassField$Cond;)V" } : Jvm.MethodName)) ∈ lw_all := lw_g (lw_at lw_m4 202 rfl) rfl
theorem q1025 : (Jvm.Cond.laysFinal "GrassField$Flee" "GrassField$Line" "cond" "LGrassField$Cond;") ∈ lw_all := lw_g (lw_at lw_m4 203 rfl) rfl
theorem q1026 : (Jvm.Cond.superclass "GrassField$Flee" "GrassField$Line") ∈ lw_all := lw_g (lw_at lw_m4 204 rfl) rfl
theorem q1136 : (Jvm.Cond.selects "GrassField$Flee" ({ cls := "GrassField$Line", name := "is", desc := "([I)Z" } : Jvm.MethodName) ({ cls := "GrassField$Line", name := "is", desc := "([I)Z" } : Jvm.MethodName)) ∈ lw_all := lw_g (lw_at lw_m5 74 rfl) rfl
theorem q1183 : (Jvm.Cond.selects "GrassField$Flee" ({ cls := "GrassField$Line", name := "does", desc := "(LGrassField$House;LGrassField$Person;)V" } : Jvm.MethodName) ({ cls := "GrassField$Flee", name := "does", desc := "(LGrassField$House;LGrassField$Person;)V" } : Jvm.MethodName)) ∈ lw_all := lw_g (lw_at lw_m5 121 rfl) rfl
theorem q1184 : (Jvm.Cond.instanceMethod ({ cls := "GrassField$Flee", name := "does", desc := "(LGrassField$House;LGrassField$Person;)V" } : Jvm.MethodName)) ∈ lw_all := lw_g (lw_at lw_m5 122 rfl) rfl
theorem q1185 : (Jvm.Cond.code ({ cls := "GrassField$Flee", name := "does", desc := "(LGrassField$House;LGrassField$Person;)V" } : Jvm.MethodName) prog_9_method_2_code (8 : Nat) (Option.none : Option Jvm.ClassFile.FieldType)) ∈ lw_all := lw_g (lw_at lw_m5 123 rfl) rfl
theorem q1186 : (Jvm.Cond.methodLinkNest "GrassField$Flee" (15 : Nat) ({ cls := "GrassField", name := "far", desc := "(II)I" } : Jvm.MethodName) "GrassField") ∈ lw_tbl := lw_at lw_m5 124 rfl
theorem q1187 : (Jvm.Cond.methodLink "GrassField$Flee" (19 : Nat) ({ cls := "GrassField$House", name := "nearest", desc := "(LGrassField$Person;IZ)I" } : Jvm.MethodName)) ∈ lw_all := lw_g (lw_at lw_m5 125 rfl) rfl
theorem q2280 : (Jvm.Cond.castable "GrassField$Flee" "java/lang/Object") ∈ lw_tbl := lw_at lw_m10 18 rfl
theorem q2297 : (Jvm.Cond.castable "GrassField$Flee" "GrassField$Line") ∈ lw_tbl := lw_at lw_m10 35 rfl
theorem in_X16 : ∀ w ∈ wsX160, w ∈ lw_all := lw_in wsX160 [1025] (by decide +kernel) (by decide +kernel)
theorem q131 : (Jvm.Cond.initialized "GrassField$Join") ∈ lw_all := lw_g (lw_at lw_m1 29 rfl) rfl
theorem q317 : (Jvm.Cond.fieldLinkNest "GrassField$Join" (26 : Nat) "GrassField$House" "people" "[LGrassField$Person;" "GrassField") ∈ lw_tbl := lw_at lw_m1 215 rfl
theorem q639 : (Jvm.Cond.fieldLinkNest "GrassField$Join" (9 : Nat) "GrassField$Person" "cell" "I" "GrassField") ∈ lw_tbl := lw_at lw_m3 57 rfl
theorem q1028 : (Jvm.Cond.instantiable "GrassField$Join" (1 : Nat)) ∈ lw_all := lw_g (lw_at lw_m4 206 rfl) rfl
theorem q1030 : (Jvm.Cond.instanceMethod ({ cls := "GrassField$Join", name := "<init>", desc := "(LGrassField$Cond;)V" } : Jvm.MethodName)) ∈ lw_all := lw_g (lw_at lw_m4 208 rfl) rfl
theorem q1031 : (Jvm.Cond.code ({ cls := "GrassField$Join", name := "<init>", desc := "(LGrassField$Cond;)V" } : Jvm.MethodName) prog_13_method_1_code (2 : Nat) (Option.none : Option Jvm.ClassFile.FieldType)) ∈ lw_all := lw_g (lw_at lw_m4 209 rfl) rfl
theorem q1032 : (Jvm.Cond.methodLink "GrassField$Join" (3 : Nat) ({ cls := "GrassField$Line", name := "<init>", desc := "(LGrassField$Cond;)V" } : Jvm.MethodName)) ∈ lw_all := lw_g (lw_at lw_m4 210 rfl) rfl
theorem q1033 : (Jvm.Cond.laysFinal "GrassField$Join" "GrassField$Line" "cond" "LGrassField$Cond;") ∈ lw_all := lw_g (lw_at lw_m4 211 rfl) rfl
theorem q1034 : (Jvm.Cond.superclass "GrassField$Join" "GrassField$Line") ∈ lw_all := lw_g (lw_at lw_m4 212 rfl) rfl
theorem q1138 : (Jvm.Cond.selects "GrassField$Join" ({ cls := "GrassField$Line", name := "is", desc := "([I)Z" } : Jvm.MethodName) ({ cls := "GrassField$Line", name := "is", desc := "([I)Z" } : Jvm.MethodName)) ∈ lw_all := lw_g (lw_at lw_m5 76 rfl) rfl
theorem q1192 : (Jvm.Cond.selects "GrassField$Join" ({ cls := "GrassField$Line", name := "does", desc := "(LGrassField$House;LGrassField$Person;)V" } : Jvm.MethodName) ({ cls := "GrassField$Join", name := "does", desc := "(LGrassField$House;LGrassField$Person;)V" } : Jvm.MethodName)) ∈ lw_all := lw_g (lw_at lw_m5 130 rfl) rfl
theorem q1193 : (Jvm.Cond.instanceMethod ({ cls := "GrassField$Join", name := "does", desc := "(LGrassField$House;LGrassField$Person;)V" } : Jvm.MethodName)) ∈ lw_all := lw_g (lw_at lw_m5 131 rfl) rfl
theorem q1194 : (Jvm.Cond.code ({ cls := "GrassField$Join", name := "does", desc := "(LGrassField$House;LGrassField$Person;)V" } : Jvm.MethodName) prog_13_method_2_code (7 : Nat) (Option.none : Option Jvm.ClassFile.FieldType)) ∈ lw_all := lw_g (lw_at lw_m5 132 rfl) rfl
theorem q1195 : (Jvm.Cond.methodLink "GrassField$Join" (15 : Nat) ({ cls := "GrassField$House", name := "nearest", desc := "(LGrassField$Person;IZ)I" } : Jvm.MethodName)) ∈ lw_all := lw_g (lw_at lw_m5 133 rfl) rfl
theorem q1196 : (Jvm.Cond.constant "GrassField$Join" (21 : Nat) (1000000 : Int32)) ∈ lw_all := lw_g (lw_at lw_m5 134 rfl) rfl
theorem q1197 : (Jvm.Cond.methodLinkNest "GrassField$Join" (22 : Nat) ({ cls := "GrassField", name := "far", desc := "(II)I" } : Jvm.MethodName) "GrassField") ∈ lw_tbl := lw_at lw_m5 135 rfl
theorem q2281 : (Jvm.Cond.castable "GrassField$Join" "java/lang/Object") ∈ lw_tbl := lw_at lw_m10 19 rfl
theorem q2298 : (Jvm.Cond.castable "GrassField$Join" "GrassField$Line") ∈ lw_tbl := lw_at lw_m10 36 rfl
theorem in_X17 : ∀ w ∈ wsX170, w ∈ lw_all := lw_in wsX170 [1033] (by decide +kernel) (by decide +kernel)
theorem q132 : (Jvm.Cond.initialized "GrassField$Drop") ∈ lw_all := lw_g (lw_at lw_m1 30 rfl) rfl
theorem q633 : (Jvm.Cond.fieldLinkNest "GrassField$Drop" (9 : Nat) "GrassField$Person" "gun" "I" "GrassField") ∈ lw_tbl := lw_at lw_m3 51 rfl
theorem q1041 : (Jvm.Cond.instantiable "GrassField$Drop" (1 : Nat)) ∈ lw_all := lw_g (lw_at lw_m4 219 rfl) rfl
theorem q1043 : (Jvm.Cond.instanceMethod ({ cls := "GrassField$Drop", name := "<init>", desc := "(LGrassField$Cond;)V" } : Jvm.MethodName)) ∈ lw_all := lw_g (lw_at lw_m4 221 rfl) rfl
theorem q1044 : (Jvm.Cond.code ({ cls := "GrassField$Drop", name := "<init>", desc := "(LGrassField$Cond;)V" } : Jvm.MethodName) prog_7_method_1_code (2 : Nat) (Option.none : Option Jvm.ClassFile.FieldType)) ∈ lw_all := lw_g (lw_at lw_m4 222 rfl) rfl
theorem q1045 : (Jvm.Cond.methodLink "GrassField$Drop" (3 : Nat) ({ cls := "GrassField$Line", name := "<init>", desc := "(LGrassField$Cond;)V" } : Jvm.MethodName)) ∈ lw_all := lw_g (lw_at lw_m4 223 rfl) rfl
theorem q1046 : (Jvm.Cond.laysFinal "GrassField$Drop" "GrassField$Line" "cond" "LGrassField$Cond;") ∈ lw_all := lw_g (lw_at lw_m4 224 rfl) rfl
theorem q1047 : (Jvm.Cond.superclass "GrassField$Drop" "GrassField$Line") ∈ lw_all := lw_g (lw_at lw_m4 225 rfl) rfl
theorem q1135 : (Jvm.Cond.selects "GrassField$Drop" ({ cls := "GrassField$Line", name := "is", desc := "([I)Z" } : Jvm.MethodName) ({ cls := "GrassField$Line", name := "is", desc := "([I)Z" } : Jvm.MethodName)) ∈ lw_all := lw_g (lw_at lw_m5 73 rfl) rfl
theorem q1180 : (Jvm.Cond.selects "GrassField$Drop" ({ cls := "GrassField$Line", name := "does", desc := "(LGrassField$House;LGrassField$Person;)V" } : Jvm.MethodName) ({ cls := "GrassField$Drop", name := "does", desc := "(LGrassField$House;LGrassField$Person;)V" } : Jvm.MethodName)) ∈ lw_all := lw_g (lw_at lw_m5 118 rfl) rfl
theorem q1181 : (Jvm.Cond.instanceMethod ({ cls := "GrassField$Drop", name := "does", desc := "(LGrassField$House;LGrassField$Person;)V" } : Jvm.MethodName)) ∈ lw_all := lw_g (lw_at lw_m5 119 rfl) rfl
theorem q1182 : (Jvm.Cond.code ({ cls := "GrassField$Drop", name := "does", desc := "(LGrassField$House;LGrassField$Person;)V" } : Jvm.MethodName) prog_7_method_2_code (3 : Nat) (Option.none : Option Jvm.ClassFile.FieldType)) ∈ lw_all := lw_g (lw_at lw_m5 120 rfl) rfl
theorem q2283 : (Jvm.Cond.castable "GrassField$Drop" "java/lang/Object") ∈ lw_tbl := lw_at lw_m10 21 rfl
theorem q2300 : (Jvm.Cond.castable "GrassField$Drop" "GrassField$Line") ∈ lw_tbl := lw_at lw_m10 38 rfl
theorem in_X18 : ∀ w ∈ wsX180, w ∈ lw_all := lw_in wsX180 [1046] (by decide +kernel) (by decide +kernel)
theorem q133 : (Jvm.Cond.initialized "GrassField$Law") ∈ lw_all := lw_g (lw_at lw_m1 31 rfl) rfl
theorem q1049 : (Jvm.Cond.instantiable "GrassField$Law" (1 : Nat)) ∈ lw_all := lw_g (lw_at lw_m4 227 rfl) rfl
theorem q1051 : (Jvm.Cond.instanceMethod ({ cls := "GrassField$Law", name := "<init>", desc := "([LGrassField$Line;I)V" } : Jvm.MethodName)) ∈ lw_all := lw_g (lw_at lw_m4 229 rfl) rfl
theorem q1052 : (Jvm.Cond.code ({ cls := "GrassField$Law", name := "<init>", desc := "([LGrassField$Line;I)V" } : Jvm.MethodName) prog_15_method_1_code (3 : Nat) (Option.none : Option Jvm.ClassFile.FieldType)) ∈ lw_all := lw_g (lw_at lw_m4 230 rfl) rfl
theorem q1053 : (Jvm.Cond.methodLink "GrassField$Law" (1 : Nat) ({ cls := "java/lang/Object", name := "<init>", desc := "()V" } : Jvm.MethodName)) ∈ lw_all := lw_g (lw_at lw_m4 231 rfl) rfl
theorem q1054 : (Jvm.Cond.classLink "GrassField$Law" (7 : Nat) "GrassField$Line") ∈ lw_all := lw_g (lw_at lw_m4 232 rfl) rfl
theorem q1055 : (Jvm.Cond.methodLink "GrassField$Law" (15 : Nat) ({ cls := "java/lang/System", name := "arraycopy", desc := "(Ljava/lang/Object;ILjava/lang/Object;II)V" } : Jvm.MethodName)) ∈ lw_all := lw_g (lw_at lw_m4 233 rfl) rfl
theorem q1056 : (Jvm.Cond.fieldLink "GrassField$Law" (9 : Nat) "GrassField$Law" "lines" "[LGrassField$Line;") ∈ lw_all := lw_g (lw_at lw_m4 234 rfl) rfl
theorem q1057 : (Jvm.Cond.laysFinal "GrassField$Law" "GrassField$Law" "lines" "[LGrassField$Line;") ∈ lw_all := lw_g (lw_at lw_m4 235 rfl) rfl
theorem q1058 : (Jvm.Cond.soleField "GrassField$Law" "lines") ∈ lw_all := lw_g (lw_at lw_m4 236 rfl) rfl
theorem q1059 : (Jvm.Cond.superclass "GrassField$Law" "java/lang/Object") ∈ lw_all := lw_g (lw_at lw_m4 237 rfl) rfl
theorem q1129 : (Jvm.Cond.instanceMethod ({ cls := "GrassField$Law", name := "of", desc := "([I)LGrassField$Line;" } : Jvm.MethodName)) ∈ lw_all := lw_g (lw_at lw_m5 67 rfl) rfl
theorem q1130 : (Jvm.Cond.selects "GrassField$Law" ({ cls := "GrassField$Law", name := "of", desc := "([I)LGrassField$Line;" } : Jvm.MethodName) ({ cls := "GrassField$Law", name := "of", desc := "([I)LGrassField$Line;" } : Jvm.MethodName)) ∈ lw_all := lw_g (lw_at lw_m5 68 rfl) rfl
theorem q1131 : (Jvm.Cond.code ({ cls := "GrassField$Law", name := "of", desc := "([I)LGrassField$Line;" } : Jvm.MethodName) prog_15_method_2_code (3 : Nat) (Option.some (Jvm.ClassFile.FieldType.object "GrassField$Line"))) ∈ lw_all := lw_g (lw_at lw_m5 69 rfl) rfl
theorem q1132 : (Jvm.Cond.methodLink "GrassField$Law" (21 : Nat) ({ cls := "GrassField$Line", name := "is", desc := "([I)Z" } : Jvm.MethodName)) ∈ lw_all := lw_g (lw_at lw_m5 70 rfl) rfl
theorem q2284 : (Jvm.Cond.castable "GrassField$Law" "java/lang/Object") ∈ lw_tbl := lw_at lw_m10 22 rfl
theorem in_X19 : ∀ w ∈ wsX190, w ∈ lw_all := lw_in wsX190 [1057] (by decide +kernel) (by decide +kernel)
theorem q135 : (Jvm.Cond.initialized "GrassField$Person") ∈ lw_all := lw_g (lw_at lw_m1 33 rfl) rfl
theorem q618 : (Jvm.Cond.instantiable "GrassField$Person" (6 : Nat)) ∈ lw_all := lw_g (lw_at lw_m3 36 rfl) rfl
theorem q620 : (Jvm.Cond.instanceMethod ({ cls := "GrassField$Person", name := "<init>", desc := "(LGrassField$Person;)V" } : Jvm.MethodName)) ∈ lw_all := lw_g (lw_at lw_m3 38 rfl) rfl
theorem q621 : (Jvm.Cond.code ({ cls := "GrassField$Person", name := "<init>", desc := "(LGrassField$Person;)V" } : Jvm.MethodName) prog_19_method_2_code (2 : Nat) (Option.none : Option Jvm.ClassFile.FieldType)) ∈ lw_all := lw_g (lw_at lw_m3 39 rfl) rfl
theorem q622 : (Jvm.Cond.methodLink "GrassField$Person" (29 : Nat) ({ cls := "GrassField$Person", name := "<init>", desc := "(IIIII)V" } : Jvm.MethodName)) ∈ lw_all := lw_g (lw_at lw_m3 40 rfl) rfl
theorem q623 : (Jvm.Cond.instanceMethod ({ cls := "GrassField$Person", name := "<init>", desc := "(IIIII)V" } : Jvm.MethodName)) ∈ lw_all := lw_g (lw_at lw_m3 41 rfl) rfl
theorem q624 : (Jvm.Cond.code ({ cls := "GrassField$Person", name := "<init>", desc := "(IIIII)V" } : Jvm.MethodName) prog_19_method_1_code (6 : Nat) (Option.none : Option Jvm.ClassFile.FieldType)) ∈ lw_all := lw_g (lw_at lw_m3 42 rfl) rfl
theorem q625 : (Jvm.Cond.methodLink "GrassField$Person" (1 : Nat) ({ cls := "java/lang/Object", name := "<init>", desc := "()V" } : Jvm.MethodName)) ∈ lw_all := lw_g (lw_at lw_m3 43 rfl) rfl
theorem q626 : (Jvm.Cond.fieldLink "GrassField$Person" (13 : Nat) "GrassField$Person" "side" "I") ∈ lw_all := lw_g (lw_at lw_m3 44 rfl) rfl
theorem q629 : (Jvm.Cond.fieldLink "GrassField$Person" (17 : Nat) "GrassField$Person" "law" "I") ∈ lw_all := lw_g (lw_at lw_m3 47 rfl) rfl
theorem q632 : (Jvm.Cond.fieldLink "GrassField$Person" (20 : Nat) "GrassField$Person" "gun" "I") ∈ lw_all := lw_g (lw_at lw_m3 50 rfl) rfl
theorem q637 : (Jvm.Cond.fieldLink "GrassField$Person" (23 : Nat) "GrassField$Person" "cell" "I") ∈ lw_all := lw_g (lw_at lw_m3 55 rfl) rfl
theorem q643 : (Jvm.Cond.fieldLink "GrassField$Person" (26 : Nat) "GrassField$Person" "fear" "I") ∈ lw_all := lw_g (lw_at lw_m3 61 rfl) rfl
theorem q647 : (Jvm.Cond.fieldLink "GrassField$Person" (7 : Nat) "GrassField$Person" "living" "Z") ∈ lw_all := lw_g (lw_at lw_m3 65 rfl) rfl
theorem q650 : (Jvm.Cond.laysFinal "GrassField$Person" "GrassField$Person" "side" "I") ∈ lw_all := lw_g (lw_at lw_m3 68 rfl) rfl
theorem q651 : (Jvm.Cond.soleField "GrassField$Person" "side") ∈ lw_all := lw_g (lw_at lw_m3 69 rfl) rfl
theorem q652 : (Jvm.Cond.laysFinal "GrassField$Person" "GrassField$Person" "law" "I") ∈ lw_all := lw_g (lw_at lw_m3 70 rfl) rfl
theorem q653 : (Jvm.Cond.soleField "GrassField$Person" "law") ∈ lw_all := lw_g (lw_at lw_m3 71 rfl) rfl
theorem q654 : (Jvm.Cond.lays "GrassField$Person" "GrassField$Person" "gun" "I") ∈ lw_all := lw_g (lw_at lw_m3 72 rfl) rfl
theorem q655 : (Jvm.Cond.soleField "GrassField$Person" "gun") ∈ lw_all := lw_g (lw_at lw_m3 73 rfl) rfl
theorem q656 : (Jvm.Cond.lays "GrassField$Person" "GrassField$Person" "cell" "I") ∈ lw_all := lw_g (lw_at lw_m3 74 rfl) rfl
theorem q657 : (Jvm.Cond.soleField "GrassField$Person" "cell") ∈ lw_all := lw_g (lw_at lw_m3 75 rfl) rfl
theorem q658 : (Jvm.Cond.lays "GrassField$Person" "GrassField$Person" "fear" "I") ∈ lw_all := lw_g (lw_at lw_m3 76 rfl) rfl
theorem q659 : (Jvm.Cond.soleField "GrassField$Person" "fear") ∈ lw_all := lw_g (lw_at lw_m3 77 rfl) rfl
theorem q660 : (Jvm.Cond.lays "GrassField$Person" "GrassField$Person" "living" "Z") ∈ lw_all := lw_g (lw_at lw_m3 78 rfl) rfl
theorem q661 : (Jvm.Cond.soleField "GrassField$Person" "living") ∈ lw_all := lw_g (lw_at lw_m3 79 rfl) rfl
theorem q662 : (Jvm.Cond.superclass "GrassField$Person" "java/lang/Object") ∈ lw_all := lw_g (lw_at lw_m3 80 rfl) rfl
theorem q2285 : (Jvm.Cond.castable "GrassField$Person" "java/lang/Object") ∈ lw_tbl := lw_at lw_m10 23 rfl
theorem in_X20 : ∀ w ∈ wsX200, w ∈ lw_all := lw_in wsX200 [650, 652, 654, 656, 658, 660] (by decide +kernel) (by decide +kernel)
theorem q137 : (Jvm.Cond.initialized "GrassField$Find") ∈ lw_all := lw_g (lw_at lw_m1 35 rfl) rfl
theorem q500 : (Jvm.Cond.instanceMethod ({ cls := "GrassField$Find", name := "depth", desc := "()I" } : Jvm.MethodName)) ∈ lw_all := lw_g (lw_at lw_m2 158 rfl) rfl
theorem q501 : (Jvm.Cond.sameMethod "GrassField$Find" "GrassField$Find" "depth" "()I") ∈ lw_all := lw_g (lw_at lw_m2 159 rfl) rfl
theorem q506 : (Jvm.Cond.code ({ cls := "GrassField$Find", name := "depth", desc := "()I" } : Jvm.MethodName) prog_8_method_5_code (1 : Nat) (Option.some Jvm.ClassFile.FieldType.int)) ∈ lw_all := lw_g (lw_at lw_m2 164 rfl) rfl
theorem q508 : (Jvm.Cond.instanceMethod ({ cls := "GrassField$Find", name := "row", desc := "()I" } : Jvm.MethodName)) ∈ lw_all := lw_g (lw_at lw_m2 166 rfl) rfl
theorem q509 : (Jvm.Cond.sameMethod "GrassField$Find" "GrassField$Find" "row" "()I") ∈ lw_all := lw_g (lw_at lw_m2 167 rfl) rfl
theorem q514 : (Jvm.Cond.code ({ cls := "GrassField$Find", name := "row", desc := "()I" } : Jvm.MethodName) prog_8_method_6_code (1 : Nat) (Option.some Jvm.ClassFile.FieldType.int)) ∈ lw_all := lw_g (lw_at lw_m2 172 rfl) rfl
theorem q531 : (Jvm.Cond.declares ({ cls := "GrassField$Find", name := "kind", desc := "()I" } : Jvm.MethodName)) ∈ lw_tbl := lw_at lw_m2 189 rfl
theorem q532 : (Jvm.Cond.sameMethod "GrassField$Find" "GrassField$Find" "kind" "()I") ∈ lw_all := lw_g (lw_at lw_m2 190 rfl) rfl
theorem q546 : (Jvm.Cond.instanceMethod ({ cls := "GrassField$Find", name := "cell", desc := "()I" } : Jvm.MethodName)) ∈ lw_all := lw_g (lw_at lw_m2 204 rfl) rfl
theorem q547 : (Jvm.Cond.sameMethod "GrassField$Find" "GrassField$Find" "cell" "()I") ∈ lw_all := lw_g (lw_at lw_m2 205 rfl) rfl
theorem q552 : (Jvm.Cond.code ({ cls := "GrassField$Find", name := "cell", desc := "()I" } : Jvm.MethodName) prog_8_method_4_code (1 : Nat) (Option.some Jvm.ClassFile.FieldType.int)) ∈ lw_all := lw_g (lw_at lw_m2 210 rfl) rfl
theorem q1213 : (Jvm.Cond.instanceMethod ({ cls := "GrassField$Find", name := "<init>", desc := "(II)V" } : Jvm.MethodName)) ∈ lw_all := lw_g (lw_at lw_m5 151 rfl) rfl
theorem q1214 : (Jvm.Cond.code ({ cls := "GrassField$Find", name := "<init>", desc := "(II)V" } : Jvm.MethodName) prog_8_method_1_code (3 : Nat) (Option.none : Option Jvm.ClassFile.FieldType)) ∈ lw_all := lw_g (lw_at lw_m5 152 rfl) rfl
theorem q1215 : (Jvm.Cond.methodLink "GrassField$Find" (3 : Nat) ({ cls := "java/lang/Object", name := "<init>", desc := "()V" } : Jvm.MethodName)) ∈ lw_all := lw_g (lw_at lw_m5 153 rfl) rfl
theorem q1223 : (Jvm.Cond.fieldLink "GrassField$Find" (9 : Nat) "GrassField$Find" "cell" "I") ∈ lw_all := lw_g (lw_at lw_m5 161 rfl) rfl
theorem q1224 : (Jvm.Cond.fieldLink "GrassField$Find" (15 : Nat) "GrassField$Find" "depth" "I") ∈ lw_all := lw_g (lw_at lw_m5 162 rfl) rfl
theorem q1232 : (Jvm.Cond.soleField "GrassField$Find" "cell") ∈ lw_all := lw_g (lw_at lw_m5 170 rfl) rfl
theorem q1234 : (Jvm.Cond.soleField "GrassField$Find" "depth") ∈ lw_all := lw_g (lw_at lw_m5 172 rfl) rfl
theorem q1321 : (Jvm.Cond.declares ({ cls := "GrassField$Find", name := "tells", desc := "()I" } : Jvm.MethodName)) ∈ lw_tbl := lw_at lw_m6 19 rfl
theorem q1322 : (Jvm.Cond.sameMethod "GrassField$Find" "GrassField$Find" "tells" "()I") ∈ lw_all := lw_g (lw_at lw_m6 20 rfl) rfl
theorem q1440 : (Jvm.Cond.declares ({ cls := "GrassField$Find", name := "cell", desc := "()I" } : Jvm.MethodName)) ∈ lw_tbl := lw_at lw_m6 138 rfl
theorem q138 : (Jvm.Cond.initialized "GrassField$Case") ∈ lw_all := lw_g (lw_at lw_m1 36 rfl) rfl
theorem q504 : (Jvm.Cond.selects "GrassField$Case" ({ cls := "GrassField$Find", name := "depth", desc := "()I" } : Jvm.MethodName) ({ cls := "GrassField$Find", name := "depth", desc := "()I" } : Jvm.MethodName)) ∈ lw_all := lw_g (lw_at lw_m2 162 rfl) rfl
theorem q512 : (Jvm.Cond.selects "GrassField$Case" ({ cls := "GrassField$Find", name := "row", desc := "()I" } : Jvm.MethodName) ({ cls := "GrassField$Find", name := "row", desc := "()I" } : Jvm.MethodName)) ∈ lw_all := lw_g (lw_at lw_m2 170 rfl) rfl
theorem q539 : (Jvm.Cond.selects "GrassField$Case" ({ cls := "GrassField$Find", name := "kind", desc := "()I" } : Jvm.MethodName) ({ cls := "GrassField$Case", name := "kind", desc := "()I" } : Jvm.MethodName)) ∈ lw_all := lw_g (lw_at lw_m2 197 rfl) rfl
theorem q540 : (Jvm.Cond.instanceMethod ({ cls := "GrassField$Case", name := "kind", desc := "()I" } : Jvm.MethodName)) ∈ lw_all := lw_g (lw_at lw_m2 198 rfl) rfl
theorem q541 : (Jvm.Cond.code ({ cls := "GrassField$Case", name := "kind", desc := "()I" } : Jvm.MethodName) prog_4_method_2_code (1 : Nat) (Option.some Jvm.ClassFile.FieldType.int)) ∈ lw_all := lw_g (lw_at lw_m2 199 rfl) rfl
theorem q550 : (Jvm.Cond.selects "GrassField$Case" ({ cls := "GrassField$Find", name := "cell", desc := "()I" } : Jvm.MethodName) ({ cls := "GrassField$Find", name := "cell", desc := "()I" } : Jvm.MethodName)) ∈ lw_all := lw_g (lw_at lw_m2 208 rfl) rfl
theorem q1208 : (Jvm.Cond.instantiable "GrassField$Case" (5 : Nat)) ∈ lw_all := lw_g (lw_at lw_m5 146 rfl) rfl
theorem q1210 : (Jvm.Cond.instanceMethod ({ cls := "GrassField$Case", name := "<init>", desc := "(IIIII)V" } : Jvm.MethodName)) ∈ lw_all := lw_g (lw_at lw_m5 148 rfl) rfl
theorem q1211 : (Jvm.Cond.code ({ cls := "GrassField$Case", name := "<init>", desc := "(IIIII)V" } : Jvm.MethodName) prog_4_method_1_code (6 : Nat) (Option.none : Option Jvm.ClassFile.FieldType)) ∈ lw_all := lw_g (lw_at lw_m5 149 rfl) rfl
theorem q1212 : (Jvm.Cond.methodLink "GrassField$Case" (3 : Nat) ({ cls := "GrassField$Find", name := "<init>", desc := "(II)V" } : Jvm.MethodName)) ∈ lw_all := lw_g (lw_at lw_m5 150 rfl) rfl
theorem q1216 : (Jvm.Cond.fieldLink "GrassField$Case" (9 : Nat) "GrassField$Case" "marks" "I") ∈ lw_all := lw_g (lw_at lw_m5 154 rfl) rfl
theorem q1217 : (Jvm.Cond.fieldLink "GrassField$Case" (15 : Nat) "GrassField$Case" "from" "I") ∈ lw_all := lw_g (lw_at lw_m5 155 rfl) rfl
theorem q1220 : (Jvm.Cond.fieldLink "GrassField$Case" (18 : Nat) "GrassField$Case" "till" "I") ∈ lw_all := lw_g (lw_at lw_m5 158 rfl) rfl
theorem q1225 : (Jvm.Cond.laysFinal "GrassField$Case" "GrassField$Case" "marks" "I") ∈ lw_all := lw_g (lw_at lw_m5 163 rfl) rfl
theorem q1226 : (Jvm.Cond.soleField "GrassField$Case" "marks") ∈ lw_all := lw_g (lw_at lw_m5 164 rfl) rfl
theorem q1227 : (Jvm.Cond.laysFinal "GrassField$Case" "GrassField$Case" "from" "I") ∈ lw_all := lw_g (lw_at lw_m5 165 rfl) rfl
theorem q1228 : (Jvm.Cond.soleField "GrassField$Case" "from") ∈ lw_all := lw_g (lw_at lw_m5 166 rfl) rfl
theorem q1229 : (Jvm.Cond.laysFinal "GrassField$Case" "GrassField$Case" "till" "I") ∈ lw_all := lw_g (lw_at lw_m5 167 rfl) rfl
theorem q1230 : (Jvm.Cond.soleField "GrassField$Case" "till") ∈ lw_all := lw_g (lw_at lw_m5 168 rfl) rfl
theorem q1231 : (Jvm.Cond.laysFinal "GrassField$Case" "GrassField$Find" "cell" "I") ∈ lw_all := lw_g (lw_at lw_m5 169 rfl) rfl
theorem q1233 : (Jvm.Cond.laysFinal "GrassField$Case" "GrassField$Find" "depth" "I") ∈ lw_all := lw_g (lw_at lw_m5 171 rfl) rfl
theorem q1235 : (Jvm.Cond.superclass "GrassField$Case" "GrassField$Find") ∈ lw_all := lw_g (lw_at lw_m5 173 rfl) rfl
theorem q1329 : (Jvm.Cond.selects "GrassField$Case" ({ cls := "GrassField$Find", name := "tells", desc := "()I" } : Jvm.MethodName) ({ cls := "GrassField$Case", name := "tells", desc := "()I" } : Jvm.MethodName)) ∈ lw_all := lw_g (lw_at lw_m6 27 rfl) rfl
theorem q1330 : (Jvm.Cond.instanceMethod ({ cls := "GrassField$Case", name := "tells", desc := "()I" } : Jvm.MethodName)) ∈ lw_all := lw_g (lw_at lw_m6 28 rfl) rfl
theorem q1331 : (Jvm.Cond.code ({ cls := "GrassField$Case", name := "tells", desc := "()I" } : Jvm.MethodName) prog_4_method_3_code (1 : Nat) (Option.some Jvm.ClassFile.FieldType.int)) ∈ lw_all := lw_g (lw_at lw_m6 29 rfl) rfl
theorem q1439 : (Jvm.Cond.sameMethod "GrassField$Case" "GrassField$Find" "cell" "()I") ∈ lw_all := lw_g (lw_at lw_m6 137 rfl) rfl
theorem q1441 : (Jvm.Cond.selects "GrassField$Case" ({ cls := "GrassField$Case", name := "cell", desc := "()I" } : Jvm.MethodName) ({ cls := "GrassField$Find", name := "cell", desc := "()I" } : Jvm.MethodName)) ∈ lw_all := lw_g (lw_at lw_m6 139 rfl) rfl
theorem q2287 : (Jvm.Cond.castable "GrassField$Case" "java/lang/Object") ∈ lw_tbl := lw_at lw_m10 25 rfl
theorem q2301 : (Jvm.Cond.castable "GrassField$Case" "GrassField$Find") ∈ lw_tbl := lw_at lw_m10 39 rfl
theorem in_X22 : ∀ w ∈ wsX220, w ∈ lw_all := lw_in wsX220 [1231, 1233, 1225, 1227, 1229] (by decide +kernel) (by decide +kernel)
theorem q139 : (Jvm.Cond.initialized "GrassField$Ball") ∈ lw_all := lw_g (lw_at lw_m1 37 rfl) rfl
theorem q502 : (Jvm.Cond.selects "GrassField$Ball" ({ cls := "GrassField$Find", name := "depth", desc := "()I" } : Jvm.MethodName) ({ cls := "GrassField$Find", name := "depth", desc := "()I" } : Jvm.MethodName)) ∈ lw_all := lw_g (lw_at lw_m2 160 rfl) rfl
theorem q510 : (Jvm.Cond.selects "GrassField$Ball" ({ cls := "GrassField$Find", name := "row", desc := "()I" } : Jvm.MethodName) ({ cls := "GrassField$Find", name := "row", desc := "()I" } : Jvm.MethodName)) ∈ lw_all := lw_g (lw_at lw_m2 168 rfl) rfl
theorem q533 : (Jvm.Cond.selects "GrassField$Ball" ({ cls := "GrassField$Find", name := "kind", desc := "()I" } : Jvm.MethodName) ({ cls := "GrassField$Ball", name := "kind", desc := "()I" } : Jvm.MethodName)) ∈ lw_all := lw_g (lw_at lw_m2 191 rfl) rfl
theorem q534 : (Jvm.Cond.instanceMethod ({ cls := "GrassField$Ball", name := "kind", desc := "()I" } : Jvm.MethodName)) ∈ lw_all := lw_g (lw_at lw_m2 192 rfl) rfl
theorem q535 : (Jvm.Cond.code ({ cls := "GrassField$Ball", name := "kind", desc := "()I" } : Jvm.MethodName) prog_2_method_2_code (1 : Nat) (Option.some Jvm.ClassFile.FieldType.int)) ∈ lw_all := lw_g (lw_at lw_m2 193 rfl) rfl
theorem q548 : (Jvm.Cond.selects "GrassField$Ball" ({ cls := "GrassField$Find", name := "cell", desc := "()I" } : Jvm.MethodName) ({ cls := "GrassField$Find", name := "cell", desc := "()I" } : Jvm.MethodName)) ∈ lw_all := lw_g (lw_at lw_m2 206 rfl) rfl
theorem q1241 : (Jvm.Cond.instantiable "GrassField$Ball" (3 : Nat)) ∈ lw_all := lw_g (lw_at lw_m5 179 rfl) rfl
theorem q1243 : (Jvm.Cond.instanceMethod ({ cls := "GrassField$Ball", name := "<init>", desc := "(III)V" } : Jvm.MethodName)) ∈ lw_all := lw_g (lw_at lw_m5 181 rfl) rfl
theorem q1244 : (Jvm.Cond.code ({ cls := "GrassField$Ball", name := "<init>", desc := "(III)V" } : Jvm.MethodName) prog_2_method_1_code (4 : Nat) (Option.none : Option Jvm.ClassFile.FieldType)) ∈ lw_all := lw_g (lw_at lw_m5 182 rfl) rfl
theorem q1245 : (Jvm.Cond.methodLink "GrassField$Ball" (3 : Nat) ({ cls := "GrassField$Find", name := "<init>", desc := "(II)V" } : Jvm.MethodName)) ∈ lw_all := lw_g (lw_at lw_m5 183 rfl) rfl
theorem q1246 : (Jvm.Cond.fieldLink "GrassField$Ball" (9 : Nat) "GrassField$Ball" "side" "I") ∈ lw_all := lw_g (lw_at lw_m5 184 rfl) rfl
theorem q1247 : (Jvm.Cond.laysFinal "GrassField$Ball" "GrassField$Ball" "side" "I") ∈ lw_all := lw_g (lw_at lw_m5 185 rfl) rfl
theorem q1248 : (Jvm.Cond.soleField "GrassField$Ball" "side") ∈ lw_all := lw_g (lw_at lw_m5 186 rfl) rfl
theorem q1249 : (Jvm.Cond.laysFinal "GrassField$Ball" "GrassField$Find" "cell" "I") ∈ lw_all := lw_g (lw_at lw_m5 187 rfl) rfl
theorem q1250 : (Jvm.Cond.laysFinal "GrassField$Ball" "GrassField$Find" "depth" "I") ∈ lw_all := lw_g (lw_at lw_m5 188 rfl) rfl
theorem q1251 : (Jvm.Cond.superclass "GrassField$Ball" "GrassField$Find") ∈ lw_all := lw_g (lw_at lw_m5 189 rfl) rfl
theorem q1323 : (Jvm.Cond.selects "GrassField$Ball" ({ cls := "GrassField$Find", name := "tells", desc := "()I" } : Jvm.MethodName) ({ cls := "GrassField$Ball", name := "tells", desc := "()I" } : Jvm.MethodName)) ∈ lw_all := lw_g (lw_at lw_m6 21 rfl) rfl
theorem q1324 : (Jvm.Cond.instanceMethod ({ cls := "GrassField$Ball", name := "tells", desc := "()I" } : Jvm.MethodName)) ∈ lw_all := lw_g (lw_at lw_m6 22 rfl) rfl
theorem q1325 : (Jvm.Cond.code ({ cls := "GrassField$Ball", name := "tells", desc := "()I" } : Jvm.MethodName) prog_2_method_3_code (1 : Nat) (Option.some Jvm.ClassFile.FieldType.int)) ∈ lw_all := lw_g (lw_at lw_m6 23 rfl) rfl
theorem q2288 : (Jvm.Cond.castable "GrassField$Ball" "java/lang/Object") ∈ lw_tbl := lw_at lw_m10 26 rfl
theorem q2302 : (Jvm.Cond.castable "GrassField$Ball" "GrassField$Find") ∈ lw_tbl := lw_at lw_m10 40 rfl
theorem in_X23 : ∀ w ∈ wsX230, w ∈ lw_all := lw_in wsX230 [1249, 1250, 1247] (by decide +kernel) (by decide +kernel)
theorem q140 : (Jvm.Cond.initialized "GrassField$Bones") ∈ lw_all := lw_g (lw_at lw_m1 38 rfl) rfl
theorem q503 : (Jvm.Cond.selects "GrassField$Bones" ({ cls := "GrassField$Find", name := "depth", desc := "()I" } : Jvm.MethodName) ({ cls := "GrassField$Find", name := "depth", desc := "()I" } : Jvm.MethodName)) ∈ lw_all := lw_g (lw_at lw_m2 161 rfl) rfl
theorem q511 : (Jvm.Cond.selects "GrassField$Bones" ({ cls := "GrassField$Find", name := "row", desc := "()I" } : Jvm.MethodName) ({ cls := "GrassField$Find", name := "row", desc := "()I" } : Jvm.MethodName)) ∈ lw_all := lw_g (lw_at lw_m2 169 rfl) rfl
theorem q536 : (Jvm.Cond.selects "GrassField$Bones" ({ cls := "GrassField$Find", name := "kind", desc := "()I" } : Jvm.MethodName) ({ cls := "GrassField$Bones", name := "kind", desc := "()I" } : Jvm.MethodName)) ∈ lw_all := lw_g (lw_at lw_m2 194 rfl) rfl
theorem q537 : (Jvm.Cond.instanceMethod ({ cls := "GrassField$Bones", name := "kind", desc := "()I" } : Jvm.MethodName)) ∈ lw_all := lw_g (lw_at lw_m2 195 rfl) rfl
theorem q538 : (Jvm.Cond.code ({ cls := "GrassField$Bones", name := "kind", desc := "()I" } : Jvm.MethodName) prog_3_method_2_code (1 : Nat) (Option.some Jvm.ClassFile.FieldType.int)) ∈ lw_all := lw_g (lw_at lw_m2 196 rfl) rfl
theorem q549 : (Jvm.Cond.selects "GrassField$Bones" ({ cls := "GrassField$Find", name := "cell", desc := "()I" } : Jvm.MethodName) ({ cls := "GrassField$Find", name := "cell", desc := "()I" } : Jvm.MethodName)) ∈ lw_all := lw_g (lw_at lw_m2 207 rfl) rfl
theorem q1254 : (Jvm.Cond.instantiable "GrassField$Bones" (3 : Nat)) ∈ lw_all := lw_g (lw_at lw_m5 192 rfl) rfl
theorem q1260 : (Jvm.Cond.instanceMethod ({ cls := "GrassField$Bones", name := "<init>", desc := "(III)V" } : Jvm.MethodName)) ∈ lw_all := lw_g (lw_at lw_m5 198 rfl) rfl
theorem q1261 : (Jvm.Cond.code ({ cls := "GrassField$Bones", name := "<init>", desc := "(III)V" } : Jvm.MethodName) prog_3_method_1_code (4 : Nat) (Option.none : Option Jvm.ClassFile.FieldType)) ∈ lw_all := lw_g (lw_at lw_m5 199 rfl) rfl
theorem q1262 : (Jvm.Cond.methodLink "GrassField$Bones" (3 : Nat) ({ cls := "GrassField$Find", name := "<init>", desc := "(II)V" } : Jvm.MethodName)) ∈ lw_all := lw_g (lw_at lw_m5 200 rfl) rfl
theorem q1263 : (Jvm.Cond.fieldLink "GrassField$Bones" (9 : Nat) "GrassField$Bones" "people" "I") ∈ lw_all := lw_g (lw_at lw_m5 201 rfl) rfl
theorem q1264 : (Jvm.Cond.laysFinal "GrassField$Bones" "GrassField$Bones" "people" "I") ∈ lw_all := lw_g (lw_at lw_m5 202 rfl) rfl
theorem q1265 : (Jvm.Cond.soleField "GrassField$Bones" "people") ∈ lw_all := lw_g (lw_at lw_m5 203 rfl) rfl
theorem q1266 : (Jvm.Cond.laysFinal "GrassField$Bones" "GrassField$Find" "cell" "I") ∈ lw_all := lw_g (lw_at lw_m5 204 rfl) rfl
theorem q1267 : (Jvm.Cond.laysFinal "GrassField$Bones" "GrassField$Find" "depth" "I") ∈ lw_all := lw_g (lw_at lw_m5 205 rfl) rfl
theorem q1268 : (Jvm.Cond.superclass "GrassField$Bones" "GrassField$Find") ∈ lw_all := lw_g (lw_at lw_m5 206 rfl) rfl
theorem q1326 : (Jvm.Cond.selects "GrassField$Bones" ({ cls := "GrassField$Find", name := "tells", desc := "()I" } : Jvm.MethodName) ({ cls := "GrassField$Bones", name := "tells", desc := "()I" } : Jvm.MethodName)) ∈ lw_all := lw_g (lw_at lw_m6 24 rfl) rfl
theorem q1327 : (Jvm.Cond.instanceMethod ({ cls := "GrassField$Bones", name := "tells", desc := "()I" } : Jvm.MethodName)) ∈ lw_all := lw_g (lw_at lw_m6 25 rfl) rfl
theorem q1328 : (Jvm.Cond.code ({ cls := "GrassField$Bones", name := "tells", desc := "()I" } : Jvm.MethodName) prog_3_method_3_code (1 : Nat) (Option.some Jvm.ClassFile.FieldType.int)) ∈ lw_all := lw_g (lw_at lw_m6 26 rfl) rfl
theorem q2289 : (Jvm.Cond.castable "GrassField$Bones" "java/lang/Object") ∈ lw_tbl := lw_at lw_m10 27 rfl
theorem q2303 : (Jvm.Cond.castable "GrassField$Bones" "GrassField$Find") ∈ lw_tbl := lw_at lw_m10 41 rfl
theorem in_X24 : ∀ w ∈ wsX240, w ∈ lw_all := lw_in wsX240 [1266, 1267, 1264] (by decide +kernel) (by decide +kernel)
theorem q141 : (Jvm.Cond.initialized "GrassField$Late") ∈ lw_all := lw_g (lw_at lw_m1 39 rfl) rfl
theorem q505 : (Jvm.Cond.selects "GrassField$Late" ({ cls := "GrassField$Find", name := "depth", desc := "()I" } : Jvm.MethodName) ({ cls := "GrassField$Find", name := "depth", desc := "()I" } : Jvm.MethodName)) ∈ lw_all := lw_g (lw_at lw_m2 163 rfl) rfl
theorem q513 : (Jvm.Cond.selects "GrassField$Late" ({ cls := "GrassField$Find", name := "row", desc := "()I" } : Jvm.MethodName) ({ cls := "GrassField$Find", name := "row", desc := "()I" } : Jvm.MethodName)) ∈ lw_all := lw_g (lw_at lw_m2 171 rfl) rfl
theorem q542 : (Jvm.Cond.selects "GrassField$Late" ({ cls := "GrassField$Find", name := "kind", desc := "()I" } : Jvm.MethodName) ({ cls := "GrassField$Late", name := "kind", desc := "()I" } : Jvm.MethodName)) ∈ lw_all := lw_g (lw_at lw_m2 200 rfl) rfl
theorem q543 : (Jvm.Cond.instanceMethod ({ cls := "GrassField$Late", name := "kind", desc := "()I" } : Jvm.MethodName)) ∈ lw_all := lw_g (lw_at lw_m2 201 rfl) rfl
theorem q544 : (Jvm.Cond.code ({ cls := "GrassField$Late", name := "kind", desc := "()I" } : Jvm.MethodName) prog_14_method_2_code (1 : Nat) (Option.some Jvm.ClassFile.FieldType.int)) ∈ lw_all := lw_g (lw_at lw_m2 202 rfl) rfl
theorem q551 : (Jvm.Cond.selects "GrassField$Late" ({ cls := "GrassField$Find", name := "cell", desc := "()I" } : Jvm.MethodName) ({ cls := "GrassField$Find", name := "cell", desc := "()I" } : Jvm.MethodName)) ∈ lw_all := lw_g (lw_at lw_m2 209 rfl) rfl
theorem q1295 : (Jvm.Cond.instantiable "GrassField$Late" (3 : Nat)) ∈ lw_all := lw_g (lw_at lw_m5 233 rfl) rfl
theorem q1297 : (Jvm.Cond.instanceMethod ({ cls := "GrassField$Late", name := "<init>", desc := "(III)V" } : Jvm.MethodName)) ∈ lw_all := lw_g (lw_at lw_m5 235 rfl) rfl
theorem q1298 : (Jvm.Cond.code ({ cls := "GrassField$Late", name := "<init>", desc := "(III)V" } : Jvm.MethodName) prog_14_method_1_code (4 : Nat) (Option.none : Option Jvm.ClassFile.FieldType)) ∈ lw_all := lw_g (lw_at lw_m5 236 rfl) rfl
theorem q1299 : (Jvm.Cond.methodLink "GrassField$Late" (3 : Nat) ({ cls := "GrassField$Find", name := "<init>", desc := "(II)V" } : Jvm.MethodName)) ∈ lw_all := lw_g (lw_at lw_m5 237 rfl) rfl
theorem q1300 : (Jvm.Cond.fieldLink "GrassField$Late" (9 : Nat) "GrassField$Late" "year" "I") ∈ lw_all := lw_g (lw_at lw_m5 238 rfl) rfl
theorem q1301 : (Jvm.Cond.laysFinal "GrassField$Late" "GrassField$Late" "year" "I") ∈ lw_all := lw_g (lw_at lw_m5 239 rfl) rfl
theorem q1302 : (Jvm.Cond.soleField "GrassField$Late" "year") ∈ lw_all := lw_g (lw_at lw_m6 0 rfl) rfl
theorem q1303 : (Jvm.Cond.laysFinal "GrassField$Late" "GrassField$Find" "cell" "I") ∈ lw_all := lw_g (lw_at lw_m6 1 rfl) rfl
theorem q1304 : (Jvm.Cond.laysFinal "GrassField$Late" "GrassField$Find" "depth" "I") ∈ lw_all := lw_g (lw_at lw_m6 2 rfl) rfl
theorem q1305 : (Jvm.Cond.superclass "GrassField$Late" "GrassField$Find") ∈ lw_all := lw_g (lw_at lw_m6 3 rfl) rfl
theorem q1332 : (Jvm.Cond.selects "GrassField$Late" ({ cls := "GrassField$Find", name := "tells", desc := "()I" } : Jvm.MethodName) ({ cls := "GrassField$Late", name := "tells", desc := "()I" } : Jvm.MethodName)) ∈ lw_all := lw_g (lw_at lw_m6 30 rfl) rfl
theorem q1333 : (Jvm.Cond.instanceMethod ({ cls := "GrassField$Late", name := "tells", desc := "()I" } : Jvm.MethodName)) ∈ lw_all := lw_g (lw_at lw_m6 31 rfl) rfl
theorem q1334 : (Jvm.Cond.code ({ cls := "GrassField$Late", name := "tells", desc := "()I" } : Jvm.MethodName) prog_14_method_3_code (1 : Nat) (Option.some Jvm.ClassFile.FieldType.int)) ∈ lw_all := lw_g (lw_at lw_m6 32 rfl) rfl
theorem q2290 : (Jvm.Cond.castable "GrassField$Late" "java/lang/Object") ∈ lw_tbl := lw_at lw_m10 28 rfl
theorem q2304 : (Jvm.Cond.castable "GrassField$Late" "GrassField$Find") ∈ lw_tbl := lw_at lw_m10 42 rfl
theorem in_X25 : ∀ w ∈ wsX250, w ∈ lw_all := lw_in wsX250 [1303, 1304, 1301] (by decide +kernel) (by decide +kernel)
theorem q143 : (Jvm.Cond.initialized "GrassField$Teller") ∈ lw_all := lw_g (lw_at lw_m1 41 rfl) rfl
theorem q1520 : (Jvm.Cond.instantiable "GrassField$Teller" (4 : Nat)) ∈ lw_all := lw_g (lw_at lw_m6 218 rfl) rfl
theorem q1522 : (Jvm.Cond.instanceMethod ({ cls := "GrassField$Teller", name := "<init>", desc := "(IIII)V" } : Jvm.MethodName)) ∈ lw_all := lw_g (lw_at lw_m6 220 rfl) rfl
theorem q1523 : (Jvm.Cond.code ({ cls := "GrassField$Teller", name := "<init>", desc := "(IIII)V" } : Jvm.MethodName) prog_25_method_1_code (5 : Nat) (Option.none : Option Jvm.ClassFile.FieldType)) ∈ lw_all := lw_g (lw_at lw_m6 221 rfl) rfl
theorem q1524 : (Jvm.Cond.methodLink "GrassField$Teller" (1 : Nat) ({ cls := "java/lang/Object", name := "<init>", desc := "()V" } : Jvm.MethodName)) ∈ lw_all := lw_g (lw_at lw_m6 222 rfl) rfl
theorem q1525 : (Jvm.Cond.fieldLink "GrassField$Teller" (7 : Nat) "GrassField$Teller" "cell" "I") ∈ lw_all := lw_g (lw_at lw_m6 223 rfl) rfl
theorem q1527 : (Jvm.Cond.fieldLink "GrassField$Teller" (13 : Nat) "GrassField$Teller" "from" "I") ∈ lw_all := lw_g (lw_at lw_m6 225 rfl) rfl
theorem q1529 : (Jvm.Cond.fieldLink "GrassField$Teller" (16 : Nat) "GrassField$Teller" "till" "I") ∈ lw_all := lw_g (lw_at lw_m6 227 rfl) rfl
theorem q1531 : (Jvm.Cond.fieldLink "GrassField$Teller" (19 : Nat) "GrassField$Teller" "listener" "I") ∈ lw_all := lw_g (lw_at lw_m6 229 rfl) rfl
theorem q1533 : (Jvm.Cond.laysFinal "GrassField$Teller" "GrassField$Teller" "cell" "I") ∈ lw_all := lw_g (lw_at lw_m6 231 rfl) rfl
theorem q1534 : (Jvm.Cond.soleField "GrassField$Teller" "cell") ∈ lw_all := lw_g (lw_at lw_m6 232 rfl) rfl
theorem q1535 : (Jvm.Cond.laysFinal "GrassField$Teller" "GrassField$Teller" "from" "I") ∈ lw_all := lw_g (lw_at lw_m6 233 rfl) rfl
theorem q1536 : (Jvm.Cond.soleField "GrassField$Teller" "from") ∈ lw_all := lw_g (lw_at lw_m6 234 rfl) rfl
theorem q1537 : (Jvm.Cond.laysFinal "GrassField$Teller" "GrassField$Teller" "till" "I") ∈ lw_all := lw_g (lw_at lw_m6 235 rfl) rfl
theorem q1538 : (Jvm.Cond.soleField "GrassField$Teller" "till") ∈ lw_all := lw_g (lw_at lw_m6 236 rfl) rfl
theorem q1539 : (Jvm.Cond.laysFinal "GrassField$Teller" "GrassField$Teller" "listener" "I") ∈ lw_all := lw_g (lw_at lw_m6 237 rfl) rfl
theorem q1540 : (Jvm.Cond.soleField "GrassField$Teller" "listener") ∈ lw_all := lw_g (lw_at lw_m6 238 rfl) rfl
theorem q1541 : (Jvm.Cond.superclass "GrassField$Teller" "java/lang/Object") ∈ lw_all := lw_g (lw_at lw_m6 239 rfl) rfl
theorem q2291 : (Jvm.Cond.castable "GrassField$Teller" "java/lang/Object") ∈ lw_tbl := lw_at lw_m10 29 rfl
theorem in_X26 : ∀ w ∈ wsX260, w ∈ lw_all := lw_in wsX260 [1533, 1535, 1537, 1539] (by decide +kernel) (by decide +kernel)
theorem q144 : (Jvm.Cond.initialized "GrassField$Telling") ∈ lw_all := lw_g (lw_at lw_m1 42 rfl) rfl
theorem q1554 : (Jvm.Cond.instantiable "GrassField$Telling" (3 : Nat)) ∈ lw_all := lw_g (lw_at lw_m7 12 rfl) rfl
theorem q1556 : (Jvm.Cond.instanceMethod ({ cls := "GrassField$Telling", name := "<init>", desc := "(III)V" } : Jvm.MethodName)) ∈ lw_all := lw_g (lw_at lw_m7 14 rfl) rfl
theorem q1557 : (Jvm.Cond.code ({ cls := "GrassField$Telling", name := "<init>", desc := "(III)V" } : Jvm.MethodName) prog_26_method_1_code (4 : Nat) (Option.none : Option Jvm.ClassFile.FieldType)) ∈ lw_all := lw_g (lw_at lw_m7 15 rfl) rfl
theorem q1558 : (Jvm.Cond.methodLink "GrassField$Telling" (1 : Nat) ({ cls := "java/lang/Object", name := "<init>", desc := "()V" } : Jvm.MethodName)) ∈ lw_all := lw_g (lw_at lw_m7 16 rfl) rfl
theorem q1559 : (Jvm.Cond.fieldLink "GrassField$Telling" (7 : Nat) "GrassField$Telling" "teller" "I") ∈ lw_all := lw_g (lw_at lw_m7 17 rfl) rfl
theorem q1562 : (Jvm.Cond.fieldLink "GrassField$Telling" (13 : Nat) "GrassField$Telling" "cell" "I") ∈ lw_all := lw_g (lw_at lw_m7 20 rfl) rfl
theorem q1564 : (Jvm.Cond.fieldLink "GrassField$Telling" (16 : Nat) "GrassField$Telling" "minute" "I") ∈ lw_all := lw_g (lw_at lw_m7 22 rfl) rfl
theorem q1566 : (Jvm.Cond.laysFinal "GrassField$Telling" "GrassField$Telling" "teller" "I") ∈ lw_all := lw_g (lw_at lw_m7 24 rfl) rfl
theorem q1567 : (Jvm.Cond.soleField "GrassField$Telling" "teller") ∈ lw_all := lw_g (lw_at lw_m7 25 rfl) rfl
theorem q1568 : (Jvm.Cond.laysFinal "GrassField$Telling" "GrassField$Telling" "cell" "I") ∈ lw_all := lw_g (lw_at lw_m7 26 rfl) rfl
theorem q1569 : (Jvm.Cond.soleField "GrassField$Telling" "cell") ∈ lw_all := lw_g (lw_at lw_m7 27 rfl) rfl
theorem q1570 : (Jvm.Cond.laysFinal "GrassField$Telling" "GrassField$Telling" "minute" "I") ∈ lw_all := lw_g (lw_at lw_m7 28 rfl) rfl
theorem q1571 : (Jvm.Cond.soleField "GrassField$Telling" "minute") ∈ lw_all := lw_g (lw_at lw_m7 29 rfl) rfl
theorem q1572 : (Jvm.Cond.superclass "GrassField$Telling" "java/lang/Object") ∈ lw_all := lw_g (lw_at lw_m7 30 rfl) rfl
theorem q2292 : (Jvm.Cond.castable "GrassField$Telling" "java/lang/Object") ∈ lw_tbl := lw_at lw_m10 30 rfl
theorem in_X27 : ∀ w ∈ wsX270, w ∈ lw_all := lw_in wsX270 [1566, 1568, 1570] (by decide +kernel) (by decide +kernel)
theorem q145 : (Jvm.Cond.initialized "GrassField$Story") ∈ lw_all := lw_g (lw_at lw_m1 43 rfl) rfl
theorem q1622 : (Jvm.Cond.instantiable "GrassField$Story" (2 : Nat)) ∈ lw_all := lw_g (lw_at lw_m7 80 rfl) rfl
theorem q1624 : (Jvm.Cond.instanceMethod ({ cls := "GrassField$Story", name := "<init>", desc := "(ILGrassField$Cond;)V" } : Jvm.MethodName)) ∈ lw_all := lw_g (lw_at lw_m7 82 rfl) rfl
theorem q1625 : (Jvm.Cond.code ({ cls := "GrassField$Story", name := "<init>", desc := "(ILGrassField$Cond;)V" } : Jvm.MethodName) prog_22_method_1_code (3 : Nat) (Option.none : Option Jvm.ClassFile.FieldType)) ∈ lw_all := lw_g (lw_at lw_m7 83 rfl) rfl
theorem q1626 : (Jvm.Cond.methodLink "GrassField$Story" (1 : Nat) ({ cls := "java/lang/Object", name := "<init>", desc := "()V" } : Jvm.MethodName)) ∈ lw_all := lw_g (lw_at lw_m7 84 rfl) rfl
theorem q1627 : (Jvm.Cond.fieldLink "GrassField$Story" (7 : Nat) "GrassField$Story" "weight" "I") ∈ lw_all := lw_g (lw_at lw_m7 85 rfl) rfl
theorem q1629 : (Jvm.Cond.fieldLink "GrassField$Story" (13 : Nat) "GrassField$Story" "cond" "LGrassField$Cond;") ∈ lw_all := lw_g (lw_at lw_m7 87 rfl) rfl
theorem q1631 : (Jvm.Cond.laysFinal "GrassField$Story" "GrassField$Story" "weight" "I") ∈ lw_all := lw_g (lw_at lw_m7 89 rfl) rfl
theorem q1632 : (Jvm.Cond.soleField "GrassField$Story" "weight") ∈ lw_all := lw_g (lw_at lw_m7 90 rfl) rfl
theorem q1633 : (Jvm.Cond.laysFinal "GrassField$Story" "GrassField$Story" "cond" "LGrassField$Cond;") ∈ lw_all := lw_g (lw_at lw_m7 91 rfl) rfl
theorem q1634 : (Jvm.Cond.soleField "GrassField$Story" "cond") ∈ lw_all := lw_g (lw_at lw_m7 92 rfl) rfl
theorem q1635 : (Jvm.Cond.superclass "GrassField$Story" "java/lang/Object") ∈ lw_all := lw_g (lw_at lw_m7 93 rfl) rfl
theorem q2293 : (Jvm.Cond.castable "GrassField$Story" "java/lang/Object") ∈ lw_tbl := lw_at lw_m10 31 rfl
theorem in_X28 : ∀ w ∈ wsX280, w ∈ lw_all := lw_in wsX280 [1631, 1633] (by decide +kernel) (by decide +kernel)
theorem q161 : (Jvm.Cond.arrayOver (Jvm.ClassFile.FieldType.object "java/lang/String")) ∈ lw_tbl := lw_at lw_m1 59 rfl
theorem q182 : (Jvm.Cond.arrayOver (Jvm.ClassFile.FieldType.object "GrassField$Line")) ∈ lw_tbl := lw_at lw_m1 80 rfl
theorem q256 : (Jvm.Cond.arrayClass Jvm.ClassFile.FieldType.byte) ∈ lw_all := lw_g (lw_at lw_m1 154 rfl) rfl
theorem q296 : (Jvm.Cond.arrayOver (Jvm.ClassFile.FieldType.object "GrassField$Gun")) ∈ lw_tbl := lw_at lw_m1 194 rfl
theorem q298 : (Jvm.Cond.arrayOver (Jvm.ClassFile.FieldType.object "GrassField$Person")) ∈ lw_tbl := lw_at lw_m1 196 rfl
theorem q300 : (Jvm.Cond.arrayOver (Jvm.ClassFile.FieldType.object "GrassField$Law")) ∈ lw_tbl := lw_at lw_m1 198 rfl
theorem q302 : (Jvm.Cond.arrayOver (Jvm.ClassFile.FieldType.object "GrassField$Find")) ∈ lw_tbl := lw_at lw_m1 200 rfl
theorem q304 : (Jvm.Cond.arrayOver (Jvm.ClassFile.FieldType.object "GrassField$Teller")) ∈ lw_tbl := lw_at lw_m1 202 rfl
theorem q306 : (Jvm.Cond.arrayOver (Jvm.ClassFile.FieldType.object "GrassField$Telling")) ∈ lw_tbl := lw_at lw_m1 204 rfl
theorem q308 : (Jvm.Cond.arrayOver (Jvm.ClassFile.FieldType.object "GrassField$Story")) ∈ lw_tbl := lw_at lw_m1 206 rfl
theorem q405 : (Jvm.Cond.arrayClass Jvm.ClassFile.FieldType.int) ∈ lw_all := lw_g (lw_at lw_m2 63 rfl) rfl
theorem q413 : (Jvm.Cond.arrayOver (Jvm.ClassFile.FieldType.array Jvm.ClassFile.FieldType.int)) ∈ lw_tbl := lw_at lw_m2 71 rfl
theorem q1755 : (Jvm.Cond.arrayClass Jvm.ClassFile.FieldType.boolean) ∈ lw_all := lw_g (lw_at lw_m7 213 rfl) rfl
theorem q2259 : (Jvm.Cond.arrayClass Jvm.ClassFile.FieldType.long) ∈ lw_all := lw_g (lw_at lw_m9 237 rfl) rfl
theorem q134 : (Jvm.Cond.initialized "java/lang/System") ∈ lw_all := lw_g (lw_at lw_m1 32 rfl) rfl
theorem q590 : (Jvm.Cond.static ({ cls := "java/lang/System", name := "arraycopy", desc := "(Ljava/lang/Object;ILjava/lang/Object;II)V" } : Jvm.MethodName)) ∈ lw_all := lw_g (lw_at lw_m3 8 rfl) rfl
theorem q591 : (Jvm.Cond.native ({ cls := "java/lang/System", name := "arraycopy", desc := "(Ljava/lang/Object;ILjava/lang/Object;II)V" } : Jvm.MethodName)) ∈ lw_all := lw_g (lw_at lw_m3 9 rfl) rfl
theorem q1143 : (Jvm.Cond.interfaceMethod "GrassField$Cond" "GrassField$Cond" "holds" "([I)Z") ∈ lw_tbl := lw_at lw_m5 81 rfl
theorem q1144 : (Jvm.Cond.declares ({ cls := "GrassField$Cond", name := "holds", desc := "([I)Z" } : Jvm.MethodName)) ∈ lw_tbl := lw_at lw_m5 82 rfl
abbrev uCl : List vw_C := [(RX1, TX1, 11), (RX2, TX2, 10), (RX3, TX3, 7), (RX4, TX4, 22), (RX5, TX5, 5), (RX6, TX6, 28), (RX7, TX7, 4), (RX8, TX8, 3), (RX9, TX9, 2), (RX10, TX10, 2), (RX11, TX11, 2), (RX12, TX12, 1), (RX14, TX14, 1), (RX15, TX15, 1), (RX16, TX16, 1), (RX17, TX17, 1), (RX18, TX18, 1), (RX19, TX19, 1), (RX20, TX20, 6), (RX22, TX22, 5), (RX23, TX23, 3), (RX24, TX24, 3), (RX25, TX25, 3), (RX26, TX26, 4), (RX27, TX27, 3), (RX28, TX28, 2)]
theorem uc1 : uCl[0]? = some (RX1, TX1, 11) := rfl
theorem uc2 : uCl[1]? = some (RX2, TX2, 10) := rfl
theorem uc3 : uCl[2]? = some (RX3, TX3, 7) := rfl
theorem uc4 : uCl[3]? = some (RX4, TX4, 22) := rfl
theorem uc5 : uCl[4]? = some (RX5, TX5, 5) := rfl
theorem uc6 : uCl[5]? = some (RX6, TX6, 28) := rfl
theorem uc7 : uCl[6]? = some (RX7, TX7, 4) := rfl
theorem uc8 : uCl[7]? = some (RX8, TX8, 3) := rfl
theorem uc9 : uCl[8]? = some (RX9, TX9, 2) := rfl
theorem uc10 : uCl[9]? = some (RX10, TX10, 2) := rfl
theorem uc11 : uCl[10]? = some (RX11, TX11, 2) := rfl
theorem uc12 : uCl[11]? = some (RX12, TX12, 1) := rfl
theorem uc14 : uCl[12]? = some (RX14, TX14, 1) := rfl
theorem uc15 : uCl[13]? = some (RX15, TX15, 1) := rfl
theorem uc16 : uCl[14]? = some (RX16, TX16, 1) := rfl
theorem uc17 : uCl[15]? = some (RX17, TX17, 1) := rfl
theorem uc18 : uCl[16]? = some (RX18, TX18, 1) := rfl
theorem uc19 : uCl[17]? = some (RX19, TX19, 1) := rfl
theorem uc20 : uCl[18]? = some (RX20, TX20, 6) := rfl
theorem uc22 : uCl[19]? = some (RX22, TX22, 5) := rfl
theorem uc23 : uCl[20]? = some (RX23, TX23, 3) := rfl
theorem uc24 : uCl[21]? = some (RX24, TX24, 3) := rfl
theorem uc25 : uCl[22]? = some (RX25, TX25, 3) := rfl
theorem uc26 : uCl[23]? = some (RX26, TX26, 4) := rfl
theorem uc27 : uCl[24]? = some (RX27, TX27, 3) := rfl
theorem uc28 : uCl[25]? = some (RX28, TX28, 2) := rfl
def uHolds (C : String) : MethodName := ⟨C, "holds", "([I)Z"⟩
def uFw : List (String × MethodName × MethodName) := [("GrassField$Chain", uHolds "GrassField$Cond", uHolds "GrassField$Chain"), ("GrassField$Tag", uHolds "GrassField$Cond", uHolds "GrassField$Tag"), ("GrassField$Less", uHolds "GrassField$Cond", uHolds "GrassField$Less"), ("GrassField$Not", uHolds "GrassField$Cond", uHolds "GrassField$Not")]
theorem uFw_ok : ∀ q ∈ uFw, q.2.1.cls ≠ "java/lang/invoke/MethodHandle" ∧ q.2.1.cls ≠ "java/lang/invoke/VarHandle" := by decide +kernel
def uNc : List (String × String) := [("GrassField$Ball", "GrassField$Case"), ("GrassField$Bones", "GrassField$Case"), ("GrassField$Late", "GrassField$Case"), ("java/lang/IllegalArgumentException", "java/lang/IndexOutOfBoundsException"), ("java/lang/UnsupportedOperationException", "java/lang/IndexOutOfBoundsException"), ("java/lang/UnsupportedOperationException", "java/lang/IllegalArgumentException"), ("java/util/NoSuchElementException", "java/lang/IndexOutOfBoundsException"), ("java/util/NoSuchElementException", "java/lang/IllegalArgumentException")]
def uStr : List (String × Nat × String × Nat) := [("GrassField$Reader", 17, "foes", 0), ("GrassField$Reader", 19, "friends", 1), ("GrassField$Reader", 21, "fear", 2), ("GrassField$Reader", 23, "minute", 3), ("GrassField$Reader", 25, "height", 4), ("GrassField$Reader", 27, "rounds", 5), ("GrassField$Reader", 29, "far", 6), ("GrassField$Reader", 31, "cases", 7), ("GrassField$Reader", 33, "balls", 8), ("GrassField$Reader", 35, "bones", 9), ("GrassField$Reader", 37, "later", 10), ("GrassField$Reader", 39, "guns", 11), ("GrassField$Reader", 41, "fits", 12), ("GrassField$Reader", 43, "heaps", 13), ("GrassField$Reader", 49, "shoot", 14), ("GrassField$Reader", 51, "flee", 15), ("GrassField$Reader", 53, "join", 16), ("GrassField$Reader", 55, "hold", 17), ("GrassField$Reader", 57, "drop", 18), ("GrassField$Reader", 127, "if", 19), ("GrassField$Reader", 163, "not", 20), ("GrassField$Reader", 171, "armed", 21), ("GrassField$Reader", 178, "alone", 22), ("GrassField$Reader", 180, "held", 23), ("GrassField$Reader", 155, "and", 24), ("GrassField$Reader", 157, "or", 25), ("GrassFieldModel", 208, "not", 20), ("GrassFieldModel", 199, "held", 23), ("GrassFieldModel", 201, "armed", 21), ("GrassFieldModel", 203, "alone", 22), ("GrassFieldModel", 154, "cases", 7), ("GrassFieldModel", 156, "balls", 8), ("GrassFieldModel", 158, "bones", 9), ("GrassFieldModel", 159, "later", 10), ("GrassFieldModel", 161, "guns", 11), ("GrassFieldModel", 163, "fits", 12), ("GrassFieldModel", 165, "heaps", 13), ("GrassFieldModel", 167, "foes", 0), ("GrassFieldModel", 169, "friends", 1), ("GrassFieldModel", 171, "fear", 2), ("GrassFieldModel", 173, "minute", 3), ("GrassFieldModel", 175, "height", 4), ("GrassFieldModel", 177, "rounds", 5), ("GrassFieldModel", 179, "far", 6), ("GrassFieldModel", 222, "and", 24), ("GrassFieldModel", 227, "or", 25), ("GrassFieldModel", 232, "shoot", 14), ("GrassFieldModel", 234, "flee", 15), ("GrassFieldModel", 236, "join", 16), ("GrassFieldModel", 238, "hold", 17), ("GrassFieldModel", 240, "drop", 18), ("GrassFieldModel", 242, "if", 19)]
def uSN : Nat := 26
def uSlen : List Nat := [4, 7, 4, 6, 6, 6, 3, 5, 5, 5, 5, 4, 4, 5, 5, 4, 4, 4, 4, 2, 3, 5, 5, 4, 3, 2]
def uSbyt : List (List Int32) := [[102, 111, 101, 115], [102, 114, 105, 101, 110, 100, 115], [102, 101, 97, 114], [109, 105, 110, 117, 116, 101], [104, 101, 105, 103, 104, 116], [114, 111, 117, 110, 100, 115], [102, 97, 114], [99, 97, 115, 101, 115], [98, 97, 108, 108, 115], [98, 111, 110, 101, 115], [108, 97, 116, 101, 114], [103, 117, 110, 115], [102, 105, 116, 115], [104, 101, 97, 112, 115], [115, 104, 111, 111, 116], [102, 108, 101, 101], [106, 111, 105, 110], [104, 111, 108, 100], [100, 114, 111, 112], [105, 102], [110, 111, 116], [97, 114, 109, 101, 100], [97, 108, 111, 110, 101], [104, 101, 108, 100], [97, 110, 100], [111, 114]]
def uCk : String × String × String := ("jdk/internal/util/Preconditions", "SIOOBE_FORMATTER", "Ljava/util/function/BiFunction;")
