set_option maxRecDepth 100000
abbrev cJ0_init : ByteArray := prog_42_method_1_code
def yJ0_init : MethodName := ⟨RJ0, "<init>", "()V"⟩
def dkwJ0_init_1 : List UInt8 := [182, 0, 27, 87, 177]
abbrev dktJ0_init_1 : List UInt8 := dkwJ0_init_1 ++ []
def dkwJ0_init_0 : List UInt8 := [42, 183, 0, 1, 42, 42, 181, 0, 7, 42, 178, 0, 13, 181, 0, 17, 42, 178, 0, 20, 181, 0, 24, 42]
abbrev dktJ0_init_0 : List UInt8 := dkwJ0_init_0 ++ dktJ0_init_1
theorem dksJ0_init_0 : cJ0_init.data.toList.drop 0 = dktJ0_init_0 := by decide +kernel
theorem dksJ0_init_1 : cJ0_init.data.toList.drop 24 = dktJ0_init_1 := dk_seg dksJ0_init_0 24 rfl rfl
theorem dJ0_init_0 : decode cJ0_init 0 = .ok (.aload_n 0, 1) := dk_42 (dk_at dksJ0_init_0 0 rfl rfl)
theorem dJ0_init_1 : decode cJ0_init 1 = .ok (.invokespecial 1, 3) := dk_183 0 1 (dk_at dksJ0_init_0 1 rfl rfl)
theorem dJ0_init_4 : decode cJ0_init 4 = .ok (.aload_n 0, 1) := dk_42 (dk_at dksJ0_init_0 4 rfl rfl)
theorem dJ0_init_5 : decode cJ0_init 5 = .ok (.aload_n 0, 1) := dk_42 (dk_at dksJ0_init_0 5 rfl rfl)
theorem dJ0_init_6 : decode cJ0_init 6 = .ok (.putfield 7, 3) := dk_181 0 7 (dk_at dksJ0_init_0 6 rfl rfl)
theorem dJ0_init_9 : decode cJ0_init 9 = .ok (.aload_n 0, 1) := dk_42 (dk_at dksJ0_init_0 9 rfl rfl)
theorem dJ0_init_10 : decode cJ0_init 10 = .ok (.getstatic 13, 3) := dk_178 0 13 (dk_at dksJ0_init_0 10 rfl rfl)
theorem dJ0_init_13 : decode cJ0_init 13 = .ok (.putfield 17, 3) := dk_181 0 17 (dk_at dksJ0_init_0 13 rfl rfl)
theorem dJ0_init_16 : decode cJ0_init 16 = .ok (.aload_n 0, 1) := dk_42 (dk_at dksJ0_init_0 16 rfl rfl)
theorem dJ0_init_17 : decode cJ0_init 17 = .ok (.getstatic 20, 3) := dk_178 0 20 (dk_at dksJ0_init_0 17 rfl rfl)
theorem dJ0_init_20 : decode cJ0_init 20 = .ok (.putfield 24, 3) := dk_181 0 24 (dk_at dksJ0_init_0 20 rfl rfl)
theorem dJ0_init_23 : decode cJ0_init 23 = .ok (.aload_n 0, 1) := dk_42 (dk_at dksJ0_init_0 23 rfl rfl)
theorem dJ0_init_24 : decode cJ0_init 24 = .ok (.invokevirtual 27, 3) := dk_182 0 27 (dk_at dksJ0_init_1 0 rfl rfl)
theorem dJ0_init_27 : decode cJ0_init 27 = .ok (.pop, 1) := dk_87 (dk_at dksJ0_init_1 3 rfl rfl)
theorem dJ0_init_28 : decode cJ0_init 28 = .ok (.return_, 1) := dk_177 (dk_at dksJ0_init_1 4 rfl rfl)
abbrev cJ0_init_2 : ByteArray := prog_42_method_5_code
def yJ0_init_2 : MethodName := ⟨RJ0, "<init>", "(Ljava/lang/String;Ljava/lang/Throwable;ZZ)V"⟩
def dkwJ0_init_2_2 : List UInt8 := [44, 181, 0, 7, 29, 154, 0, 8, 42, 1, 181, 0, 24, 177]
abbrev dktJ0_init_2_2 : List UInt8 := dkwJ0_init_2_2 ++ []
def dkwJ0_init_2_1 : List UInt8 := [21, 4, 153, 0, 11, 42, 182, 0, 27, 87, 167, 0, 8, 42, 1, 181, 0, 17, 42, 43, 181, 0, 31, 42]
abbrev dktJ0_init_2_1 : List UInt8 := dkwJ0_init_2_1 ++ dktJ0_init_2_2
def dkwJ0_init_2_0 : List UInt8 := [42, 183, 0, 1, 42, 42, 181, 0, 7, 42, 178, 0, 13, 181, 0, 17, 42, 178, 0, 20, 181, 0, 24]
abbrev dktJ0_init_2_0 : List UInt8 := dkwJ0_init_2_0 ++ dktJ0_init_2_1
theorem dksJ0_init_2_0 : cJ0_init_2.data.toList.drop 0 = dktJ0_init_2_0 := by decide +kernel
theorem dksJ0_init_2_1 : cJ0_init_2.data.toList.drop 23 = dktJ0_init_2_1 := dk_seg dksJ0_init_2_0 23 rfl rfl
theorem dksJ0_init_2_2 : cJ0_init_2.data.toList.drop 47 = dktJ0_init_2_2 := dk_seg dksJ0_init_2_1 24 rfl rfl
theorem dJ0_init_2_0 : decode cJ0_init_2 0 = .ok (.aload_n 0, 1) := dk_42 (dk_at dksJ0_init_2_0 0 rfl rfl)
theorem dJ0_init_2_1 : decode cJ0_init_2 1 = .ok (.invokespecial 1, 3) := dk_183 0 1 (dk_at dksJ0_init_2_0 1 rfl rfl)
theorem dJ0_init_2_4 : decode cJ0_init_2 4 = .ok (.aload_n 0, 1) := dk_42 (dk_at dksJ0_init_2_0 4 rfl rfl)
theorem dJ0_init_2_5 : decode cJ0_init_2 5 = .ok (.aload_n 0, 1) := dk_42 (dk_at dksJ0_init_2_0 5 rfl rfl)
theorem dJ0_init_2_6 : decode cJ0_init_2 6 = .ok (.putfield 7, 3) := dk_181 0 7 (dk_at dksJ0_init_2_0 6 rfl rfl)
theorem dJ0_init_2_9 : decode cJ0_init_2 9 = .ok (.aload_n 0, 1) := dk_42 (dk_at dksJ0_init_2_0 9 rfl rfl)
theorem dJ0_init_2_10 : decode cJ0_init_2 10 = .ok (.getstatic 13, 3) := dk_178 0 13 (dk_at dksJ0_init_2_0 10 rfl rfl)
theorem dJ0_init_2_13 : decode cJ0_init_2 13 = .ok (.putfield 17, 3) := dk_181 0 17 (dk_at dksJ0_init_2_0 13 rfl rfl)
theorem dJ0_init_2_16 : decode cJ0_init_2 16 = .ok (.aload_n 0, 1) := dk_42 (dk_at dksJ0_init_2_0 16 rfl rfl)
theorem dJ0_init_2_17 : decode cJ0_init_2 17 = .ok (.getstatic 20, 3) := dk_178 0 20 (dk_at dksJ0_init_2_0 17 rfl rfl)
theorem dJ0_init_2_20 : decode cJ0_init_2 20 = .ok (.putfield 24, 3) := dk_181 0 24 (dk_at dksJ0_init_2_0 20 rfl rfl)
theorem dJ0_init_2_23 : decode cJ0_init_2 23 = .ok (.iload 4, 2) := dk_21 4 (dk_at dksJ0_init_2_1 0 rfl rfl)
theorem dJ0_init_2_25 : decode cJ0_init_2 25 = .ok (.ifCond .eq 11, 3) := dk_153 0 11 (dk_at dksJ0_init_2_1 2 rfl rfl)
theorem dJ0_init_2_28 : decode cJ0_init_2 28 = .ok (.aload_n 0, 1) := dk_42 (dk_at dksJ0_init_2_1 5 rfl rfl)
theorem dJ0_init_2_29 : decode cJ0_init_2 29 = .ok (.invokevirtual 27, 3) := dk_182 0 27 (dk_at dksJ0_init_2_1 6 rfl rfl)
theorem dJ0_init_2_32 : decode cJ0_init_2 32 = .ok (.pop, 1) := dk_87 (dk_at dksJ0_init_2_1 9 rfl rfl)
theorem dJ0_init_2_33 : decode cJ0_init_2 33 = .ok (.goto 8, 3) := dk_167 0 8 (dk_at dksJ0_init_2_1 10 rfl rfl)
theorem dJ0_init_2_36 : decode cJ0_init_2 36 = .ok (.aload_n 0, 1) := dk_42 (dk_at dksJ0_init_2_1 13 rfl rfl)
theorem dJ0_init_2_37 : decode cJ0_init_2 37 = .ok (.aconst_null, 1) := dk_1 (dk_at dksJ0_init_2_1 14 rfl rfl)
theorem dJ0_init_2_38 : decode cJ0_init_2 38 = .ok (.putfield 17, 3) := dk_181 0 17 (dk_at dksJ0_init_2_1 15 rfl rfl)
theorem dJ0_init_2_41 : decode cJ0_init_2 41 = .ok (.aload_n 0, 1) := dk_42 (dk_at dksJ0_init_2_1 18 rfl rfl)
theorem dJ0_init_2_42 : decode cJ0_init_2 42 = .ok (.aload_n 1, 1) := dk_43 (dk_at dksJ0_init_2_1 19 rfl rfl)
theorem dJ0_init_2_43 : decode cJ0_init_2 43 = .ok (.putfield 31, 3) := dk_181 0 31 (dk_at dksJ0_init_2_1 20 rfl rfl)
theorem dJ0_init_2_46 : decode cJ0_init_2 46 = .ok (.aload_n 0, 1) := dk_42 (dk_at dksJ0_init_2_1 23 rfl rfl)
theorem dJ0_init_2_47 : decode cJ0_init_2 47 = .ok (.aload_n 2, 1) := dk_44 (dk_at dksJ0_init_2_2 0 rfl rfl)
theorem dJ0_init_2_48 : decode cJ0_init_2 48 = .ok (.putfield 7, 3) := dk_181 0 7 (dk_at dksJ0_init_2_2 1 rfl rfl)
theorem dJ0_init_2_51 : decode cJ0_init_2 51 = .ok (.iload_n 3, 1) := dk_29 (dk_at dksJ0_init_2_2 4 rfl rfl)
theorem dJ0_init_2_52 : decode cJ0_init_2 52 = .ok (.ifCond .ne 8, 3) := dk_154 0 8 (dk_at dksJ0_init_2_2 5 rfl rfl)
theorem dJ0_init_2_55 : decode cJ0_init_2 55 = .ok (.aload_n 0, 1) := dk_42 (dk_at dksJ0_init_2_2 8 rfl rfl)
theorem dJ0_init_2_56 : decode cJ0_init_2 56 = .ok (.aconst_null, 1) := dk_1 (dk_at dksJ0_init_2_2 9 rfl rfl)
theorem dJ0_init_2_57 : decode cJ0_init_2 57 = .ok (.putfield 24, 3) := dk_181 0 24 (dk_at dksJ0_init_2_2 10 rfl rfl)
theorem dJ0_init_2_60 : decode cJ0_init_2 60 = .ok (.return_, 1) := dk_177 (dk_at dksJ0_init_2_2 13 rfl rfl)
abbrev cJ0_init_3 : ByteArray := prog_42_method_2_code
def yJ0_init_3 : MethodName := ⟨RJ0, "<init>", "(Ljava/lang/String;)V"⟩
def dkwJ0_init_3_1 : List UInt8 := [182, 0, 27, 87, 42, 43, 181, 0, 31, 177]
abbrev dktJ0_init_3_1 : List UInt8 := dkwJ0_init_3_1 ++ []
def dkwJ0_init_3_0 : List UInt8 := [42, 183, 0, 1, 42, 42, 181, 0, 7, 42, 178, 0, 13, 181, 0, 17, 42, 178, 0, 20, 181, 0, 24, 42]
abbrev dktJ0_init_3_0 : List UInt8 := dkwJ0_init_3_0 ++ dktJ0_init_3_1
theorem dksJ0_init_3_0 : cJ0_init_3.data.toList.drop 0 = dktJ0_init_3_0 := by decide +kernel
theorem dksJ0_init_3_1 : cJ0_init_3.data.toList.drop 24 = dktJ0_init_3_1 := dk_seg dksJ0_init_3_0 24 rfl rfl
theorem dJ0_init_3_0 : decode cJ0_init_3 0 = .ok (.aload_n 0, 1) := dk_42 (dk_at dksJ0_init_3_0 0 rfl rfl)
theorem dJ0_init_3_1 : decode cJ0_init_3 1 = .ok (.invokespecial 1, 3) := dk_183 0 1 (dk_at dksJ0_init_3_0 1 rfl rfl)
theorem dJ0_init_3_4 : decode cJ0_init_3 4 = .ok (.aload_n 0, 1) := dk_42 (dk_at dksJ0_init_3_0 4 rfl rfl)
theorem dJ0_init_3_5 : decode cJ0_init_3 5 = .ok (.aload_n 0, 1) := dk_42 (dk_at dksJ0_init_3_0 5 rfl rfl)
theorem dJ0_init_3_6 : decode cJ0_init_3 6 = .ok (.putfield 7, 3) := dk_181 0 7 (dk_at dksJ0_init_3_0 6 rfl rfl)
theorem dJ0_init_3_9 : decode cJ0_init_3 9 = .ok (.aload_n 0, 1) := dk_42 (dk_at dksJ0_init_3_0 9 rfl rfl)
theorem dJ0_init_3_10 : decode cJ0_init_3 10 = .ok (.getstatic 13, 3) := dk_178 0 13 (dk_at dksJ0_init_3_0 10 rfl rfl)
theorem dJ0_init_3_13 : decode cJ0_init_3 13 = .ok (.putfield 17, 3) := dk_181 0 17 (dk_at dksJ0_init_3_0 13 rfl rfl)
theorem dJ0_init_3_16 : decode cJ0_init_3 16 = .ok (.aload_n 0, 1) := dk_42 (dk_at dksJ0_init_3_0 16 rfl rfl)
theorem dJ0_init_3_17 : decode cJ0_init_3 17 = .ok (.getstatic 20, 3) := dk_178 0 20 (dk_at dksJ0_init_3_0 17 rfl rfl)
theorem dJ0_init_3_20 : decode cJ0_init_3 20 = .ok (.putfield 24, 3) := dk_181 0 24 (dk_at dksJ0_init_3_0 20 rfl rfl)
theorem dJ0_init_3_23 : decode cJ0_init_3 23 = .ok (.aload_n 0, 1) := dk_42 (dk_at dksJ0_init_3_0 23 rfl rfl)
theorem dJ0_init_3_24 : decode cJ0_init_3 24 = .ok (.invokevirtual 27, 3) := dk_182 0 27 (dk_at dksJ0_init_3_1 0 rfl rfl)
theorem dJ0_init_3_27 : decode cJ0_init_3 27 = .ok (.pop, 1) := dk_87 (dk_at dksJ0_init_3_1 3 rfl rfl)
theorem dJ0_init_3_28 : decode cJ0_init_3 28 = .ok (.aload_n 0, 1) := dk_42 (dk_at dksJ0_init_3_1 4 rfl rfl)
theorem dJ0_init_3_29 : decode cJ0_init_3 29 = .ok (.aload_n 1, 1) := dk_43 (dk_at dksJ0_init_3_1 5 rfl rfl)
theorem dJ0_init_3_30 : decode cJ0_init_3 30 = .ok (.putfield 31, 3) := dk_181 0 31 (dk_at dksJ0_init_3_1 6 rfl rfl)
theorem dJ0_init_3_33 : decode cJ0_init_3 33 = .ok (.return_, 1) := dk_177 (dk_at dksJ0_init_3_1 9 rfl rfl)
abbrev cJ1_init : ByteArray := prog_32_method_5_code
def yJ1_init : MethodName := ⟨RJ1, "<init>", "(Ljava/lang/String;Ljava/lang/Throwable;ZZ)V"⟩
def dkwJ1_init_0 : List UInt8 := [42, 43, 44, 29, 21, 4, 183, 0, 16, 177]
abbrev dktJ1_init_0 : List UInt8 := dkwJ1_init_0 ++ []
theorem dksJ1_init_0 : cJ1_init.data.toList.drop 0 = dktJ1_init_0 := by decide +kernel
theorem dJ1_init_0 : decode cJ1_init 0 = .ok (.aload_n 0, 1) := dk_42 (dk_at dksJ1_init_0 0 rfl rfl)
theorem dJ1_init_1 : decode cJ1_init 1 = .ok (.aload_n 1, 1) := dk_43 (dk_at dksJ1_init_0 1 rfl rfl)
theorem dJ1_init_2 : decode cJ1_init 2 = .ok (.aload_n 2, 1) := dk_44 (dk_at dksJ1_init_0 2 rfl rfl)
theorem dJ1_init_3 : decode cJ1_init 3 = .ok (.iload_n 3, 1) := dk_29 (dk_at dksJ1_init_0 3 rfl rfl)
theorem dJ1_init_4 : decode cJ1_init 4 = .ok (.iload 4, 2) := dk_21 4 (dk_at dksJ1_init_0 4 rfl rfl)
theorem dJ1_init_6 : decode cJ1_init 6 = .ok (.invokespecial 16, 3) := dk_183 0 16 (dk_at dksJ1_init_0 6 rfl rfl)
theorem dJ1_init_9 : decode cJ1_init 9 = .ok (.return_, 1) := dk_177 (dk_at dksJ1_init_0 9 rfl rfl)
abbrev cJ1_init_2 : ByteArray := prog_32_method_2_code
def yJ1_init_2 : MethodName := ⟨RJ1, "<init>", "(Ljava/lang/String;)V"⟩
def dkwJ1_init_2_0 : List UInt8 := [42, 43, 183, 0, 7, 177]
abbrev dktJ1_init_2_0 : List UInt8 := dkwJ1_init_2_0 ++ []
theorem dksJ1_init_2_0 : cJ1_init_2.data.toList.drop 0 = dktJ1_init_2_0 := by decide +kernel
theorem dJ1_init_2_0 : decode cJ1_init_2 0 = .ok (.aload_n 0, 1) := dk_42 (dk_at dksJ1_init_2_0 0 rfl rfl)
theorem dJ1_init_2_1 : decode cJ1_init_2 1 = .ok (.aload_n 1, 1) := dk_43 (dk_at dksJ1_init_2_0 1 rfl rfl)
theorem dJ1_init_2_2 : decode cJ1_init_2 2 = .ok (.invokespecial 7, 3) := dk_183 0 7 (dk_at dksJ1_init_2_0 2 rfl rfl)
theorem dJ1_init_2_5 : decode cJ1_init_2 5 = .ok (.return_, 1) := dk_177 (dk_at dksJ1_init_2_0 5 rfl rfl)
abbrev cJ1_init_3 : ByteArray := prog_32_method_1_code
def yJ1_init_3 : MethodName := ⟨RJ1, "<init>", "()V"⟩
theorem dJ1_init_3_0 : decode cJ1_init_3 0 = .ok (.aload_n 0, 1) := by decide +kernel
theorem dJ1_init_3_1 : decode cJ1_init_3 1 = .ok (.invokespecial 1, 3) := by decide +kernel
theorem dJ1_init_3_4 : decode cJ1_init_3 4 = .ok (.return_, 1) := by decide +kernel
abbrev cJ2_init : ByteArray := prog_37_method_5_code
def yJ2_init : MethodName := ⟨RJ2, "<init>", "(Ljava/lang/String;Ljava/lang/Throwable;ZZ)V"⟩
def dkwJ2_init_0 : List UInt8 := [42, 43, 44, 29, 21, 4, 183, 0, 16, 177]
abbrev dktJ2_init_0 : List UInt8 := dkwJ2_init_0 ++ []
theorem dksJ2_init_0 : cJ2_init.data.toList.drop 0 = dktJ2_init_0 := by decide +kernel
theorem dJ2_init_0 : decode cJ2_init 0 = .ok (.aload_n 0, 1) := dk_42 (dk_at dksJ2_init_0 0 rfl rfl)
theorem dJ2_init_1 : decode cJ2_init 1 = .ok (.aload_n 1, 1) := dk_43 (dk_at dksJ2_init_0 1 rfl rfl)
theorem dJ2_init_2 : decode cJ2_init 2 = .ok (.aload_n 2, 1) := dk_44 (dk_at dksJ2_init_0 2 rfl rfl)
theorem dJ2_init_3 : decode cJ2_init 3 = .ok (.iload_n 3, 1) := dk_29 (dk_at dksJ2_init_0 3 rfl rfl)
theorem dJ2_init_4 : decode cJ2_init 4 = .ok (.iload 4, 2) := dk_21 4 (dk_at dksJ2_init_0 4 rfl rfl)
theorem dJ2_init_6 : decode cJ2_init 6 = .ok (.invokespecial 16, 3) := dk_183 0 16 (dk_at dksJ2_init_0 6 rfl rfl)
theorem dJ2_init_9 : decode cJ2_init 9 = .ok (.return_, 1) := dk_177 (dk_at dksJ2_init_0 9 rfl rfl)
abbrev cJ2_init_2 : ByteArray := prog_37_method_2_code
def yJ2_init_2 : MethodName := ⟨RJ2, "<init>", "(Ljava/lang/String;)V"⟩
def dkwJ2_init_2_0 : List UInt8 := [42, 43, 183, 0, 7, 177]
abbrev dktJ2_init_2_0 : List UInt8 := dkwJ2_init_2_0 ++ []
theorem dksJ2_init_2_0 : cJ2_init_2.data.toList.drop 0 = dktJ2_init_2_0 := by decide +kernel
theorem dJ2_init_2_0 : decode cJ2_init_2 0 = .ok (.aload_n 0, 1) := dk_42 (dk_at dksJ2_init_2_0 0 rfl rfl)
theorem dJ2_init_2_1 : decode cJ2_init_2 1 = .ok (.aload_n 1, 1) := dk_43 (dk_at dksJ2_init_2_0 1 rfl rfl)
theorem dJ2_init_2_2 : decode cJ2_init_2 2 = .ok (.invokespecial 7, 3) := dk_183 0 7 (dk_at dksJ2_init_2_0 2 rfl rfl)
theorem dJ2_init_2_5 : decode cJ2_init_2 5 = .ok (.return_, 1) := dk_177 (dk_at dksJ2_init_2_0 5 rfl rfl)
abbrev cJ2_init_3 : ByteArray := prog_37_method_1_code
def yJ2_init_3 : MethodName := ⟨RJ2, "<init>", "()V"⟩
theorem dJ2_init_3_0 : decode cJ2_init_3 0 = .ok (.aload_n 0, 1) := by decide +kernel
theorem dJ2_init_3_1 : decode cJ2_init_3 1 = .ok (.invokespecial 1, 3) := by decide +kernel
theorem dJ2_init_3_4 : decode cJ2_init_3 4 = .ok (.return_, 1) := by decide +kernel
abbrev cJ3_init : ByteArray := prog_34_method_2_code
def yJ3_init : MethodName := ⟨RJ3, "<init>", "(Ljava/lang/String;)V"⟩
def dkwJ3_init_0 : List UInt8 := [42, 43, 183, 0, 7, 177]
abbrev dktJ3_init_0 : List UInt8 := dkwJ3_init_0 ++ []
theorem dksJ3_init_0 : cJ3_init.data.toList.drop 0 = dktJ3_init_0 := by decide +kernel
theorem dJ3_init_0 : decode cJ3_init 0 = .ok (.aload_n 0, 1) := dk_42 (dk_at dksJ3_init_0 0 rfl rfl)
theorem dJ3_init_1 : decode cJ3_init 1 = .ok (.aload_n 1, 1) := dk_43 (dk_at dksJ3_init_0 1 rfl rfl)
theorem dJ3_init_2 : decode cJ3_init 2 = .ok (.invokespecial 7, 3) := dk_183 0 7 (dk_at dksJ3_init_0 2 rfl rfl)
theorem dJ3_init_5 : decode cJ3_init 5 = .ok (.return_, 1) := dk_177 (dk_at dksJ3_init_0 5 rfl rfl)
abbrev cJ3_init_2 : ByteArray := prog_34_method_1_code
def yJ3_init_2 : MethodName := ⟨RJ3, "<init>", "()V"⟩
theorem dJ3_init_2_0 : decode cJ3_init_2 0 = .ok (.aload_n 0, 1) := by decide +kernel
theorem dJ3_init_2_1 : decode cJ3_init_2 1 = .ok (.invokespecial 1, 3) := by decide +kernel
theorem dJ3_init_2_4 : decode cJ3_init_2 4 = .ok (.return_, 1) := by decide +kernel
abbrev cJ4_init : ByteArray := prog_31_method_2_code
def yJ4_init : MethodName := ⟨RJ4, "<init>", "(Ljava/lang/String;)V"⟩
def dkwJ4_init_0 : List UInt8 := [42, 43, 183, 0, 7, 177]
abbrev dktJ4_init_0 : List UInt8 := dkwJ4_init_0 ++ []
theorem dksJ4_init_0 : cJ4_init.data.toList.drop 0 = dktJ4_init_0 := by decide +kernel
theorem dJ4_init_0 : decode cJ4_init 0 = .ok (.aload_n 0, 1) := dk_42 (dk_at dksJ4_init_0 0 rfl rfl)
theorem dJ4_init_1 : decode cJ4_init 1 = .ok (.aload_n 1, 1) := dk_43 (dk_at dksJ4_init_0 1 rfl rfl)
theorem dJ4_init_2 : decode cJ4_init 2 = .ok (.invokespecial 7, 3) := dk_183 0 7 (dk_at dksJ4_init_0 2 rfl rfl)
theorem dJ4_init_5 : decode cJ4_init 5 = .ok (.return_, 1) := dk_177 (dk_at dksJ4_init_0 5 rfl rfl)
abbrev cJ5_length : ByteArray := prog_38_method_54_code
def yJ5_length : MethodName := ⟨RJ5, "length", "()I"⟩
def dkwJ5_length_0 : List UInt8 := [42, 180, 0, 9, 190, 42, 182, 1, 79, 122, 172]
abbrev dktJ5_length_0 : List UInt8 := dkwJ5_length_0 ++ []
theorem dksJ5_length_0 : cJ5_length.data.toList.drop 0 = dktJ5_length_0 := by decide +kernel
theorem dJ5_length_0 : decode cJ5_length 0 = .ok (.aload_n 0, 1) := dk_42 (dk_at dksJ5_length_0 0 rfl rfl)
theorem dJ5_length_1 : decode cJ5_length 1 = .ok (.getfield 9, 3) := dk_180 0 9 (dk_at dksJ5_length_0 1 rfl rfl)
theorem dJ5_length_4 : decode cJ5_length 4 = .ok (.arraylength, 1) := dk_190 (dk_at dksJ5_length_0 4 rfl rfl)
theorem dJ5_length_5 : decode cJ5_length 5 = .ok (.aload_n 0, 1) := dk_42 (dk_at dksJ5_length_0 5 rfl rfl)
theorem dJ5_length_6 : decode cJ5_length 6 = .ok (.invokevirtual 335, 3) := dk_182 1 79 (dk_at dksJ5_length_0 6 rfl rfl)
theorem dJ5_length_9 : decode cJ5_length 9 = .ok (.ishr, 1) := dk_122 (dk_at dksJ5_length_0 9 rfl rfl)
theorem dJ5_length_10 : decode cJ5_length 10 = .ok (.ireturn, 1) := dk_172 (dk_at dksJ5_length_0 10 rfl rfl)
abbrev cJ5_coder : ByteArray := prog_38_method_152_code
def yJ5_coder : MethodName := ⟨RJ5, "coder", "()B"⟩
def dkwJ5_coder_0 : List UInt8 := [178, 0, 38, 153, 0, 10, 42, 180, 0, 15, 167, 0, 4, 4, 172]
abbrev dktJ5_coder_0 : List UInt8 := dkwJ5_coder_0 ++ []
theorem dksJ5_coder_0 : cJ5_coder.data.toList.drop 0 = dktJ5_coder_0 := by decide +kernel
theorem dJ5_coder_0 : decode cJ5_coder 0 = .ok (.getstatic 38, 3) := dk_178 0 38 (dk_at dksJ5_coder_0 0 rfl rfl)
theorem dJ5_coder_3 : decode cJ5_coder 3 = .ok (.ifCond .eq 10, 3) := dk_153 0 10 (dk_at dksJ5_coder_0 3 rfl rfl)
theorem dJ5_coder_6 : decode cJ5_coder 6 = .ok (.aload_n 0, 1) := dk_42 (dk_at dksJ5_coder_0 6 rfl rfl)
theorem dJ5_coder_7 : decode cJ5_coder 7 = .ok (.getfield 15, 3) := dk_180 0 15 (dk_at dksJ5_coder_0 7 rfl rfl)
theorem dJ5_coder_10 : decode cJ5_coder 10 = .ok (.goto 4, 3) := dk_167 0 4 (dk_at dksJ5_coder_0 10 rfl rfl)
theorem dJ5_coder_13 : decode cJ5_coder 13 = .ok (.iconst 1, 1) := dk_4 (dk_at dksJ5_coder_0 13 rfl rfl)
theorem dJ5_coder_14 : decode cJ5_coder 14 = .ok (.ireturn, 1) := dk_172 (dk_at dksJ5_coder_0 14 rfl rfl)
abbrev cJ5_charAt : ByteArray := prog_38_method_56_code
def yJ5_charAt : MethodName := ⟨RJ5, "charAt", "(I)C"⟩
def dkwJ5_charAt_1 : List UInt8 := [172]
abbrev dktJ5_charAt_1 : List UInt8 := dkwJ5_charAt_1 ++ []
def dkwJ5_charAt_0 : List UInt8 := [42, 182, 1, 236, 153, 0, 12, 42, 180, 0, 9, 27, 184, 1, 239, 172, 42, 180, 0, 9, 27, 184, 1, 242]
abbrev dktJ5_charAt_0 : List UInt8 := dkwJ5_charAt_0 ++ dktJ5_charAt_1
theorem dksJ5_charAt_0 : cJ5_charAt.data.toList.drop 0 = dktJ5_charAt_0 := by decide +kernel
theorem dksJ5_charAt_1 : cJ5_charAt.data.toList.drop 24 = dktJ5_charAt_1 := dk_seg dksJ5_charAt_0 24 rfl rfl
theorem dJ5_charAt_0 : decode cJ5_charAt 0 = .ok (.aload_n 0, 1) := dk_42 (dk_at dksJ5_charAt_0 0 rfl rfl)
theorem dJ5_charAt_1 : decode cJ5_charAt 1 = .ok (.invokevirtual 492, 3) := dk_182 1 236 (dk_at dksJ5_charAt_0 1 rfl rfl)
theorem dJ5_charAt_4 : decode cJ5_charAt 4 = .ok (.ifCond .eq 12, 3) := dk_153 0 12 (dk_at dksJ5_charAt_0 4 rfl rfl)
theorem dJ5_charAt_7 : decode cJ5_charAt 7 = .ok (.aload_n 0, 1) := dk_42 (dk_at dksJ5_charAt_0 7 rfl rfl)
theorem dJ5_charAt_8 : decode cJ5_charAt 8 = .ok (.getfield 9, 3) := dk_180 0 9 (dk_at dksJ5_charAt_0 8 rfl rfl)
theorem dJ5_charAt_11 : decode cJ5_charAt 11 = .ok (.iload_n 1, 1) := dk_27 (dk_at dksJ5_charAt_0 11 rfl rfl)
theorem dJ5_charAt_12 : decode cJ5_charAt 12 = .ok (.invokestatic 495, 3) := dk_184 1 239 (dk_at dksJ5_charAt_0 12 rfl rfl)
theorem dJ5_charAt_15 : decode cJ5_charAt 15 = .ok (.ireturn, 1) := dk_172 (dk_at dksJ5_charAt_0 15 rfl rfl)
theorem dJ5_charAt_16 : decode cJ5_charAt 16 = .ok (.aload_n 0, 1) := dk_42 (dk_at dksJ5_charAt_0 16 rfl rfl)
theorem dJ5_charAt_17 : decode cJ5_charAt 17 = .ok (.getfield 9, 3) := dk_180 0 9 (dk_at dksJ5_charAt_0 17 rfl rfl)
theorem dJ5_charAt_20 : decode cJ5_charAt 20 = .ok (.iload_n 1, 1) := dk_27 (dk_at dksJ5_charAt_0 20 rfl rfl)
theorem dJ5_charAt_21 : decode cJ5_charAt 21 = .ok (.invokestatic 498, 3) := dk_184 1 242 (dk_at dksJ5_charAt_0 21 rfl rfl)
theorem dJ5_charAt_24 : decode cJ5_charAt 24 = .ok (.ireturn, 1) := dk_172 (dk_at dksJ5_charAt_1 0 rfl rfl)
abbrev cJ5_isLatin1 : ByteArray := prog_38_method_154_code
def yJ5_isLatin1 : MethodName := ⟨RJ5, "isLatin1", "()Z"⟩
def dkwJ5_isLatin1_0 : List UInt8 := [178, 0, 38, 153, 0, 14, 42, 180, 0, 15, 154, 0, 7, 4, 167, 0, 4, 3, 172]
abbrev dktJ5_isLatin1_0 : List UInt8 := dkwJ5_isLatin1_0 ++ []
theorem dksJ5_isLatin1_0 : cJ5_isLatin1.data.toList.drop 0 = dktJ5_isLatin1_0 := by decide +kernel
theorem dJ5_isLatin1_0 : decode cJ5_isLatin1 0 = .ok (.getstatic 38, 3) := dk_178 0 38 (dk_at dksJ5_isLatin1_0 0 rfl rfl)
theorem dJ5_isLatin1_3 : decode cJ5_isLatin1 3 = .ok (.ifCond .eq 14, 3) := dk_153 0 14 (dk_at dksJ5_isLatin1_0 3 rfl rfl)
theorem dJ5_isLatin1_6 : decode cJ5_isLatin1 6 = .ok (.aload_n 0, 1) := dk_42 (dk_at dksJ5_isLatin1_0 6 rfl rfl)
theorem dJ5_isLatin1_7 : decode cJ5_isLatin1 7 = .ok (.getfield 15, 3) := dk_180 0 15 (dk_at dksJ5_isLatin1_0 7 rfl rfl)
theorem dJ5_isLatin1_10 : decode cJ5_isLatin1 10 = .ok (.ifCond .ne 7, 3) := dk_154 0 7 (dk_at dksJ5_isLatin1_0 10 rfl rfl)
theorem dJ5_isLatin1_13 : decode cJ5_isLatin1 13 = .ok (.iconst 1, 1) := dk_4 (dk_at dksJ5_isLatin1_0 13 rfl rfl)
theorem dJ5_isLatin1_14 : decode cJ5_isLatin1 14 = .ok (.goto 4, 3) := dk_167 0 4 (dk_at dksJ5_isLatin1_0 14 rfl rfl)
theorem dJ5_isLatin1_17 : decode cJ5_isLatin1 17 = .ok (.iconst 0, 1) := dk_3 (dk_at dksJ5_isLatin1_0 17 rfl rfl)
theorem dJ5_isLatin1_18 : decode cJ5_isLatin1 18 = .ok (.ireturn, 1) := dk_172 (dk_at dksJ5_isLatin1_0 18 rfl rfl)
abbrev cJ5_checkIndex : ByteArray := prog_38_method_155_code
def yJ5_checkIndex : MethodName := ⟨RJ5, "checkIndex", "(II)V"⟩
def dkwJ5_checkIndex_0 : List UInt8 := [26, 27, 178, 4, 29, 184, 4, 35, 87, 177]
abbrev dktJ5_checkIndex_0 : List UInt8 := dkwJ5_checkIndex_0 ++ []
theorem dksJ5_checkIndex_0 : cJ5_checkIndex.data.toList.drop 0 = dktJ5_checkIndex_0 := by decide +kernel
theorem dJ5_checkIndex_0 : decode cJ5_checkIndex 0 = .ok (.iload_n 0, 1) := dk_26 (dk_at dksJ5_checkIndex_0 0 rfl rfl)
theorem dJ5_checkIndex_1 : decode cJ5_checkIndex 1 = .ok (.iload_n 1, 1) := dk_27 (dk_at dksJ5_checkIndex_0 1 rfl rfl)
theorem dJ5_checkIndex_2 : decode cJ5_checkIndex 2 = .ok (.getstatic 1053, 3) := dk_178 4 29 (dk_at dksJ5_checkIndex_0 2 rfl rfl)
theorem dJ5_checkIndex_5 : decode cJ5_checkIndex 5 = .ok (.invokestatic 1059, 3) := dk_184 4 35 (dk_at dksJ5_checkIndex_0 5 rfl rfl)
theorem dJ5_checkIndex_8 : decode cJ5_checkIndex 8 = .ok (.pop, 1) := dk_87 (dk_at dksJ5_checkIndex_0 8 rfl rfl)
theorem dJ5_checkIndex_9 : decode cJ5_checkIndex 9 = .ok (.return_, 1) := dk_177 (dk_at dksJ5_checkIndex_0 9 rfl rfl)
abbrev cJ6_init : ByteArray := prog_33_method_1_code
def yJ6_init : MethodName := ⟨RJ6, "<init>", "()V"⟩
theorem dJ6_init_0 : decode cJ6_init 0 = .ok (.aload_n 0, 1) := by decide +kernel
theorem dJ6_init_1 : decode cJ6_init 1 = .ok (.invokespecial 1, 3) := by decide +kernel
theorem dJ6_init_4 : decode cJ6_init 4 = .ok (.return_, 1) := by decide +kernel
abbrev cJ7_abs : ByteArray := prog_36_method_59_code
def yJ7_abs : MethodName := ⟨RJ7, "abs", "(I)I"⟩
def dkwJ7_abs_0 : List UInt8 := [26, 156, 0, 8, 26, 116, 167, 0, 4, 26, 172]
abbrev dktJ7_abs_0 : List UInt8 := dkwJ7_abs_0 ++ []
theorem dksJ7_abs_0 : cJ7_abs.data.toList.drop 0 = dktJ7_abs_0 := by decide +kernel
theorem dJ7_abs_0 : decode cJ7_abs 0 = .ok (.iload_n 0, 1) := dk_26 (dk_at dksJ7_abs_0 0 rfl rfl)
theorem dJ7_abs_1 : decode cJ7_abs 1 = .ok (.ifCond .ge 8, 3) := dk_156 0 8 (dk_at dksJ7_abs_0 1 rfl rfl)
theorem dJ7_abs_4 : decode cJ7_abs 4 = .ok (.iload_n 0, 1) := dk_26 (dk_at dksJ7_abs_0 4 rfl rfl)
theorem dJ7_abs_5 : decode cJ7_abs 5 = .ok (.ineg, 1) := dk_116 (dk_at dksJ7_abs_0 5 rfl rfl)
theorem dJ7_abs_6 : decode cJ7_abs 6 = .ok (.goto 4, 3) := dk_167 0 4 (dk_at dksJ7_abs_0 6 rfl rfl)
theorem dJ7_abs_9 : decode cJ7_abs 9 = .ok (.iload_n 0, 1) := dk_26 (dk_at dksJ7_abs_0 9 rfl rfl)
theorem dJ7_abs_10 : decode cJ7_abs 10 = .ok (.ireturn, 1) := dk_172 (dk_at dksJ7_abs_0 10 rfl rfl)
abbrev cJ7_max : ByteArray := prog_36_method_65_code
def yJ7_max : MethodName := ⟨RJ7, "max", "(II)I"⟩
def dkwJ7_max_0 : List UInt8 := [26, 27, 161, 0, 7, 26, 167, 0, 4, 27, 172]
abbrev dktJ7_max_0 : List UInt8 := dkwJ7_max_0 ++ []
theorem dksJ7_max_0 : cJ7_max.data.toList.drop 0 = dktJ7_max_0 := by decide +kernel
theorem dJ7_max_0 : decode cJ7_max 0 = .ok (.iload_n 0, 1) := dk_26 (dk_at dksJ7_max_0 0 rfl rfl)
theorem dJ7_max_1 : decode cJ7_max 1 = .ok (.iload_n 1, 1) := dk_27 (dk_at dksJ7_max_0 1 rfl rfl)
theorem dJ7_max_2 : decode cJ7_max 2 = .ok (.if_icmp .lt 7, 3) := dk_161 0 7 (dk_at dksJ7_max_0 2 rfl rfl)
theorem dJ7_max_5 : decode cJ7_max 5 = .ok (.iload_n 0, 1) := dk_26 (dk_at dksJ7_max_0 5 rfl rfl)
theorem dJ7_max_6 : decode cJ7_max 6 = .ok (.goto 4, 3) := dk_167 0 4 (dk_at dksJ7_max_0 6 rfl rfl)
theorem dJ7_max_9 : decode cJ7_max 9 = .ok (.iload_n 1, 1) := dk_27 (dk_at dksJ7_max_0 9 rfl rfl)
theorem dJ7_max_10 : decode cJ7_max 10 = .ok (.ireturn, 1) := dk_172 (dk_at dksJ7_max_0 10 rfl rfl)
abbrev cJ7_floorDiv : ByteArray := prog_36_method_47_code
def yJ7_floorDiv : MethodName := ⟨RJ7, "floorDiv", "(II)I"⟩
def dkwJ7_floorDiv_0 : List UInt8 := [26, 27, 108, 61, 26, 27, 130, 156, 0, 14, 28, 27, 104, 26, 159, 0, 7, 28, 4, 100, 172, 28, 172]
abbrev dktJ7_floorDiv_0 : List UInt8 := dkwJ7_floorDiv_0 ++ []
theorem dksJ7_floorDiv_0 : cJ7_floorDiv.data.toList.drop 0 = dktJ7_floorDiv_0 := by decide +kernel
theorem dJ7_floorDiv_0 : decode cJ7_floorDiv 0 = .ok (.iload_n 0, 1) := dk_26 (dk_at dksJ7_floorDiv_0 0 rfl rfl)
theorem dJ7_floorDiv_1 : decode cJ7_floorDiv 1 = .ok (.iload_n 1, 1) := dk_27 (dk_at dksJ7_floorDiv_0 1 rfl rfl)
theorem dJ7_floorDiv_2 : decode cJ7_floorDiv 2 = .ok (.idiv, 1) := dk_108 (dk_at dksJ7_floorDiv_0 2 rfl rfl)
theorem dJ7_floorDiv_3 : decode cJ7_floorDiv 3 = .ok (.istore_n 2, 1) := dk_61 (dk_at dksJ7_floorDiv_0 3 rfl rfl)
theorem dJ7_floorDiv_4 : decode cJ7_floorDiv 4 = .ok (.iload_n 0, 1) := dk_26 (dk_at dksJ7_floorDiv_0 4 rfl rfl)
theorem dJ7_floorDiv_5 : decode cJ7_floorDiv 5 = .ok (.iload_n 1, 1) := dk_27 (dk_at dksJ7_floorDiv_0 5 rfl rfl)
theorem dJ7_floorDiv_6 : decode cJ7_floorDiv 6 = .ok (.ixor, 1) := dk_130 (dk_at dksJ7_floorDiv_0 6 rfl rfl)
theorem dJ7_floorDiv_7 : decode cJ7_floorDiv 7 = .ok (.ifCond .ge 14, 3) := dk_156 0 14 (dk_at dksJ7_floorDiv_0 7 rfl rfl)
theorem dJ7_floorDiv_10 : decode cJ7_floorDiv 10 = .ok (.iload_n 2, 1) := dk_28 (dk_at dksJ7_floorDiv_0 10 rfl rfl)
theorem dJ7_floorDiv_11 : decode cJ7_floorDiv 11 = .ok (.iload_n 1, 1) := dk_27 (dk_at dksJ7_floorDiv_0 11 rfl rfl)
theorem dJ7_floorDiv_12 : decode cJ7_floorDiv 12 = .ok (.imul, 1) := dk_104 (dk_at dksJ7_floorDiv_0 12 rfl rfl)
theorem dJ7_floorDiv_13 : decode cJ7_floorDiv 13 = .ok (.iload_n 0, 1) := dk_26 (dk_at dksJ7_floorDiv_0 13 rfl rfl)
theorem dJ7_floorDiv_14 : decode cJ7_floorDiv 14 = .ok (.if_icmp .eq 7, 3) := dk_159 0 7 (dk_at dksJ7_floorDiv_0 14 rfl rfl)
theorem dJ7_floorDiv_17 : decode cJ7_floorDiv 17 = .ok (.iload_n 2, 1) := dk_28 (dk_at dksJ7_floorDiv_0 17 rfl rfl)
theorem dJ7_floorDiv_18 : decode cJ7_floorDiv 18 = .ok (.iconst 1, 1) := dk_4 (dk_at dksJ7_floorDiv_0 18 rfl rfl)
theorem dJ7_floorDiv_19 : decode cJ7_floorDiv 19 = .ok (.isub, 1) := dk_100 (dk_at dksJ7_floorDiv_0 19 rfl rfl)
theorem dJ7_floorDiv_20 : decode cJ7_floorDiv 20 = .ok (.ireturn, 1) := dk_172 (dk_at dksJ7_floorDiv_0 20 rfl rfl)
theorem dJ7_floorDiv_21 : decode cJ7_floorDiv 21 = .ok (.iload_n 2, 1) := dk_28 (dk_at dksJ7_floorDiv_0 21 rfl rfl)
theorem dJ7_floorDiv_22 : decode cJ7_floorDiv 22 = .ok (.ireturn, 1) := dk_172 (dk_at dksJ7_floorDiv_0 22 rfl rfl)
abbrev cJ7_min : ByteArray := prog_36_method_69_code
def yJ7_min : MethodName := ⟨RJ7, "min", "(II)I"⟩
def dkwJ7_min_0 : List UInt8 := [26, 27, 163, 0, 7, 26, 167, 0, 4, 27, 172]
abbrev dktJ7_min_0 : List UInt8 := dkwJ7_min_0 ++ []
theorem dksJ7_min_0 : cJ7_min.data.toList.drop 0 = dktJ7_min_0 := by decide +kernel
theorem dJ7_min_0 : decode cJ7_min 0 = .ok (.iload_n 0, 1) := dk_26 (dk_at dksJ7_min_0 0 rfl rfl)
theorem dJ7_min_1 : decode cJ7_min 1 = .ok (.iload_n 1, 1) := dk_27 (dk_at dksJ7_min_0 1 rfl rfl)
theorem dJ7_min_2 : decode cJ7_min 2 = .ok (.if_icmp .gt 7, 3) := dk_163 0 7 (dk_at dksJ7_min_0 2 rfl rfl)
theorem dJ7_min_5 : decode cJ7_min 5 = .ok (.iload_n 0, 1) := dk_26 (dk_at dksJ7_min_0 5 rfl rfl)
theorem dJ7_min_6 : decode cJ7_min 6 = .ok (.goto 4, 3) := dk_167 0 4 (dk_at dksJ7_min_0 6 rfl rfl)
theorem dJ7_min_9 : decode cJ7_min 9 = .ok (.iload_n 1, 1) := dk_27 (dk_at dksJ7_min_0 9 rfl rfl)
theorem dJ7_min_10 : decode cJ7_min 10 = .ok (.ireturn, 1) := dk_172 (dk_at dksJ7_min_0 10 rfl rfl)
abbrev cJ8_init : ByteArray := prog_43_method_1_code
def yJ8_init : MethodName := ⟨RJ8, "<init>", "()V"⟩
theorem dJ8_init_0 : decode cJ8_init 0 = .ok (.aload_n 0, 1) := by decide +kernel
theorem dJ8_init_1 : decode cJ8_init 1 = .ok (.invokespecial 1, 3) := by decide +kernel
theorem dJ8_init_4 : decode cJ8_init 4 = .ok (.return_, 1) := by decide +kernel
abbrev cJ9_charAt : ByteArray := prog_39_method_2_code
def yJ9_charAt : MethodName := ⟨RJ9, "charAt", "([BI)C"⟩
def dkwJ9_charAt_0 : List UInt8 := [27, 42, 190, 184, 0, 9, 42, 27, 51, 17, 0, 255, 126, 146, 172]
abbrev dktJ9_charAt_0 : List UInt8 := dkwJ9_charAt_0 ++ []
theorem dksJ9_charAt_0 : cJ9_charAt.data.toList.drop 0 = dktJ9_charAt_0 := by decide +kernel
theorem dJ9_charAt_0 : decode cJ9_charAt 0 = .ok (.iload_n 1, 1) := dk_27 (dk_at dksJ9_charAt_0 0 rfl rfl)
theorem dJ9_charAt_1 : decode cJ9_charAt 1 = .ok (.aload_n 0, 1) := dk_42 (dk_at dksJ9_charAt_0 1 rfl rfl)
theorem dJ9_charAt_2 : decode cJ9_charAt 2 = .ok (.arraylength, 1) := dk_190 (dk_at dksJ9_charAt_0 2 rfl rfl)
theorem dJ9_charAt_3 : decode cJ9_charAt 3 = .ok (.invokestatic 9, 3) := dk_184 0 9 (dk_at dksJ9_charAt_0 3 rfl rfl)
theorem dJ9_charAt_6 : decode cJ9_charAt 6 = .ok (.aload_n 0, 1) := dk_42 (dk_at dksJ9_charAt_0 6 rfl rfl)
theorem dJ9_charAt_7 : decode cJ9_charAt 7 = .ok (.iload_n 1, 1) := dk_27 (dk_at dksJ9_charAt_0 7 rfl rfl)
theorem dJ9_charAt_8 : decode cJ9_charAt 8 = .ok (.baload, 1) := dk_51 (dk_at dksJ9_charAt_0 8 rfl rfl)
theorem dJ9_charAt_9 : decode cJ9_charAt 9 = .ok (.sipush 255, 3) := dk_17 0 255 (dk_at dksJ9_charAt_0 9 rfl rfl)
theorem dJ9_charAt_12 : decode cJ9_charAt 12 = .ok (.iand, 1) := dk_126 (dk_at dksJ9_charAt_0 12 rfl rfl)
theorem dJ9_charAt_13 : decode cJ9_charAt 13 = .ok (.i2c, 1) := dk_146 (dk_at dksJ9_charAt_0 13 rfl rfl)
theorem dJ9_charAt_14 : decode cJ9_charAt 14 = .ok (.ireturn, 1) := dk_172 (dk_at dksJ9_charAt_0 14 rfl rfl)
abbrev cJ10_checkIndex : ByteArray := prog_45_method_11_code
def yJ10_checkIndex : MethodName := ⟨RJ10, "checkIndex", "(IILjava/util/function/BiFunction;)I"⟩
def dkwJ10_checkIndex_0 : List UInt8 := [26, 155, 0, 8, 26, 27, 161, 0, 10, 44, 26, 27, 184, 0, 95, 191, 26, 172]
abbrev dktJ10_checkIndex_0 : List UInt8 := dkwJ10_checkIndex_0 ++ []
theorem dksJ10_checkIndex_0 : cJ10_checkIndex.data.toList.drop 0 = dktJ10_checkIndex_0 := by decide +kernel
theorem dJ10_checkIndex_0 : decode cJ10_checkIndex 0 = .ok (.iload_n 0, 1) := dk_26 (dk_at dksJ10_checkIndex_0 0 rfl rfl)
theorem dJ10_checkIndex_1 : decode cJ10_checkIndex 1 = .ok (.ifCond .lt 8, 3) := dk_155 0 8 (dk_at dksJ10_checkIndex_0 1 rfl rfl)
theorem dJ10_checkIndex_4 : decode cJ10_checkIndex 4 = .ok (.iload_n 0, 1) := dk_26 (dk_at dksJ10_checkIndex_0 4 rfl rfl)
theorem dJ10_checkIndex_5 : decode cJ10_checkIndex 5 = .ok (.iload_n 1, 1) := dk_27 (dk_at dksJ10_checkIndex_0 5 rfl rfl)
theorem dJ10_checkIndex_6 : decode cJ10_checkIndex 6 = .ok (.if_icmp .lt 10, 3) := dk_161 0 10 (dk_at dksJ10_checkIndex_0 6 rfl rfl)
theorem dJ10_checkIndex_9 : decode cJ10_checkIndex 9 = .ok (.aload_n 2, 1) := dk_44 (dk_at dksJ10_checkIndex_0 9 rfl rfl)
theorem dJ10_checkIndex_10 : decode cJ10_checkIndex 10 = .ok (.iload_n 0, 1) := dk_26 (dk_at dksJ10_checkIndex_0 10 rfl rfl)
theorem dJ10_checkIndex_11 : decode cJ10_checkIndex 11 = .ok (.iload_n 1, 1) := dk_27 (dk_at dksJ10_checkIndex_0 11 rfl rfl)
theorem dJ10_checkIndex_12 : decode cJ10_checkIndex 12 = .ok (.invokestatic 95, 3) := dk_184 0 95 (dk_at dksJ10_checkIndex_0 12 rfl rfl)
theorem dJ10_checkIndex_15 : decode cJ10_checkIndex 15 = .ok (.athrow, 1) := dk_191 (dk_at dksJ10_checkIndex_0 15 rfl rfl)
theorem dJ10_checkIndex_16 : decode cJ10_checkIndex 16 = .ok (.iload_n 0, 1) := dk_26 (dk_at dksJ10_checkIndex_0 16 rfl rfl)
theorem dJ10_checkIndex_17 : decode cJ10_checkIndex 17 = .ok (.ireturn, 1) := dk_172 (dk_at dksJ10_checkIndex_0 17 rfl rfl)
abbrev cJ11_charAt : ByteArray := prog_40_method_83_code
def yJ11_charAt : MethodName := ⟨RJ11, "charAt", "([BI)C"⟩
def dkwJ11_charAt_0 : List UInt8 := [27, 42, 184, 0, 67, 42, 27, 184, 0, 71, 172]
abbrev dktJ11_charAt_0 : List UInt8 := dkwJ11_charAt_0 ++ []
theorem dksJ11_charAt_0 : cJ11_charAt.data.toList.drop 0 = dktJ11_charAt_0 := by decide +kernel
theorem dJ11_charAt_0 : decode cJ11_charAt 0 = .ok (.iload_n 1, 1) := dk_27 (dk_at dksJ11_charAt_0 0 rfl rfl)
theorem dJ11_charAt_1 : decode cJ11_charAt 1 = .ok (.aload_n 0, 1) := dk_42 (dk_at dksJ11_charAt_0 1 rfl rfl)
theorem dJ11_charAt_2 : decode cJ11_charAt 2 = .ok (.invokestatic 67, 3) := dk_184 0 67 (dk_at dksJ11_charAt_0 2 rfl rfl)
theorem dJ11_charAt_5 : decode cJ11_charAt 5 = .ok (.aload_n 0, 1) := dk_42 (dk_at dksJ11_charAt_0 5 rfl rfl)
theorem dJ11_charAt_6 : decode cJ11_charAt 6 = .ok (.iload_n 1, 1) := dk_27 (dk_at dksJ11_charAt_0 6 rfl rfl)
theorem dJ11_charAt_7 : decode cJ11_charAt 7 = .ok (.invokestatic 71, 3) := dk_184 0 71 (dk_at dksJ11_charAt_0 7 rfl rfl)
theorem dJ11_charAt_10 : decode cJ11_charAt 10 = .ok (.ireturn, 1) := dk_172 (dk_at dksJ11_charAt_0 10 rfl rfl)
abbrev cJ11_checkIndex : ByteArray := prog_40_method_91_code
def yJ11_checkIndex : MethodName := ⟨RJ11, "checkIndex", "(I[B)V"⟩
def dkwJ11_checkIndex_0 : List UInt8 := [26, 43, 184, 0, 48, 184, 1, 158, 177]
abbrev dktJ11_checkIndex_0 : List UInt8 := dkwJ11_checkIndex_0 ++ []
theorem dksJ11_checkIndex_0 : cJ11_checkIndex.data.toList.drop 0 = dktJ11_checkIndex_0 := by decide +kernel
theorem dJ11_checkIndex_0 : decode cJ11_checkIndex 0 = .ok (.iload_n 0, 1) := dk_26 (dk_at dksJ11_checkIndex_0 0 rfl rfl)
theorem dJ11_checkIndex_1 : decode cJ11_checkIndex 1 = .ok (.aload_n 1, 1) := dk_43 (dk_at dksJ11_checkIndex_0 1 rfl rfl)
theorem dJ11_checkIndex_2 : decode cJ11_checkIndex 2 = .ok (.invokestatic 48, 3) := dk_184 0 48 (dk_at dksJ11_checkIndex_0 2 rfl rfl)
theorem dJ11_checkIndex_5 : decode cJ11_checkIndex 5 = .ok (.invokestatic 414, 3) := dk_184 1 158 (dk_at dksJ11_checkIndex_0 5 rfl rfl)
theorem dJ11_checkIndex_8 : decode cJ11_checkIndex 8 = .ok (.return_, 1) := dk_177 (dk_at dksJ11_checkIndex_0 8 rfl rfl)
abbrev cJ11_length : ByteArray := prog_40_method_6_code
def yJ11_length : MethodName := ⟨RJ11, "length", "([B)I"⟩
def dkwJ11_length_0 : List UInt8 := [42, 190, 4, 122, 172]
abbrev dktJ11_length_0 : List UInt8 := dkwJ11_length_0 ++ []
theorem dksJ11_length_0 : cJ11_length.data.toList.drop 0 = dktJ11_length_0 := by decide +kernel
theorem dJ11_length_0 : decode cJ11_length 0 = .ok (.aload_n 0, 1) := dk_42 (dk_at dksJ11_length_0 0 rfl rfl)
theorem dJ11_length_1 : decode cJ11_length 1 = .ok (.arraylength, 1) := dk_190 (dk_at dksJ11_length_0 1 rfl rfl)
theorem dJ11_length_2 : decode cJ11_length 2 = .ok (.iconst 1, 1) := dk_4 (dk_at dksJ11_length_0 2 rfl rfl)
theorem dJ11_length_3 : decode cJ11_length 3 = .ok (.ishr, 1) := dk_122 (dk_at dksJ11_length_0 3 rfl rfl)
theorem dJ11_length_4 : decode cJ11_length 4 = .ok (.ireturn, 1) := dk_172 (dk_at dksJ11_length_0 4 rfl rfl)
abbrev cJ11_getChar : ByteArray := prog_40_method_5_code
def yJ11_getChar : MethodName := ⟨RJ11, "getChar", "([BI)C"⟩
def dkwJ11_getChar_2 : List UInt8 := [51, 17, 0, 255, 126, 178, 0, 63, 120, 128, 146, 172]
abbrev dktJ11_getChar_2 : List UInt8 := dkwJ11_getChar_2 ++ []
def dkwJ11_getChar_1 : List UInt8 := [183, 0, 56, 191, 27, 4, 120, 60, 42, 27, 132, 1, 1, 51, 17, 0, 255, 126, 178, 0, 59, 120, 42, 27]
abbrev dktJ11_getChar_1 : List UInt8 := dkwJ11_getChar_1 ++ dktJ11_getChar_2
def dkwJ11_getChar_0 : List UInt8 := [178, 0, 44, 154, 0, 25, 27, 155, 0, 11, 27, 42, 184, 0, 48, 161, 0, 13, 187, 0, 52, 89, 18, 54]
abbrev dktJ11_getChar_0 : List UInt8 := dkwJ11_getChar_0 ++ dktJ11_getChar_1
theorem dksJ11_getChar_0 : cJ11_getChar.data.toList.drop 0 = dktJ11_getChar_0 := by decide +kernel
theorem dksJ11_getChar_1 : cJ11_getChar.data.toList.drop 24 = dktJ11_getChar_1 := dk_seg dksJ11_getChar_0 24 rfl rfl
theorem dksJ11_getChar_2 : cJ11_getChar.data.toList.drop 48 = dktJ11_getChar_2 := dk_seg dksJ11_getChar_1 24 rfl rfl
theorem dJ11_getChar_0 : decode cJ11_getChar 0 = .ok (.getstatic 44, 3) := dk_178 0 44 (dk_at dksJ11_getChar_0 0 rfl rfl)
theorem dJ11_getChar_3 : decode cJ11_getChar 3 = .ok (.ifCond .ne 25, 3) := dk_154 0 25 (dk_at dksJ11_getChar_0 3 rfl rfl)
theorem dJ11_getChar_6 : decode cJ11_getChar 6 = .ok (.iload_n 1, 1) := dk_27 (dk_at dksJ11_getChar_0 6 rfl rfl)
theorem dJ11_getChar_7 : decode cJ11_getChar 7 = .ok (.ifCond .lt 11, 3) := dk_155 0 11 (dk_at dksJ11_getChar_0 7 rfl rfl)
theorem dJ11_getChar_10 : decode cJ11_getChar 10 = .ok (.iload_n 1, 1) := dk_27 (dk_at dksJ11_getChar_0 10 rfl rfl)
theorem dJ11_getChar_11 : decode cJ11_getChar 11 = .ok (.aload_n 0, 1) := dk_42 (dk_at dksJ11_getChar_0 11 rfl rfl)
theorem dJ11_getChar_12 : decode cJ11_getChar 12 = .ok (.invokestatic 48, 3) := dk_184 0 48 (dk_at dksJ11_getChar_0 12 rfl rfl)
theorem dJ11_getChar_15 : decode cJ11_getChar 15 = .ok (.if_icmp .lt 13, 3) := dk_161 0 13 (dk_at dksJ11_getChar_0 15 rfl rfl)
theorem dJ11_getChar_18 : decode cJ11_getChar 18 = .ok (.new 52, 3) := dk_187 0 52 (dk_at dksJ11_getChar_0 18 rfl rfl)
theorem dJ11_getChar_21 : decode cJ11_getChar 21 = .ok (.dup, 1) := dk_89 (dk_at dksJ11_getChar_0 21 rfl rfl)
theorem dJ11_getChar_22 : decode cJ11_getChar 22 = .ok (.ldc 54, 2) := dk_18 54 (dk_at dksJ11_getChar_0 22 rfl rfl)
theorem dJ11_getChar_24 : decode cJ11_getChar 24 = .ok (.invokespecial 56, 3) := dk_183 0 56 (dk_at dksJ11_getChar_1 0 rfl rfl)
theorem dJ11_getChar_27 : decode cJ11_getChar 27 = .ok (.athrow, 1) := dk_191 (dk_at dksJ11_getChar_1 3 rfl rfl)
theorem dJ11_getChar_28 : decode cJ11_getChar 28 = .ok (.iload_n 1, 1) := dk_27 (dk_at dksJ11_getChar_1 4 rfl rfl)
theorem dJ11_getChar_29 : decode cJ11_getChar 29 = .ok (.iconst 1, 1) := dk_4 (dk_at dksJ11_getChar_1 5 rfl rfl)
theorem dJ11_getChar_30 : decode cJ11_getChar 30 = .ok (.ishl, 1) := dk_120 (dk_at dksJ11_getChar_1 6 rfl rfl)
theorem dJ11_getChar_31 : decode cJ11_getChar 31 = .ok (.istore_n 1, 1) := dk_60 (dk_at dksJ11_getChar_1 7 rfl rfl)
theorem dJ11_getChar_32 : decode cJ11_getChar 32 = .ok (.aload_n 0, 1) := dk_42 (dk_at dksJ11_getChar_1 8 rfl rfl)
theorem dJ11_getChar_33 : decode cJ11_getChar 33 = .ok (.iload_n 1, 1) := dk_27 (dk_at dksJ11_getChar_1 9 rfl rfl)
theorem dJ11_getChar_34 : decode cJ11_getChar 34 = .ok (.iinc 1 1, 3) := dk_132 1 1 (dk_at dksJ11_getChar_1 10 rfl rfl)
theorem dJ11_getChar_37 : decode cJ11_getChar 37 = .ok (.baload, 1) := dk_51 (dk_at dksJ11_getChar_1 13 rfl rfl)
theorem dJ11_getChar_38 : decode cJ11_getChar 38 = .ok (.sipush 255, 3) := dk_17 0 255 (dk_at dksJ11_getChar_1 14 rfl rfl)
theorem dJ11_getChar_41 : decode cJ11_getChar 41 = .ok (.iand, 1) := dk_126 (dk_at dksJ11_getChar_1 17 rfl rfl)
theorem dJ11_getChar_42 : decode cJ11_getChar 42 = .ok (.getstatic 59, 3) := dk_178 0 59 (dk_at dksJ11_getChar_1 18 rfl rfl)
theorem dJ11_getChar_45 : decode cJ11_getChar 45 = .ok (.ishl, 1) := dk_120 (dk_at dksJ11_getChar_1 21 rfl rfl)
theorem dJ11_getChar_46 : decode cJ11_getChar 46 = .ok (.aload_n 0, 1) := dk_42 (dk_at dksJ11_getChar_1 22 rfl rfl)
theorem dJ11_getChar_47 : decode cJ11_getChar 47 = .ok (.iload_n 1, 1) := dk_27 (dk_at dksJ11_getChar_1 23 rfl rfl)
theorem dJ11_getChar_48 : decode cJ11_getChar 48 = .ok (.baload, 1) := dk_51 (dk_at dksJ11_getChar_2 0 rfl rfl)
theorem dJ11_getChar_49 : decode cJ11_getChar 49 = .ok (.sipush 255, 3) := dk_17 0 255 (dk_at dksJ11_getChar_2 1 rfl rfl)
theorem dJ11_getChar_52 : decode cJ11_getChar 52 = .ok (.iand, 1) := dk_126 (dk_at dksJ11_getChar_2 4 rfl rfl)
theorem dJ11_getChar_53 : decode cJ11_getChar 53 = .ok (.getstatic 63, 3) := dk_178 0 63 (dk_at dksJ11_getChar_2 5 rfl rfl)
theorem dJ11_getChar_56 : decode cJ11_getChar 56 = .ok (.ishl, 1) := dk_120 (dk_at dksJ11_getChar_2 8 rfl rfl)
theorem dJ11_getChar_57 : decode cJ11_getChar 57 = .ok (.ior, 1) := dk_128 (dk_at dksJ11_getChar_2 9 rfl rfl)
theorem dJ11_getChar_58 : decode cJ11_getChar 58 = .ok (.i2c, 1) := dk_146 (dk_at dksJ11_getChar_2 10 rfl rfl)
theorem dJ11_getChar_59 : decode cJ11_getChar 59 = .ok (.ireturn, 1) := dk_172 (dk_at dksJ11_getChar_2 11 rfl rfl)
abbrev cJ12_init : ByteArray := prog_44_method_1_code
def yJ12_init : MethodName := ⟨RJ12, "<init>", "()V"⟩
theorem dJ12_init_0 : decode cJ12_init 0 = .ok (.aload_n 0, 1) := by decide +kernel
theorem dJ12_init_1 : decode cJ12_init 1 = .ok (.invokespecial 1, 3) := by decide +kernel
theorem dJ12_init_4 : decode cJ12_init 4 = .ok (.return_, 1) := by decide +kernel
abbrev cJ13_bitCount : ByteArray := prog_35_method_49_code
def yJ13_bitCount : MethodName := ⟨RJ13, "bitCount", "(I)I"⟩
def dkwJ13_bitCount_2 : List UInt8 := [26, 16, 63, 126, 172]
abbrev dktJ13_bitCount_2 : List UInt8 := dkwJ13_bitCount_2 ++ []
def dkwJ13_bitCount_1 : List UInt8 := [26, 26, 7, 124, 96, 19, 1, 11, 126, 59, 26, 26, 16, 8, 124, 96, 59, 26, 26, 16, 16, 124, 96, 59]
abbrev dktJ13_bitCount_1 : List UInt8 := dkwJ13_bitCount_1 ++ dktJ13_bitCount_2
def dkwJ13_bitCount_0 : List UInt8 := [26, 26, 4, 124, 19, 1, 9, 126, 100, 59, 26, 19, 1, 10, 126, 26, 5, 124, 19, 1, 10, 126, 96, 59]
abbrev dktJ13_bitCount_0 : List UInt8 := dkwJ13_bitCount_0 ++ dktJ13_bitCount_1
theorem dksJ13_bitCount_0 : cJ13_bitCount.data.toList.drop 0 = dktJ13_bitCount_0 := by decide +kernel
theorem dksJ13_bitCount_1 : cJ13_bitCount.data.toList.drop 24 = dktJ13_bitCount_1 := dk_seg dksJ13_bitCount_0 24 rfl rfl
theorem dksJ13_bitCount_2 : cJ13_bitCount.data.toList.drop 48 = dktJ13_bitCount_2 := dk_seg dksJ13_bitCount_1 24 rfl rfl
theorem dJ13_bitCount_0 : decode cJ13_bitCount 0 = .ok (.iload_n 0, 1) := dk_26 (dk_at dksJ13_bitCount_0 0 rfl rfl)
theorem dJ13_bitCount_1 : decode cJ13_bitCount 1 = .ok (.iload_n 0, 1) := dk_26 (dk_at dksJ13_bitCount_0 1 rfl rfl)
theorem dJ13_bitCount_2 : decode cJ13_bitCount 2 = .ok (.iconst 1, 1) := dk_4 (dk_at dksJ13_bitCount_0 2 rfl rfl)
theorem dJ13_bitCount_3 : decode cJ13_bitCount 3 = .ok (.iushr, 1) := dk_124 (dk_at dksJ13_bitCount_0 3 rfl rfl)
theorem dJ13_bitCount_4 : decode cJ13_bitCount 4 = .ok (.ldc_w 265, 3) := dk_19 1 9 (dk_at dksJ13_bitCount_0 4 rfl rfl)
theorem dJ13_bitCount_7 : decode cJ13_bitCount 7 = .ok (.iand, 1) := dk_126 (dk_at dksJ13_bitCount_0 7 rfl rfl)
theorem dJ13_bitCount_8 : decode cJ13_bitCount 8 = .ok (.isub, 1) := dk_100 (dk_at dksJ13_bitCount_0 8 rfl rfl)
theorem dJ13_bitCount_9 : decode cJ13_bitCount 9 = .ok (.istore_n 0, 1) := dk_59 (dk_at dksJ13_bitCount_0 9 rfl rfl)
theorem dJ13_bitCount_10 : decode cJ13_bitCount 10 = .ok (.iload_n 0, 1) := dk_26 (dk_at dksJ13_bitCount_0 10 rfl rfl)
theorem dJ13_bitCount_11 : decode cJ13_bitCount 11 = .ok (.ldc_w 266, 3) := dk_19 1 10 (dk_at dksJ13_bitCount_0 11 rfl rfl)
theorem dJ13_bitCount_14 : decode cJ13_bitCount 14 = .ok (.iand, 1) := dk_126 (dk_at dksJ13_bitCount_0 14 rfl rfl)
theorem dJ13_bitCount_15 : decode cJ13_bitCount 15 = .ok (.iload_n 0, 1) := dk_26 (dk_at dksJ13_bitCount_0 15 rfl rfl)
theorem dJ13_bitCount_16 : decode cJ13_bitCount 16 = .ok (.iconst 2, 1) := dk_5 (dk_at dksJ13_bitCount_0 16 rfl rfl)
theorem dJ13_bitCount_17 : decode cJ13_bitCount 17 = .ok (.iushr, 1) := dk_124 (dk_at dksJ13_bitCount_0 17 rfl rfl)
theorem dJ13_bitCount_18 : decode cJ13_bitCount 18 = .ok (.ldc_w 266, 3) := dk_19 1 10 (dk_at dksJ13_bitCount_0 18 rfl rfl)
theorem dJ13_bitCount_21 : decode cJ13_bitCount 21 = .ok (.iand, 1) := dk_126 (dk_at dksJ13_bitCount_0 21 rfl rfl)
theorem dJ13_bitCount_22 : decode cJ13_bitCount 22 = .ok (.iadd, 1) := dk_96 (dk_at dksJ13_bitCount_0 22 rfl rfl)
theorem dJ13_bitCount_23 : decode cJ13_bitCount 23 = .ok (.istore_n 0, 1) := dk_59 (dk_at dksJ13_bitCount_0 23 rfl rfl)
theorem dJ13_bitCount_24 : decode cJ13_bitCount 24 = .ok (.iload_n 0, 1) := dk_26 (dk_at dksJ13_bitCount_1 0 rfl rfl)
theorem dJ13_bitCount_25 : decode cJ13_bitCount 25 = .ok (.iload_n 0, 1) := dk_26 (dk_at dksJ13_bitCount_1 1 rfl rfl)
theorem dJ13_bitCount_26 : decode cJ13_bitCount 26 = .ok (.iconst 4, 1) := dk_7 (dk_at dksJ13_bitCount_1 2 rfl rfl)
theorem dJ13_bitCount_27 : decode cJ13_bitCount 27 = .ok (.iushr, 1) := dk_124 (dk_at dksJ13_bitCount_1 3 rfl rfl)
theorem dJ13_bitCount_28 : decode cJ13_bitCount 28 = .ok (.iadd, 1) := dk_96 (dk_at dksJ13_bitCount_1 4 rfl rfl)
theorem dJ13_bitCount_29 : decode cJ13_bitCount 29 = .ok (.ldc_w 267, 3) := dk_19 1 11 (dk_at dksJ13_bitCount_1 5 rfl rfl)
theorem dJ13_bitCount_32 : decode cJ13_bitCount 32 = .ok (.iand, 1) := dk_126 (dk_at dksJ13_bitCount_1 8 rfl rfl)
theorem dJ13_bitCount_33 : decode cJ13_bitCount 33 = .ok (.istore_n 0, 1) := dk_59 (dk_at dksJ13_bitCount_1 9 rfl rfl)
theorem dJ13_bitCount_34 : decode cJ13_bitCount 34 = .ok (.iload_n 0, 1) := dk_26 (dk_at dksJ13_bitCount_1 10 rfl rfl)
theorem dJ13_bitCount_35 : decode cJ13_bitCount 35 = .ok (.iload_n 0, 1) := dk_26 (dk_at dksJ13_bitCount_1 11 rfl rfl)
theorem dJ13_bitCount_36 : decode cJ13_bitCount 36 = .ok (.bipush 8, 2) := dk_16 8 (dk_at dksJ13_bitCount_1 12 rfl rfl)
theorem dJ13_bitCount_38 : decode cJ13_bitCount 38 = .ok (.iushr, 1) := dk_124 (dk_at dksJ13_bitCount_1 14 rfl rfl)
theorem dJ13_bitCount_39 : decode cJ13_bitCount 39 = .ok (.iadd, 1) := dk_96 (dk_at dksJ13_bitCount_1 15 rfl rfl)
theorem dJ13_bitCount_40 : decode cJ13_bitCount 40 = .ok (.istore_n 0, 1) := dk_59 (dk_at dksJ13_bitCount_1 16 rfl rfl)
theorem dJ13_bitCount_41 : decode cJ13_bitCount 41 = .ok (.iload_n 0, 1) := dk_26 (dk_at dksJ13_bitCount_1 17 rfl rfl)
theorem dJ13_bitCount_42 : decode cJ13_bitCount 42 = .ok (.iload_n 0, 1) := dk_26 (dk_at dksJ13_bitCount_1 18 rfl rfl)
theorem dJ13_bitCount_43 : decode cJ13_bitCount 43 = .ok (.bipush 16, 2) := dk_16 16 (dk_at dksJ13_bitCount_1 19 rfl rfl)
theorem dJ13_bitCount_45 : decode cJ13_bitCount 45 = .ok (.iushr, 1) := dk_124 (dk_at dksJ13_bitCount_1 21 rfl rfl)
theorem dJ13_bitCount_46 : decode cJ13_bitCount 46 = .ok (.iadd, 1) := dk_96 (dk_at dksJ13_bitCount_1 22 rfl rfl)
theorem dJ13_bitCount_47 : decode cJ13_bitCount 47 = .ok (.istore_n 0, 1) := dk_59 (dk_at dksJ13_bitCount_1 23 rfl rfl)
theorem dJ13_bitCount_48 : decode cJ13_bitCount 48 = .ok (.iload_n 0, 1) := dk_26 (dk_at dksJ13_bitCount_2 0 rfl rfl)
theorem dJ13_bitCount_49 : decode cJ13_bitCount 49 = .ok (.bipush 63, 2) := dk_16 63 (dk_at dksJ13_bitCount_2 1 rfl rfl)
theorem dJ13_bitCount_51 : decode cJ13_bitCount 51 = .ok (.iand, 1) := dk_126 (dk_at dksJ13_bitCount_2 3 rfl rfl)
theorem dJ13_bitCount_52 : decode cJ13_bitCount 52 = .ok (.ireturn, 1) := dk_172 (dk_at dksJ13_bitCount_2 4 rfl rfl)
abbrev cJ13_numberOfTrailingZeros : ByteArray := prog_35_method_48_code
def yJ13_numberOfTrailingZeros : MethodName := ⟨RJ13, "numberOfTrailingZeros", "(I)I"⟩
def dkwJ13_numberOfTrailingZeros_3 : List UInt8 := [5, 124, 59, 27, 26, 4, 124, 96, 172]
abbrev dktJ13_numberOfTrailingZeros_3 : List UInt8 := dkwJ13_numberOfTrailingZeros_3 ++ []
def dkwJ13_numberOfTrailingZeros_2 : List UInt8 := [124, 59, 26, 16, 16, 164, 0, 10, 132, 1, 4, 26, 7, 124, 59, 26, 7, 164, 0, 10, 132, 1, 2, 26]
abbrev dktJ13_numberOfTrailingZeros_2 : List UInt8 := dkwJ13_numberOfTrailingZeros_2 ++ dktJ13_numberOfTrailingZeros_3
def dkwJ13_numberOfTrailingZeros_1 : List UInt8 := [164, 0, 11, 132, 1, 16, 26, 16, 16, 124, 59, 26, 17, 1, 0, 164, 0, 11, 132, 1, 8, 26, 16, 8]
abbrev dktJ13_numberOfTrailingZeros_1 : List UInt8 := dkwJ13_numberOfTrailingZeros_1 ++ dktJ13_numberOfTrailingZeros_2
def dkwJ13_numberOfTrailingZeros_0 : List UInt8 := [26, 2, 130, 26, 4, 100, 126, 59, 26, 157, 0, 8, 26, 16, 32, 126, 172, 4, 60, 26, 19, 1, 8]
abbrev dktJ13_numberOfTrailingZeros_0 : List UInt8 := dkwJ13_numberOfTrailingZeros_0 ++ dktJ13_numberOfTrailingZeros_1
theorem dksJ13_numberOfTrailingZeros_0 : cJ13_numberOfTrailingZeros.data.toList.drop 0 = dktJ13_numberOfTrailingZeros_0 := by decide +kernel
theorem dksJ13_numberOfTrailingZeros_1 : cJ13_numberOfTrailingZeros.data.toList.drop 23 = dktJ13_numberOfTrailingZeros_1 := dk_seg dksJ13_numberOfTrailingZeros_0 23 rfl rfl
theorem dksJ13_numberOfTrailingZeros_2 : cJ13_numberOfTrailingZeros.data.toList.drop 47 = dktJ13_numberOfTrailingZeros_2 := dk_seg dksJ13_numberOfTrailingZeros_1 24 rfl rfl
theorem dksJ13_numberOfTrailingZeros_3 : cJ13_numberOfTrailingZeros.data.toList.drop 71 = dktJ13_numberOfTrailingZeros_3 := dk_seg dksJ13_numberOfTrailingZeros_2 24 rfl rfl
theorem dJ13_numberOfTrailingZeros_0 : decode cJ13_numberOfTrailingZeros 0 = .ok (.iload_n 0, 1) := dk_26 (dk_at dksJ13_numberOfTrailingZeros_0 0 rfl rfl)
theorem dJ13_numberOfTrailingZeros_1 : decode cJ13_numberOfTrailingZeros 1 = .ok (.iconst (-1), 1) := dk_2 (dk_at dksJ13_numberOfTrailingZeros_0 1 rfl rfl)
theorem dJ13_numberOfTrailingZeros_2 : decode cJ13_numberOfTrailingZeros 2 = .ok (.ixor, 1) := dk_130 (dk_at dksJ13_numberOfTrailingZeros_0 2 rfl rfl)
theorem dJ13_numberOfTrailingZeros_3 : decode cJ13_numberOfTrailingZeros 3 = .ok (.iload_n 0, 1) := dk_26 (dk_at dksJ13_numberOfTrailingZeros_0 3 rfl rfl)
theorem dJ13_numberOfTrailingZeros_4 : decode cJ13_numberOfTrailingZeros 4 = .ok (.iconst 1, 1) := dk_4 (dk_at dksJ13_numberOfTrailingZeros_0 4 rfl rfl)
theorem dJ13_numberOfTrailingZeros_5 : decode cJ13_numberOfTrailingZeros 5 = .ok (.isub, 1) := dk_100 (dk_at dksJ13_numberOfTrailingZeros_0 5 rfl rfl)
theorem dJ13_numberOfTrailingZeros_6 : decode cJ13_numberOfTrailingZeros 6 = .ok (.iand, 1) := dk_126 (dk_at dksJ13_numberOfTrailingZeros_0 6 rfl rfl)
theorem dJ13_numberOfTrailingZeros_7 : decode cJ13_numberOfTrailingZeros 7 = .ok (.istore_n 0, 1) := dk_59 (dk_at dksJ13_numberOfTrailingZeros_0 7 rfl rfl)
theorem dJ13_numberOfTrailingZeros_8 : decode cJ13_numberOfTrailingZeros 8 = .ok (.iload_n 0, 1) := dk_26 (dk_at dksJ13_numberOfTrailingZeros_0 8 rfl rfl)
theorem dJ13_numberOfTrailingZeros_9 : decode cJ13_numberOfTrailingZeros 9 = .ok (.ifCond .gt 8, 3) := dk_157 0 8 (dk_at dksJ13_numberOfTrailingZeros_0 9 rfl rfl)
theorem dJ13_numberOfTrailingZeros_12 : decode cJ13_numberOfTrailingZeros 12 = .ok (.iload_n 0, 1) := dk_26 (dk_at dksJ13_numberOfTrailingZeros_0 12 rfl rfl)
theorem dJ13_numberOfTrailingZeros_13 : decode cJ13_numberOfTrailingZeros 13 = .ok (.bipush 32, 2) := dk_16 32 (dk_at dksJ13_numberOfTrailingZeros_0 13 rfl rfl)
theorem dJ13_numberOfTrailingZeros_15 : decode cJ13_numberOfTrailingZeros 15 = .ok (.iand, 1) := dk_126 (dk_at dksJ13_numberOfTrailingZeros_0 15 rfl rfl)
theorem dJ13_numberOfTrailingZeros_16 : decode cJ13_numberOfTrailingZeros 16 = .ok (.ireturn, 1) := dk_172 (dk_at dksJ13_numberOfTrailingZeros_0 16 rfl rfl)
theorem dJ13_numberOfTrailingZeros_17 : decode cJ13_numberOfTrailingZeros 17 = .ok (.iconst 1, 1) := dk_4 (dk_at dksJ13_numberOfTrailingZeros_0 17 rfl rfl)
theorem dJ13_numberOfTrailingZeros_18 : decode cJ13_numberOfTrailingZeros 18 = .ok (.istore_n 1, 1) := dk_60 (dk_at dksJ13_numberOfTrailingZeros_0 18 rfl rfl)
theorem dJ13_numberOfTrailingZeros_19 : decode cJ13_numberOfTrailingZeros 19 = .ok (.iload_n 0, 1) := dk_26 (dk_at dksJ13_numberOfTrailingZeros_0 19 rfl rfl)
theorem dJ13_numberOfTrailingZeros_20 : decode cJ13_numberOfTrailingZeros 20 = .ok (.ldc_w 264, 3) := dk_19 1 8 (dk_at dksJ13_numberOfTrailingZeros_0 20 rfl rfl)
theorem dJ13_numberOfTrailingZeros_23 : decode cJ13_numberOfTrailingZeros 23 = .ok (.if_icmp .le 11, 3) := dk_164 0 11 (dk_at dksJ13_numberOfTrailingZeros_1 0 rfl rfl)
theorem dJ13_numberOfTrailingZeros_26 : decode cJ13_numberOfTrailingZeros 26 = .ok (.iinc 1 16, 3) := dk_132 1 16 (dk_at dksJ13_numberOfTrailingZeros_1 3 rfl rfl)
theorem dJ13_numberOfTrailingZeros_29 : decode cJ13_numberOfTrailingZeros 29 = .ok (.iload_n 0, 1) := dk_26 (dk_at dksJ13_numberOfTrailingZeros_1 6 rfl rfl)
theorem dJ13_numberOfTrailingZeros_30 : decode cJ13_numberOfTrailingZeros 30 = .ok (.bipush 16, 2) := dk_16 16 (dk_at dksJ13_numberOfTrailingZeros_1 7 rfl rfl)
theorem dJ13_numberOfTrailingZeros_32 : decode cJ13_numberOfTrailingZeros 32 = .ok (.iushr, 1) := dk_124 (dk_at dksJ13_numberOfTrailingZeros_1 9 rfl rfl)
theorem dJ13_numberOfTrailingZeros_33 : decode cJ13_numberOfTrailingZeros 33 = .ok (.istore_n 0, 1) := dk_59 (dk_at dksJ13_numberOfTrailingZeros_1 10 rfl rfl)
theorem dJ13_numberOfTrailingZeros_34 : decode cJ13_numberOfTrailingZeros 34 = .ok (.iload_n 0, 1) := dk_26 (dk_at dksJ13_numberOfTrailingZeros_1 11 rfl rfl)
theorem dJ13_numberOfTrailingZeros_35 : decode cJ13_numberOfTrailingZeros 35 = .ok (.sipush 256, 3) := dk_17 1 0 (dk_at dksJ13_numberOfTrailingZeros_1 12 rfl rfl)
theorem dJ13_numberOfTrailingZeros_38 : decode cJ13_numberOfTrailingZeros 38 = .ok (.if_icmp .le 11, 3) := dk_164 0 11 (dk_at dksJ13_numberOfTrailingZeros_1 15 rfl rfl)
theorem dJ13_numberOfTrailingZeros_41 : decode cJ13_numberOfTrailingZeros 41 = .ok (.iinc 1 8, 3) := dk_132 1 8 (dk_at dksJ13_numberOfTrailingZeros_1 18 rfl rfl)
theorem dJ13_numberOfTrailingZeros_44 : decode cJ13_numberOfTrailingZeros 44 = .ok (.iload_n 0, 1) := dk_26 (dk_at dksJ13_numberOfTrailingZeros_1 21 rfl rfl)
theorem dJ13_numberOfTrailingZeros_45 : decode cJ13_numberOfTrailingZeros 45 = .ok (.bipush 8, 2) := dk_16 8 (dk_at dksJ13_numberOfTrailingZeros_1 22 rfl rfl)
theorem dJ13_numberOfTrailingZeros_47 : decode cJ13_numberOfTrailingZeros 47 = .ok (.iushr, 1) := dk_124 (dk_at dksJ13_numberOfTrailingZeros_2 0 rfl rfl)
theorem dJ13_numberOfTrailingZeros_48 : decode cJ13_numberOfTrailingZeros 48 = .ok (.istore_n 0, 1) := dk_59 (dk_at dksJ13_numberOfTrailingZeros_2 1 rfl rfl)
theorem dJ13_numberOfTrailingZeros_49 : decode cJ13_numberOfTrailingZeros 49 = .ok (.iload_n 0, 1) := dk_26 (dk_at dksJ13_numberOfTrailingZeros_2 2 rfl rfl)
theorem dJ13_numberOfTrailingZeros_50 : decode cJ13_numberOfTrailingZeros 50 = .ok (.bipush 16, 2) := dk_16 16 (dk_at dksJ13_numberOfTrailingZeros_2 3 rfl rfl)
theorem dJ13_numberOfTrailingZeros_52 : decode cJ13_numberOfTrailingZeros 52 = .ok (.if_icmp .le 10, 3) := dk_164 0 10 (dk_at dksJ13_numberOfTrailingZeros_2 5 rfl rfl)
theorem dJ13_numberOfTrailingZeros_55 : decode cJ13_numberOfTrailingZeros 55 = .ok (.iinc 1 4, 3) := dk_132 1 4 (dk_at dksJ13_numberOfTrailingZeros_2 8 rfl rfl)
theorem dJ13_numberOfTrailingZeros_58 : decode cJ13_numberOfTrailingZeros 58 = .ok (.iload_n 0, 1) := dk_26 (dk_at dksJ13_numberOfTrailingZeros_2 11 rfl rfl)
theorem dJ13_numberOfTrailingZeros_59 : decode cJ13_numberOfTrailingZeros 59 = .ok (.iconst 4, 1) := dk_7 (dk_at dksJ13_numberOfTrailingZeros_2 12 rfl rfl)
theorem dJ13_numberOfTrailingZeros_60 : decode cJ13_numberOfTrailingZeros 60 = .ok (.iushr, 1) := dk_124 (dk_at dksJ13_numberOfTrailingZeros_2 13 rfl rfl)
theorem dJ13_numberOfTrailingZeros_61 : decode cJ13_numberOfTrailingZeros 61 = .ok (.istore_n 0, 1) := dk_59 (dk_at dksJ13_numberOfTrailingZeros_2 14 rfl rfl)
theorem dJ13_numberOfTrailingZeros_62 : decode cJ13_numberOfTrailingZeros 62 = .ok (.iload_n 0, 1) := dk_26 (dk_at dksJ13_numberOfTrailingZeros_2 15 rfl rfl)
theorem dJ13_numberOfTrailingZeros_63 : decode cJ13_numberOfTrailingZeros 63 = .ok (.iconst 4, 1) := dk_7 (dk_at dksJ13_numberOfTrailingZeros_2 16 rfl rfl)
theorem dJ13_numberOfTrailingZeros_64 : decode cJ13_numberOfTrailingZeros 64 = .ok (.if_icmp .le 10, 3) := dk_164 0 10 (dk_at dksJ13_numberOfTrailingZeros_2 17 rfl rfl)
theorem dJ13_numberOfTrailingZeros_67 : decode cJ13_numberOfTrailingZeros 67 = .ok (.iinc 1 2, 3) := dk_132 1 2 (dk_at dksJ13_numberOfTrailingZeros_2 20 rfl rfl)
theorem dJ13_numberOfTrailingZeros_70 : decode cJ13_numberOfTrailingZeros 70 = .ok (.iload_n 0, 1) := dk_26 (dk_at dksJ13_numberOfTrailingZeros_2 23 rfl rfl)
theorem dJ13_numberOfTrailingZeros_71 : decode cJ13_numberOfTrailingZeros 71 = .ok (.iconst 2, 1) := dk_5 (dk_at dksJ13_numberOfTrailingZeros_3 0 rfl rfl)
theorem dJ13_numberOfTrailingZeros_72 : decode cJ13_numberOfTrailingZeros 72 = .ok (.iushr, 1) := dk_124 (dk_at dksJ13_numberOfTrailingZeros_3 1 rfl rfl)
theorem dJ13_numberOfTrailingZeros_73 : decode cJ13_numberOfTrailingZeros 73 = .ok (.istore_n 0, 1) := dk_59 (dk_at dksJ13_numberOfTrailingZeros_3 2 rfl rfl)
theorem dJ13_numberOfTrailingZeros_74 : decode cJ13_numberOfTrailingZeros 74 = .ok (.iload_n 1, 1) := dk_27 (dk_at dksJ13_numberOfTrailingZeros_3 3 rfl rfl)
theorem dJ13_numberOfTrailingZeros_75 : decode cJ13_numberOfTrailingZeros 75 = .ok (.iload_n 0, 1) := dk_26 (dk_at dksJ13_numberOfTrailingZeros_3 4 rfl rfl)
theorem dJ13_numberOfTrailingZeros_76 : decode cJ13_numberOfTrailingZeros 76 = .ok (.iconst 1, 1) := dk_4 (dk_at dksJ13_numberOfTrailingZeros_3 5 rfl rfl)
theorem dJ13_numberOfTrailingZeros_77 : decode cJ13_numberOfTrailingZeros 77 = .ok (.iushr, 1) := dk_124 (dk_at dksJ13_numberOfTrailingZeros_3 6 rfl rfl)
theorem dJ13_numberOfTrailingZeros_78 : decode cJ13_numberOfTrailingZeros 78 = .ok (.iadd, 1) := dk_96 (dk_at dksJ13_numberOfTrailingZeros_3 7 rfl rfl)
theorem dJ13_numberOfTrailingZeros_79 : decode cJ13_numberOfTrailingZeros 79 = .ok (.ireturn, 1) := dk_172 (dk_at dksJ13_numberOfTrailingZeros_3 8 rfl rfl)
abbrev cJ14_init : ByteArray := object_method_1_code
def yJ14_init : MethodName := ⟨RJ14, "<init>", "()V"⟩
theorem dJ14_init_0 : decode cJ14_init 0 = .ok (.return_, 1) := by decide +kernel
abbrev cX2_init : ByteArray := prog_20_method_1_code
def yX2_init : MethodName := ⟨RX2, "<init>", "()V"⟩
def dkwX2_init_6 : List UInt8 := [187, 0, 68, 89, 183, 0, 70, 181, 0, 71, 177]
abbrev dktX2_init_6 : List UInt8 := dkwX2_init_6 ++ []
def dkwX2_init_5 : List UInt8 := [89, 6, 18, 55, 83, 89, 7, 18, 57, 83, 181, 0, 59, 42, 16, 10, 189, 0, 62, 181, 0, 64, 42]
abbrev dktX2_init_5 : List UInt8 := dkwX2_init_5 ++ dktX2_init_6
def dkwX2_init_4 : List UInt8 := [83, 181, 0, 45, 42, 8, 189, 0, 15, 89, 3, 18, 49, 83, 89, 4, 18, 51, 83, 89, 5, 18, 53, 83]
abbrev dktX2_init_4 : List UInt8 := dkwX2_init_4 ++ dktX2_init_5
def dkwX2_init_3 : List UInt8 := [83, 89, 16, 10, 18, 37, 83, 89, 16, 11, 18, 39, 83, 89, 16, 12, 18, 41, 83, 89, 16, 13, 18, 43]
abbrev dktX2_init_3 : List UInt8 := dkwX2_init_3 ++ dktX2_init_4
def dkwX2_init_2 : List UInt8 := [83, 89, 16, 6, 18, 29, 83, 89, 16, 7, 18, 31, 83, 89, 16, 8, 18, 33, 83, 89, 16, 9, 18, 35]
abbrev dktX2_init_2 : List UInt8 := dkwX2_init_2 ++ dktX2_init_3
def dkwX2_init_1 : List UInt8 := [89, 4, 18, 19, 83, 89, 5, 18, 21, 83, 89, 6, 18, 23, 83, 89, 7, 18, 25, 83, 89, 8, 18, 27]
abbrev dktX2_init_1 : List UInt8 := dkwX2_init_1 ++ dktX2_init_2
def dkwX2_init_0 : List UInt8 := [42, 183, 0, 3, 42, 17, 1, 144, 188, 8, 181, 0, 9, 42, 16, 14, 189, 0, 15, 89, 3, 18, 17, 83]
abbrev dktX2_init_0 : List UInt8 := dkwX2_init_0 ++ dktX2_init_1
theorem dksX2_init_0 : cX2_init.data.toList.drop 0 = dktX2_init_0 := by decide +kernel
theorem dksX2_init_1 : cX2_init.data.toList.drop 24 = dktX2_init_1 := dk_seg dksX2_init_0 24 rfl rfl
theorem dksX2_init_2 : cX2_init.data.toList.drop 48 = dktX2_init_2 := dk_seg dksX2_init_1 24 rfl rfl
theorem dksX2_init_3 : cX2_init.data.toList.drop 72 = dktX2_init_3 := dk_seg dksX2_init_2 24 rfl rfl
theorem dksX2_init_4 : cX2_init.data.toList.drop 96 = dktX2_init_4 := dk_seg dksX2_init_3 24 rfl rfl
theorem dksX2_init_5 : cX2_init.data.toList.drop 120 = dktX2_init_5 := dk_seg dksX2_init_4 24 rfl rfl
theorem dksX2_init_6 : cX2_init.data.toList.drop 143 = dktX2_init_6 := dk_seg dksX2_init_5 23 rfl rfl
theorem dX2_init_0 : decode cX2_init 0 = .ok (.aload_n 0, 1) := dk_42 (dk_at dksX2_init_0 0 rfl rfl)
theorem dX2_init_1 : decode cX2_init 1 = .ok (.invokespecial 3, 3) := dk_183 0 3 (dk_at dksX2_init_0 1 rfl rfl)
theorem dX2_init_4 : decode cX2_init 4 = .ok (.aload_n 0, 1) := dk_42 (dk_at dksX2_init_0 4 rfl rfl)
theorem dX2_init_5 : decode cX2_init 5 = .ok (.sipush 400, 3) := dk_17 1 144 (dk_at dksX2_init_0 5 rfl rfl)
theorem dX2_init_8 : decode cX2_init 8 = .ok (.newarray .byte, 2) := dk_188_8 (dk_at dksX2_init_0 8 rfl rfl)
theorem dX2_init_10 : decode cX2_init 10 = .ok (.putfield 9, 3) := dk_181 0 9 (dk_at dksX2_init_0 10 rfl rfl)
theorem dX2_init_13 : decode cX2_init 13 = .ok (.aload_n 0, 1) := dk_42 (dk_at dksX2_init_0 13 rfl rfl)
theorem dX2_init_14 : decode cX2_init 14 = .ok (.bipush 14, 2) := dk_16 14 (dk_at dksX2_init_0 14 rfl rfl)
theorem dX2_init_16 : decode cX2_init 16 = .ok (.anewarray 15, 3) := dk_189 0 15 (dk_at dksX2_init_0 16 rfl rfl)
theorem dX2_init_19 : decode cX2_init 19 = .ok (.dup, 1) := dk_89 (dk_at dksX2_init_0 19 rfl rfl)
theorem dX2_init_20 : decode cX2_init 20 = .ok (.iconst 0, 1) := dk_3 (dk_at dksX2_init_0 20 rfl rfl)
theorem dX2_init_21 : decode cX2_init 21 = .ok (.ldc 17, 2) := dk_18 17 (dk_at dksX2_init_0 21 rfl rfl)
theorem dX2_init_23 : decode cX2_init 23 = .ok (.aastore, 1) := dk_83 (dk_at dksX2_init_0 23 rfl rfl)
theorem dX2_init_24 : decode cX2_init 24 = .ok (.dup, 1) := dk_89 (dk_at dksX2_init_1 0 rfl rfl)
theorem dX2_init_25 : decode cX2_init 25 = .ok (.iconst 1, 1) := dk_4 (dk_at dksX2_init_1 1 rfl rfl)
theorem dX2_init_26 : decode cX2_init 26 = .ok (.ldc 19, 2) := dk_18 19 (dk_at dksX2_init_1 2 rfl rfl)
theorem dX2_init_28 : decode cX2_init 28 = .ok (.aastore, 1) := dk_83 (dk_at dksX2_init_1 4 rfl rfl)
theorem dX2_init_29 : decode cX2_init 29 = .ok (.dup, 1) := dk_89 (dk_at dksX2_init_1 5 rfl rfl)
theorem dX2_init_30 : decode cX2_init 30 = .ok (.iconst 2, 1) := dk_5 (dk_at dksX2_init_1 6 rfl rfl)
theorem dX2_init_31 : decode cX2_init 31 = .ok (.ldc 21, 2) := dk_18 21 (dk_at dksX2_init_1 7 rfl rfl)
theorem dX2_init_33 : decode cX2_init 33 = .ok (.aastore, 1) := dk_83 (dk_at dksX2_init_1 9 rfl rfl)
theorem dX2_init_34 : decode cX2_init 34 = .ok (.dup, 1) := dk_89 (dk_at dksX2_init_1 10 rfl rfl)
theorem dX2_init_35 : decode cX2_init 35 = .ok (.iconst 3, 1) := dk_6 (dk_at dksX2_init_1 11 rfl rfl)
theorem dX2_init_36 : decode cX2_init 36 = .ok (.ldc 23, 2) := dk_18 23 (dk_at dksX2_init_1 12 rfl rfl)
theorem dX2_init_38 : decode cX2_init 38 = .ok (.aastore, 1) := dk_83 (dk_at dksX2_init_1 14 rfl rfl)
theorem dX2_init_39 : decode cX2_init 39 = .ok (.dup, 1) := dk_89 (dk_at dksX2_init_1 15 rfl rfl)
theorem dX2_init_40 : decode cX2_init 40 = .ok (.iconst 4, 1) := dk_7 (dk_at dksX2_init_1 16 rfl rfl)
theorem dX2_init_41 : decode cX2_init 41 = .ok (.ldc 25, 2) := dk_18 25 (dk_at dksX2_init_1 17 rfl rfl)
theorem dX2_init_43 : decode cX2_init 43 = .ok (.aastore, 1) := dk_83 (dk_at dksX2_init_1 19 rfl rfl)
theorem dX2_init_44 : decode cX2_init 44 = .ok (.dup, 1) := dk_89 (dk_at dksX2_init_1 20 rfl rfl)
theorem dX2_init_45 : decode cX2_init 45 = .ok (.iconst 5, 1) := dk_8 (dk_at dksX2_init_1 21 rfl rfl)
theorem dX2_init_46 : decode cX2_init 46 = .ok (.ldc 27, 2) := dk_18 27 (dk_at dksX2_init_1 22 rfl rfl)
theorem dX2_init_48 : decode cX2_init 48 = .ok (.aastore, 1) := dk_83 (dk_at dksX2_init_2 0 rfl rfl)
theorem dX2_init_49 : decode cX2_init 49 = .ok (.dup, 1) := dk_89 (dk_at dksX2_init_2 1 rfl rfl)
theorem dX2_init_50 : decode cX2_init 50 = .ok (.bipush 6, 2) := dk_16 6 (dk_at dksX2_init_2 2 rfl rfl)
theorem dX2_init_52 : decode cX2_init 52 = .ok (.ldc 29, 2) := dk_18 29 (dk_at dksX2_init_2 4 rfl rfl)
theorem dX2_init_54 : decode cX2_init 54 = .ok (.aastore, 1) := dk_83 (dk_at dksX2_init_2 6 rfl rfl)
theorem dX2_init_55 : decode cX2_init 55 = .ok (.dup, 1) := dk_89 (dk_at dksX2_init_2 7 rfl rfl)
theorem dX2_init_56 : decode cX2_init 56 = .ok (.bipush 7, 2) := dk_16 7 (dk_at dksX2_init_2 8 rfl rfl)
theorem dX2_init_58 : decode cX2_init 58 = .ok (.ldc 31, 2) := dk_18 31 (dk_at dksX2_init_2 10 rfl rfl)
theorem dX2_init_60 : decode cX2_init 60 = .ok (.aastore, 1) := dk_83 (dk_at dksX2_init_2 12 rfl rfl)
theorem dX2_init_61 : decode cX2_init 61 = .ok (.dup, 1) := dk_89 (dk_at dksX2_init_2 13 rfl rfl)
theorem dX2_init_62 : decode cX2_init 62 = .ok (.bipush 8, 2) := dk_16 8 (dk_at dksX2_init_2 14 rfl rfl)
theorem dX2_init_64 : decode cX2_init 64 = .ok (.ldc 33, 2) := dk_18 33 (dk_at dksX2_init_2 16 rfl rfl)
theorem dX2_init_66 : decode cX2_init 66 = .ok (.aastore, 1) := dk_83 (dk_at dksX2_init_2 18 rfl rfl)
theorem dX2_init_67 : decode cX2_init 67 = .ok (.dup, 1) := dk_89 (dk_at dksX2_init_2 19 rfl rfl)
theorem dX2_init_68 : decode cX2_init 68 = .ok (.bipush 9, 2) := dk_16 9 (dk_at dksX2_init_2 20 rfl rfl)
theorem dX2_init_70 : decode cX2_init 70 = .ok (.ldc 35, 2) := dk_18 35 (dk_at dksX2_init_2 22 rfl rfl)
theorem dX2_init_72 : decode cX2_init 72 = .ok (.aastore, 1) := dk_83 (dk_at dksX2_init_3 0 rfl rfl)
theorem dX2_init_73 : decode cX2_init 73 = .ok (.dup, 1) := dk_89 (dk_at dksX2_init_3 1 rfl rfl)
theorem dX2_init_74 : decode cX2_init 74 = .ok (.bipush 10, 2) := dk_16 10 (dk_at dksX2_init_3 2 rfl rfl)
theorem dX2_init_76 : decode cX2_init 76 = .ok (.ldc 37, 2) := dk_18 37 (dk_at dksX2_init_3 4 rfl rfl)
theorem dX2_init_78 : decode cX2_init 78 = .ok (.aastore, 1) := dk_83 (dk_at dksX2_init_3 6 rfl rfl)
theorem dX2_init_79 : decode cX2_init 79 = .ok (.dup, 1) := dk_89 (dk_at dksX2_init_3 7 rfl rfl)
theorem dX2_init_80 : decode cX2_init 80 = .ok (.bipush 11, 2) := dk_16 11 (dk_at dksX2_init_3 8 rfl rfl)
theorem dX2_init_82 : decode cX2_init 82 = .ok (.ldc 39, 2) := dk_18 39 (dk_at dksX2_init_3 10 rfl rfl)
theorem dX2_init_84 : decode cX2_init 84 = .ok (.aastore, 1) := dk_83 (dk_at dksX2_init_3 12 rfl rfl)
theorem dX2_init_85 : decode cX2_init 85 = .ok (.dup, 1) := dk_89 (dk_at dksX2_init_3 13 rfl rfl)
theorem dX2_init_86 : decode cX2_init 86 = .ok (.bipush 12, 2) := dk_16 12 (dk_at dksX2_init_3 14 rfl rfl)
theorem dX2_init_88 : decode cX2_init 88 = .ok (.ldc 41, 2) := dk_18 41 (dk_at dksX2_init_3 16 rfl rfl)
theorem dX2_init_90 : decode cX2_init 90 = .ok (.aastore, 1) := dk_83 (dk_at dksX2_init_3 18 rfl rfl)
theorem dX2_init_91 : decode cX2_init 91 = .ok (.dup, 1) := dk_89 (dk_at dksX2_init_3 19 rfl rfl)
theorem dX2_init_92 : decode cX2_init 92 = .ok (.bipush 13, 2) := dk_16 13 (dk_at dksX2_init_3 20 rfl rfl)
theorem dX2_init_94 : decode cX2_init 94 = .ok (.ldc 43, 2) := dk_18 43 (dk_at dksX2_init_3 22 rfl rfl)
theorem dX2_init_96 : decode cX2_init 96 = .ok (.aastore, 1) := dk_83 (dk_at dksX2_init_4 0 rfl rfl)
theorem dX2_init_97 : decode cX2_init 97 = .ok (.putfield 45, 3) := dk_181 0 45 (dk_at dksX2_init_4 1 rfl rfl)
theorem dX2_init_100 : decode cX2_init 100 = .ok (.aload_n 0, 1) := dk_42 (dk_at dksX2_init_4 4 rfl rfl)
theorem dX2_init_101 : decode cX2_init 101 = .ok (.iconst 5, 1) := dk_8 (dk_at dksX2_init_4 5 rfl rfl)
theorem dX2_init_102 : decode cX2_init 102 = .ok (.anewarray 15, 3) := dk_189 0 15 (dk_at dksX2_init_4 6 rfl rfl)
theorem dX2_init_105 : decode cX2_init 105 = .ok (.dup, 1) := dk_89 (dk_at dksX2_init_4 9 rfl rfl)
theorem dX2_init_106 : decode cX2_init 106 = .ok (.iconst 0, 1) := dk_3 (dk_at dksX2_init_4 10 rfl rfl)
theorem dX2_init_107 : decode cX2_init 107 = .ok (.ldc 49, 2) := dk_18 49 (dk_at dksX2_init_4 11 rfl rfl)
theorem dX2_init_109 : decode cX2_init 109 = .ok (.aastore, 1) := dk_83 (dk_at dksX2_init_4 13 rfl rfl)
theorem dX2_init_110 : decode cX2_init 110 = .ok (.dup, 1) := dk_89 (dk_at dksX2_init_4 14 rfl rfl)
theorem dX2_init_111 : decode cX2_init 111 = .ok (.iconst 1, 1) := dk_4 (dk_at dksX2_init_4 15 rfl rfl)
theorem dX2_init_112 : decode cX2_init 112 = .ok (.ldc 51, 2) := dk_18 51 (dk_at dksX2_init_4 16 rfl rfl)
theorem dX2_init_114 : decode cX2_init 114 = .ok (.aastore, 1) := dk_83 (dk_at dksX2_init_4 18 rfl rfl)
theorem dX2_init_115 : decode cX2_init 115 = .ok (.dup, 1) := dk_89 (dk_at dksX2_init_4 19 rfl rfl)
theorem dX2_init_116 : decode cX2_init 116 = .ok (.iconst 2, 1) := dk_5 (dk_at dksX2_init_4 20 rfl rfl)
theorem dX2_init_117 : decode cX2_init 117 = .ok (.ldc 53, 2) := dk_18 53 (dk_at dksX2_init_4 21 rfl rfl)
theorem dX2_init_119 : decode cX2_init 119 = .ok (.aastore, 1) := dk_83 (dk_at dksX2_init_4 23 rfl rfl)
theorem dX2_init_120 : decode cX2_init 120 = .ok (.dup, 1) := dk_89 (dk_at dksX2_init_5 0 rfl rfl)
theorem dX2_init_121 : decode cX2_init 121 = .ok (.iconst 3, 1) := dk_6 (dk_at dksX2_init_5 1 rfl rfl)
theorem dX2_init_122 : decode cX2_init 122 = .ok (.ldc 55, 2) := dk_18 55 (dk_at dksX2_init_5 2 rfl rfl)
theorem dX2_init_124 : decode cX2_init 124 = .ok (.aastore, 1) := dk_83 (dk_at dksX2_init_5 4 rfl rfl)
theorem dX2_init_125 : decode cX2_init 125 = .ok (.dup, 1) := dk_89 (dk_at dksX2_init_5 5 rfl rfl)
theorem dX2_init_126 : decode cX2_init 126 = .ok (.iconst 4, 1) := dk_7 (dk_at dksX2_init_5 6 rfl rfl)
theorem dX2_init_127 : decode cX2_init 127 = .ok (.ldc 57, 2) := dk_18 57 (dk_at dksX2_init_5 7 rfl rfl)
theorem dX2_init_129 : decode cX2_init 129 = .ok (.aastore, 1) := dk_83 (dk_at dksX2_init_5 9 rfl rfl)
theorem dX2_init_130 : decode cX2_init 130 = .ok (.putfield 59, 3) := dk_181 0 59 (dk_at dksX2_init_5 10 rfl rfl)
theorem dX2_init_133 : decode cX2_init 133 = .ok (.aload_n 0, 1) := dk_42 (dk_at dksX2_init_5 13 rfl rfl)
theorem dX2_init_134 : decode cX2_init 134 = .ok (.bipush 10, 2) := dk_16 10 (dk_at dksX2_init_5 14 rfl rfl)
theorem dX2_init_136 : decode cX2_init 136 = .ok (.anewarray 62, 3) := dk_189 0 62 (dk_at dksX2_init_5 16 rfl rfl)
theorem dX2_init_139 : decode cX2_init 139 = .ok (.putfield 64, 3) := dk_181 0 64 (dk_at dksX2_init_5 19 rfl rfl)
theorem dX2_init_142 : decode cX2_init 142 = .ok (.aload_n 0, 1) := dk_42 (dk_at dksX2_init_5 22 rfl rfl)
theorem dX2_init_143 : decode cX2_init 143 = .ok (.new 68, 3) := dk_187 0 68 (dk_at dksX2_init_6 0 rfl rfl)
theorem dX2_init_146 : decode cX2_init 146 = .ok (.dup, 1) := dk_89 (dk_at dksX2_init_6 3 rfl rfl)
theorem dX2_init_147 : decode cX2_init 147 = .ok (.invokespecial 70, 3) := dk_183 0 70 (dk_at dksX2_init_6 4 rfl rfl)
theorem dX2_init_150 : decode cX2_init 150 = .ok (.putfield 71, 3) := dk_181 0 71 (dk_at dksX2_init_6 7 rfl rfl)
theorem dX2_init_153 : decode cX2_init 153 = .ok (.return_, 1) := dk_177 (dk_at dksX2_init_6 10 rfl rfl)
abbrev cX2_law : ByteArray := prog_20_method_7_code
def yX2_law : MethodName := ⟨RX2, "law", "(I)LGrassField$Law;"⟩
def dkwX2_law_5 : List UInt8 := [180, 0, 64, 28, 183, 0, 117, 176]
abbrev dktX2_law_5 : List UInt8 := dkwX2_law_5 ++ []
def dkwX2_law_4 : List UInt8 := [182, 0, 85, 2, 159, 0, 11, 42, 42, 180, 0, 79, 182, 0, 96, 167, 255, 171, 187, 0, 115, 89, 42]
abbrev dktX2_law_4 : List UInt8 := dkwX2_law_4 ++ dktX2_law_5
def dkwX2_law_3 : List UInt8 := [167, 0, 4, 3, 62, 29, 153, 0, 16, 42, 89, 180, 0, 79, 4, 96, 181, 0, 79, 167, 0, 19, 42]
abbrev dktX2_law_3 : List UInt8 := dkwX2_law_3 ++ dktX2_law_4
def dkwX2_law_2 : List UInt8 := [180, 0, 64, 28, 42, 182, 0, 111, 83, 132, 2, 1, 42, 182, 0, 85, 16, 59, 160, 0, 7, 4]
abbrev dktX2_law_2 : List UInt8 := dkwX2_law_2 ++ dktX2_law_3
def dkwX2_law_1 : List UInt8 := [153, 0, 87, 42, 182, 0, 85, 54, 4, 28, 16, 10, 160, 0, 11, 42, 42, 180, 0, 79, 182, 0, 96, 42]
abbrev dktX2_law_1 : List UInt8 := dkwX2_law_1 ++ dktX2_law_2
def dkwX2_law_0 : List UInt8 := [42, 27, 4, 182, 0, 107, 3, 61, 42, 182, 0, 85, 2, 159, 0, 7, 4, 167, 0, 4, 3, 62, 29]
abbrev dktX2_law_0 : List UInt8 := dkwX2_law_0 ++ dktX2_law_1
theorem dksX2_law_0 : cX2_law.data.toList.drop 0 = dktX2_law_0 := by decide +kernel
theorem dksX2_law_1 : cX2_law.data.toList.drop 23 = dktX2_law_1 := dk_seg dksX2_law_0 23 rfl rfl
theorem dksX2_law_2 : cX2_law.data.toList.drop 47 = dktX2_law_2 := dk_seg dksX2_law_1 24 rfl rfl
theorem dksX2_law_3 : cX2_law.data.toList.drop 69 = dktX2_law_3 := dk_seg dksX2_law_2 22 rfl rfl
theorem dksX2_law_4 : cX2_law.data.toList.drop 92 = dktX2_law_4 := dk_seg dksX2_law_3 23 rfl rfl
theorem dksX2_law_5 : cX2_law.data.toList.drop 115 = dktX2_law_5 := dk_seg dksX2_law_4 23 rfl rfl
theorem dX2_law_0 : decode cX2_law 0 = .ok (.aload_n 0, 1) := dk_42 (dk_at dksX2_law_0 0 rfl rfl)
theorem dX2_law_1 : decode cX2_law 1 = .ok (.iload_n 1, 1) := dk_27 (dk_at dksX2_law_0 1 rfl rfl)
theorem dX2_law_2 : decode cX2_law 2 = .ok (.iconst 1, 1) := dk_4 (dk_at dksX2_law_0 2 rfl rfl)
theorem dX2_law_3 : decode cX2_law 3 = .ok (.invokevirtual 107, 3) := dk_182 0 107 (dk_at dksX2_law_0 3 rfl rfl)
theorem dX2_law_6 : decode cX2_law 6 = .ok (.iconst 0, 1) := dk_3 (dk_at dksX2_law_0 6 rfl rfl)
theorem dX2_law_7 : decode cX2_law 7 = .ok (.istore_n 2, 1) := dk_61 (dk_at dksX2_law_0 7 rfl rfl)
theorem dX2_law_8 : decode cX2_law 8 = .ok (.aload_n 0, 1) := dk_42 (dk_at dksX2_law_0 8 rfl rfl)
theorem dX2_law_9 : decode cX2_law 9 = .ok (.invokevirtual 85, 3) := dk_182 0 85 (dk_at dksX2_law_0 9 rfl rfl)
theorem dX2_law_12 : decode cX2_law 12 = .ok (.iconst (-1), 1) := dk_2 (dk_at dksX2_law_0 12 rfl rfl)
theorem dX2_law_13 : decode cX2_law 13 = .ok (.if_icmp .eq 7, 3) := dk_159 0 7 (dk_at dksX2_law_0 13 rfl rfl)
theorem dX2_law_16 : decode cX2_law 16 = .ok (.iconst 1, 1) := dk_4 (dk_at dksX2_law_0 16 rfl rfl)
theorem dX2_law_17 : decode cX2_law 17 = .ok (.goto 4, 3) := dk_167 0 4 (dk_at dksX2_law_0 17 rfl rfl)
theorem dX2_law_20 : decode cX2_law 20 = .ok (.iconst 0, 1) := dk_3 (dk_at dksX2_law_0 20 rfl rfl)
theorem dX2_law_21 : decode cX2_law 21 = .ok (.istore_n 3, 1) := dk_62 (dk_at dksX2_law_0 21 rfl rfl)
theorem dX2_law_22 : decode cX2_law 22 = .ok (.iload_n 3, 1) := dk_29 (dk_at dksX2_law_0 22 rfl rfl)
theorem dX2_law_23 : decode cX2_law 23 = .ok (.ifCond .eq 87, 3) := dk_153 0 87 (dk_at dksX2_law_1 0 rfl rfl)
theorem dX2_law_26 : decode cX2_law 26 = .ok (.aload_n 0, 1) := dk_42 (dk_at dksX2_law_1 3 rfl rfl)
theorem dX2_law_27 : decode cX2_law 27 = .ok (.invokevirtual 85, 3) := dk_182 0 85 (dk_at dksX2_law_1 4 rfl rfl)
theorem dX2_law_30 : decode cX2_law 30 = .ok (.istore 4, 2) := dk_54 4 (dk_at dksX2_law_1 7 rfl rfl)
theorem dX2_law_32 : decode cX2_law 32 = .ok (.iload_n 2, 1) := dk_28 (dk_at dksX2_law_1 9 rfl rfl)
theorem dX2_law_33 : decode cX2_law 33 = .ok (.bipush 10, 2) := dk_16 10 (dk_at dksX2_law_1 10 rfl rfl)
theorem dX2_law_35 : decode cX2_law 35 = .ok (.if_icmp .ne 11, 3) := dk_160 0 11 (dk_at dksX2_law_1 12 rfl rfl)
theorem dX2_law_38 : decode cX2_law 38 = .ok (.aload_n 0, 1) := dk_42 (dk_at dksX2_law_1 15 rfl rfl)
theorem dX2_law_39 : decode cX2_law 39 = .ok (.aload_n 0, 1) := dk_42 (dk_at dksX2_law_1 16 rfl rfl)
theorem dX2_law_40 : decode cX2_law 40 = .ok (.getfield 79, 3) := dk_180 0 79 (dk_at dksX2_law_1 17 rfl rfl)
theorem dX2_law_43 : decode cX2_law 43 = .ok (.invokevirtual 96, 3) := dk_182 0 96 (dk_at dksX2_law_1 20 rfl rfl)
theorem dX2_law_46 : decode cX2_law 46 = .ok (.aload_n 0, 1) := dk_42 (dk_at dksX2_law_1 23 rfl rfl)
theorem dX2_law_47 : decode cX2_law 47 = .ok (.getfield 64, 3) := dk_180 0 64 (dk_at dksX2_law_2 0 rfl rfl)
theorem dX2_law_50 : decode cX2_law 50 = .ok (.iload_n 2, 1) := dk_28 (dk_at dksX2_law_2 3 rfl rfl)
theorem dX2_law_51 : decode cX2_law 51 = .ok (.aload_n 0, 1) := dk_42 (dk_at dksX2_law_2 4 rfl rfl)
theorem dX2_law_52 : decode cX2_law 52 = .ok (.invokevirtual 111, 3) := dk_182 0 111 (dk_at dksX2_law_2 5 rfl rfl)
theorem dX2_law_55 : decode cX2_law 55 = .ok (.aastore, 1) := dk_83 (dk_at dksX2_law_2 8 rfl rfl)
theorem dX2_law_56 : decode cX2_law 56 = .ok (.iinc 2 1, 3) := dk_132 2 1 (dk_at dksX2_law_2 9 rfl rfl)
theorem dX2_law_59 : decode cX2_law 59 = .ok (.aload_n 0, 1) := dk_42 (dk_at dksX2_law_2 12 rfl rfl)
theorem dX2_law_60 : decode cX2_law 60 = .ok (.invokevirtual 85, 3) := dk_182 0 85 (dk_at dksX2_law_2 13 rfl rfl)
theorem dX2_law_63 : decode cX2_law 63 = .ok (.bipush 59, 2) := dk_16 59 (dk_at dksX2_law_2 16 rfl rfl)
theorem dX2_law_65 : decode cX2_law 65 = .ok (.if_icmp .ne 7, 3) := dk_160 0 7 (dk_at dksX2_law_2 18 rfl rfl)
theorem dX2_law_68 : decode cX2_law 68 = .ok (.iconst 1, 1) := dk_4 (dk_at dksX2_law_2 21 rfl rfl)
theorem dX2_law_69 : decode cX2_law 69 = .ok (.goto 4, 3) := dk_167 0 4 (dk_at dksX2_law_3 0 rfl rfl)
theorem dX2_law_72 : decode cX2_law 72 = .ok (.iconst 0, 1) := dk_3 (dk_at dksX2_law_3 3 rfl rfl)
theorem dX2_law_73 : decode cX2_law 73 = .ok (.istore_n 3, 1) := dk_62 (dk_at dksX2_law_3 4 rfl rfl)
theorem dX2_law_74 : decode cX2_law 74 = .ok (.iload_n 3, 1) := dk_29 (dk_at dksX2_law_3 5 rfl rfl)
theorem dX2_law_75 : decode cX2_law 75 = .ok (.ifCond .eq 16, 3) := dk_153 0 16 (dk_at dksX2_law_3 6 rfl rfl)
theorem dX2_law_78 : decode cX2_law 78 = .ok (.aload_n 0, 1) := dk_42 (dk_at dksX2_law_3 9 rfl rfl)
theorem dX2_law_79 : decode cX2_law 79 = .ok (.dup, 1) := dk_89 (dk_at dksX2_law_3 10 rfl rfl)
theorem dX2_law_80 : decode cX2_law 80 = .ok (.getfield 79, 3) := dk_180 0 79 (dk_at dksX2_law_3 11 rfl rfl)
theorem dX2_law_83 : decode cX2_law 83 = .ok (.iconst 1, 1) := dk_4 (dk_at dksX2_law_3 14 rfl rfl)
theorem dX2_law_84 : decode cX2_law 84 = .ok (.iadd, 1) := dk_96 (dk_at dksX2_law_3 15 rfl rfl)
theorem dX2_law_85 : decode cX2_law 85 = .ok (.putfield 79, 3) := dk_181 0 79 (dk_at dksX2_law_3 16 rfl rfl)
theorem dX2_law_88 : decode cX2_law 88 = .ok (.goto 19, 3) := dk_167 0 19 (dk_at dksX2_law_3 19 rfl rfl)
theorem dX2_law_91 : decode cX2_law 91 = .ok (.aload_n 0, 1) := dk_42 (dk_at dksX2_law_3 22 rfl rfl)
theorem dX2_law_92 : decode cX2_law 92 = .ok (.invokevirtual 85, 3) := dk_182 0 85 (dk_at dksX2_law_4 0 rfl rfl)
theorem dX2_law_95 : decode cX2_law 95 = .ok (.iconst (-1), 1) := dk_2 (dk_at dksX2_law_4 3 rfl rfl)
theorem dX2_law_96 : decode cX2_law 96 = .ok (.if_icmp .eq 11, 3) := dk_159 0 11 (dk_at dksX2_law_4 4 rfl rfl)
theorem dX2_law_99 : decode cX2_law 99 = .ok (.aload_n 0, 1) := dk_42 (dk_at dksX2_law_4 7 rfl rfl)
theorem dX2_law_100 : decode cX2_law 100 = .ok (.aload_n 0, 1) := dk_42 (dk_at dksX2_law_4 8 rfl rfl)
theorem dX2_law_101 : decode cX2_law 101 = .ok (.getfield 79, 3) := dk_180 0 79 (dk_at dksX2_law_4 9 rfl rfl)
theorem dX2_law_104 : decode cX2_law 104 = .ok (.invokevirtual 96, 3) := dk_182 0 96 (dk_at dksX2_law_4 12 rfl rfl)
theorem dX2_law_107 : decode cX2_law 107 = .ok (.goto (-85), 3) := dk_167 255 171 (dk_at dksX2_law_4 15 rfl rfl)
theorem dX2_law_110 : decode cX2_law 110 = .ok (.new 115, 3) := dk_187 0 115 (dk_at dksX2_law_4 18 rfl rfl)
theorem dX2_law_113 : decode cX2_law 113 = .ok (.dup, 1) := dk_89 (dk_at dksX2_law_4 21 rfl rfl)
theorem dX2_law_114 : decode cX2_law 114 = .ok (.aload_n 0, 1) := dk_42 (dk_at dksX2_law_4 22 rfl rfl)
theorem dX2_law_115 : decode cX2_law 115 = .ok (.getfield 64, 3) := dk_180 0 64 (dk_at dksX2_law_5 0 rfl rfl)
theorem dX2_law_118 : decode cX2_law 118 = .ok (.iload_n 2, 1) := dk_28 (dk_at dksX2_law_5 3 rfl rfl)
theorem dX2_law_119 : decode cX2_law 119 = .ok (.invokespecial 117, 3) := dk_183 0 117 (dk_at dksX2_law_5 4 rfl rfl)
theorem dX2_law_122 : decode cX2_law 122 = .ok (.areturn, 1) := dk_176 (dk_at dksX2_law_5 7 rfl rfl)
abbrev cX2_begins : ByteArray := prog_20_method_6_code
def yX2_begins : MethodName := ⟨RX2, "begins", "(IZ)V"⟩
def dkwX2_begins_0 : List UInt8 := [42, 27, 181, 0, 82, 42, 3, 181, 0, 79, 42, 3, 181, 0, 100, 42, 28, 181, 0, 103, 177]
abbrev dktX2_begins_0 : List UInt8 := dkwX2_begins_0 ++ []
theorem dksX2_begins_0 : cX2_begins.data.toList.drop 0 = dktX2_begins_0 := by decide +kernel
theorem dX2_begins_0 : decode cX2_begins 0 = .ok (.aload_n 0, 1) := dk_42 (dk_at dksX2_begins_0 0 rfl rfl)
theorem dX2_begins_1 : decode cX2_begins 1 = .ok (.iload_n 1, 1) := dk_27 (dk_at dksX2_begins_0 1 rfl rfl)
theorem dX2_begins_2 : decode cX2_begins 2 = .ok (.putfield 82, 3) := dk_181 0 82 (dk_at dksX2_begins_0 2 rfl rfl)
theorem dX2_begins_5 : decode cX2_begins 5 = .ok (.aload_n 0, 1) := dk_42 (dk_at dksX2_begins_0 5 rfl rfl)
theorem dX2_begins_6 : decode cX2_begins 6 = .ok (.iconst 0, 1) := dk_3 (dk_at dksX2_begins_0 6 rfl rfl)
theorem dX2_begins_7 : decode cX2_begins 7 = .ok (.putfield 79, 3) := dk_181 0 79 (dk_at dksX2_begins_0 7 rfl rfl)
theorem dX2_begins_10 : decode cX2_begins 10 = .ok (.aload_n 0, 1) := dk_42 (dk_at dksX2_begins_0 10 rfl rfl)
theorem dX2_begins_11 : decode cX2_begins 11 = .ok (.iconst 0, 1) := dk_3 (dk_at dksX2_begins_0 11 rfl rfl)
theorem dX2_begins_12 : decode cX2_begins 12 = .ok (.putfield 100, 3) := dk_181 0 100 (dk_at dksX2_begins_0 12 rfl rfl)
theorem dX2_begins_15 : decode cX2_begins 15 = .ok (.aload_n 0, 1) := dk_42 (dk_at dksX2_begins_0 15 rfl rfl)
theorem dX2_begins_16 : decode cX2_begins 16 = .ok (.iload_n 2, 1) := dk_28 (dk_at dksX2_begins_0 16 rfl rfl)
theorem dX2_begins_17 : decode cX2_begins 17 = .ok (.putfield 103, 3) := dk_181 0 103 (dk_at dksX2_begins_0 17 rfl rfl)
theorem dX2_begins_20 : decode cX2_begins 20 = .ok (.return_, 1) := dk_177 (dk_at dksX2_begins_0 20 rfl rfl)
abbrev cX2_sign : ByteArray := prog_20_method_3_code
def yX2_sign : MethodName := ⟨RX2, "sign", "()I"⟩
def dkwX2_sign_2 : List UInt8 := [162, 0, 19, 42, 180, 0, 9, 42, 180, 0, 79, 51, 17, 0, 255, 126, 167, 0, 4, 2, 172]
abbrev dktX2_sign_2 : List UInt8 := dkwX2_sign_2 ++ []
def dkwX2_sign_1 : List UInt8 := [160, 0, 16, 42, 89, 180, 0, 79, 4, 96, 181, 0, 79, 167, 255, 221, 42, 180, 0, 79, 42, 180, 0, 82]
abbrev dktX2_sign_1 : List UInt8 := dkwX2_sign_1 ++ dktX2_sign_2
def dkwX2_sign_0 : List UInt8 := [42, 180, 0, 79, 42, 180, 0, 82, 162, 0, 30, 42, 180, 0, 9, 42, 180, 0, 79, 51, 16, 32]
abbrev dktX2_sign_0 : List UInt8 := dkwX2_sign_0 ++ dktX2_sign_1
theorem dksX2_sign_0 : cX2_sign.data.toList.drop 0 = dktX2_sign_0 := by decide +kernel
theorem dksX2_sign_1 : cX2_sign.data.toList.drop 22 = dktX2_sign_1 := dk_seg dksX2_sign_0 22 rfl rfl
theorem dksX2_sign_2 : cX2_sign.data.toList.drop 46 = dktX2_sign_2 := dk_seg dksX2_sign_1 24 rfl rfl
theorem dX2_sign_0 : decode cX2_sign 0 = .ok (.aload_n 0, 1) := dk_42 (dk_at dksX2_sign_0 0 rfl rfl)
theorem dX2_sign_1 : decode cX2_sign 1 = .ok (.getfield 79, 3) := dk_180 0 79 (dk_at dksX2_sign_0 1 rfl rfl)
theorem dX2_sign_4 : decode cX2_sign 4 = .ok (.aload_n 0, 1) := dk_42 (dk_at dksX2_sign_0 4 rfl rfl)
theorem dX2_sign_5 : decode cX2_sign 5 = .ok (.getfield 82, 3) := dk_180 0 82 (dk_at dksX2_sign_0 5 rfl rfl)
theorem dX2_sign_8 : decode cX2_sign 8 = .ok (.if_icmp .ge 30, 3) := dk_162 0 30 (dk_at dksX2_sign_0 8 rfl rfl)
theorem dX2_sign_11 : decode cX2_sign 11 = .ok (.aload_n 0, 1) := dk_42 (dk_at dksX2_sign_0 11 rfl rfl)
theorem dX2_sign_12 : decode cX2_sign 12 = .ok (.getfield 9, 3) := dk_180 0 9 (dk_at dksX2_sign_0 12 rfl rfl)
theorem dX2_sign_15 : decode cX2_sign 15 = .ok (.aload_n 0, 1) := dk_42 (dk_at dksX2_sign_0 15 rfl rfl)
theorem dX2_sign_16 : decode cX2_sign 16 = .ok (.getfield 79, 3) := dk_180 0 79 (dk_at dksX2_sign_0 16 rfl rfl)
theorem dX2_sign_19 : decode cX2_sign 19 = .ok (.baload, 1) := dk_51 (dk_at dksX2_sign_0 19 rfl rfl)
theorem dX2_sign_20 : decode cX2_sign 20 = .ok (.bipush 32, 2) := dk_16 32 (dk_at dksX2_sign_0 20 rfl rfl)
theorem dX2_sign_22 : decode cX2_sign 22 = .ok (.if_icmp .ne 16, 3) := dk_160 0 16 (dk_at dksX2_sign_1 0 rfl rfl)
theorem dX2_sign_25 : decode cX2_sign 25 = .ok (.aload_n 0, 1) := dk_42 (dk_at dksX2_sign_1 3 rfl rfl)
theorem dX2_sign_26 : decode cX2_sign 26 = .ok (.dup, 1) := dk_89 (dk_at dksX2_sign_1 4 rfl rfl)
theorem dX2_sign_27 : decode cX2_sign 27 = .ok (.getfield 79, 3) := dk_180 0 79 (dk_at dksX2_sign_1 5 rfl rfl)
theorem dX2_sign_30 : decode cX2_sign 30 = .ok (.iconst 1, 1) := dk_4 (dk_at dksX2_sign_1 8 rfl rfl)
theorem dX2_sign_31 : decode cX2_sign 31 = .ok (.iadd, 1) := dk_96 (dk_at dksX2_sign_1 9 rfl rfl)
theorem dX2_sign_32 : decode cX2_sign 32 = .ok (.putfield 79, 3) := dk_181 0 79 (dk_at dksX2_sign_1 10 rfl rfl)
theorem dX2_sign_35 : decode cX2_sign 35 = .ok (.goto (-35), 3) := dk_167 255 221 (dk_at dksX2_sign_1 13 rfl rfl)
theorem dX2_sign_38 : decode cX2_sign 38 = .ok (.aload_n 0, 1) := dk_42 (dk_at dksX2_sign_1 16 rfl rfl)
theorem dX2_sign_39 : decode cX2_sign 39 = .ok (.getfield 79, 3) := dk_180 0 79 (dk_at dksX2_sign_1 17 rfl rfl)
theorem dX2_sign_42 : decode cX2_sign 42 = .ok (.aload_n 0, 1) := dk_42 (dk_at dksX2_sign_1 20 rfl rfl)
theorem dX2_sign_43 : decode cX2_sign 43 = .ok (.getfield 82, 3) := dk_180 0 82 (dk_at dksX2_sign_1 21 rfl rfl)
theorem dX2_sign_46 : decode cX2_sign 46 = .ok (.if_icmp .ge 19, 3) := dk_162 0 19 (dk_at dksX2_sign_2 0 rfl rfl)
theorem dX2_sign_49 : decode cX2_sign 49 = .ok (.aload_n 0, 1) := dk_42 (dk_at dksX2_sign_2 3 rfl rfl)
theorem dX2_sign_50 : decode cX2_sign 50 = .ok (.getfield 9, 3) := dk_180 0 9 (dk_at dksX2_sign_2 4 rfl rfl)
theorem dX2_sign_53 : decode cX2_sign 53 = .ok (.aload_n 0, 1) := dk_42 (dk_at dksX2_sign_2 7 rfl rfl)
theorem dX2_sign_54 : decode cX2_sign 54 = .ok (.getfield 79, 3) := dk_180 0 79 (dk_at dksX2_sign_2 8 rfl rfl)
theorem dX2_sign_57 : decode cX2_sign 57 = .ok (.baload, 1) := dk_51 (dk_at dksX2_sign_2 11 rfl rfl)
theorem dX2_sign_58 : decode cX2_sign 58 = .ok (.sipush 255, 3) := dk_17 0 255 (dk_at dksX2_sign_2 12 rfl rfl)
theorem dX2_sign_61 : decode cX2_sign 61 = .ok (.iand, 1) := dk_126 (dk_at dksX2_sign_2 15 rfl rfl)
theorem dX2_sign_62 : decode cX2_sign 62 = .ok (.goto 4, 3) := dk_167 0 4 (dk_at dksX2_sign_2 16 rfl rfl)
theorem dX2_sign_65 : decode cX2_sign 65 = .ok (.iconst (-1), 1) := dk_2 (dk_at dksX2_sign_2 19 rfl rfl)
theorem dX2_sign_66 : decode cX2_sign 66 = .ok (.ireturn, 1) := dk_172 (dk_at dksX2_sign_2 20 rfl rfl)
abbrev cX2_fail : ByteArray := prog_20_method_2_code
def yX2_fail : MethodName := ⟨RX2, "fail", "(I)V"⟩
def dkwX2_fail_0 : List UInt8 := [42, 180, 0, 71, 27, 181, 0, 75, 42, 180, 0, 71, 191]
abbrev dktX2_fail_0 : List UInt8 := dkwX2_fail_0 ++ []
theorem dksX2_fail_0 : cX2_fail.data.toList.drop 0 = dktX2_fail_0 := by decide +kernel
theorem dX2_fail_0 : decode cX2_fail 0 = .ok (.aload_n 0, 1) := dk_42 (dk_at dksX2_fail_0 0 rfl rfl)
theorem dX2_fail_1 : decode cX2_fail 1 = .ok (.getfield 71, 3) := dk_180 0 71 (dk_at dksX2_fail_0 1 rfl rfl)
theorem dX2_fail_4 : decode cX2_fail 4 = .ok (.iload_n 1, 1) := dk_27 (dk_at dksX2_fail_0 4 rfl rfl)
theorem dX2_fail_5 : decode cX2_fail 5 = .ok (.putfield 75, 3) := dk_181 0 75 (dk_at dksX2_fail_0 5 rfl rfl)
theorem dX2_fail_8 : decode cX2_fail 8 = .ok (.aload_n 0, 1) := dk_42 (dk_at dksX2_fail_0 8 rfl rfl)
theorem dX2_fail_9 : decode cX2_fail 9 = .ok (.getfield 71, 3) := dk_180 0 71 (dk_at dksX2_fail_0 9 rfl rfl)
theorem dX2_fail_12 : decode cX2_fail 12 = .ok (.athrow, 1) := dk_191 (dk_at dksX2_fail_0 12 rfl rfl)
abbrev cX2_line : ByteArray := prog_20_method_9_code
def yX2_line : MethodName := ⟨RX2, "line", "()LGrassField$Line;"⟩
def dkwX2_line_6 : List UInt8 := [183, 0, 139, 176, 187, 0, 140, 89, 44, 183, 0, 142, 176, 187, 0, 143, 89, 44, 183, 0, 145, 176]
abbrev dktX2_line_6 : List UInt8 := dkwX2_line_6 ++ []
def dkwX2_line_5 : List UInt8 := [187, 0, 129, 89, 44, 183, 0, 131, 176, 187, 0, 134, 89, 44, 183, 0, 136, 176, 187, 0, 137, 89, 44]
abbrev dktX2_line_5 : List UInt8 := dkwX2_line_5 ++ dktX2_line_6
def dkwX2_line_4 : List UInt8 := [170, 0, 0, 0, 0, 0, 0, 68, 0, 0, 0, 0, 0, 0, 0, 3, 0, 0, 0, 32, 0, 0, 0, 41, 0, 0, 0, 50, 0, 0, 0, 59]
abbrev dktX2_line_4 : List UInt8 := dkwX2_line_4 ++ dktX2_line_5
def dkwX2_line_3 : List UInt8 := [167, 0, 4, 1, 77, 27]
abbrev dktX2_line_3 : List UInt8 := dkwX2_line_3 ++ dktX2_line_4
def dkwX2_line_2 : List UInt8 := [42, 42, 180, 0, 79, 182, 0, 96, 42, 18, 127, 182, 0, 123, 153, 0, 11, 42, 3, 182, 0, 120]
abbrev dktX2_line_2 : List UInt8 := dkwX2_line_2 ++ dktX2_line_3
def dkwX2_line_1 : List UInt8 := [50, 182, 0, 123, 153, 0, 7, 28, 167, 0, 4, 2, 60, 132, 2, 1, 167, 255, 220, 27, 2, 160, 0, 11]
abbrev dktX2_line_1 : List UInt8 := dkwX2_line_1 ++ dktX2_line_2
def dkwX2_line_0 : List UInt8 := [2, 60, 3, 61, 28, 42, 180, 0, 59, 190, 162, 0, 33, 27, 2, 160, 0, 28, 42, 42, 180, 0, 59, 28]
abbrev dktX2_line_0 : List UInt8 := dkwX2_line_0 ++ dktX2_line_1
theorem dksX2_line_0 : cX2_line.data.toList.drop 0 = dktX2_line_0 := by decide +kernel
theorem dksX2_line_1 : cX2_line.data.toList.drop 24 = dktX2_line_1 := dk_seg dksX2_line_0 24 rfl rfl
theorem dksX2_line_2 : cX2_line.data.toList.drop 48 = dktX2_line_2 := dk_seg dksX2_line_1 24 rfl rfl
theorem dksX2_line_3 : cX2_line.data.toList.drop 70 = dktX2_line_3 := dk_seg dksX2_line_2 22 rfl rfl
theorem dksX2_line_4 : cX2_line.data.toList.drop 76 = dktX2_line_4 := dk_seg dksX2_line_3 6 rfl rfl
theorem dksX2_line_5 : cX2_line.data.toList.drop 108 = dktX2_line_5 := dk_seg dksX2_line_4 32 rfl rfl
theorem dksX2_line_6 : cX2_line.data.toList.drop 131 = dktX2_line_6 := dk_seg dksX2_line_5 23 rfl rfl
theorem dX2_line_0 : decode cX2_line 0 = .ok (.iconst (-1), 1) := dk_2 (dk_at dksX2_line_0 0 rfl rfl)
theorem dX2_line_1 : decode cX2_line 1 = .ok (.istore_n 1, 1) := dk_60 (dk_at dksX2_line_0 1 rfl rfl)
theorem dX2_line_2 : decode cX2_line 2 = .ok (.iconst 0, 1) := dk_3 (dk_at dksX2_line_0 2 rfl rfl)
theorem dX2_line_3 : decode cX2_line 3 = .ok (.istore_n 2, 1) := dk_61 (dk_at dksX2_line_0 3 rfl rfl)
theorem dX2_line_4 : decode cX2_line 4 = .ok (.iload_n 2, 1) := dk_28 (dk_at dksX2_line_0 4 rfl rfl)
theorem dX2_line_5 : decode cX2_line 5 = .ok (.aload_n 0, 1) := dk_42 (dk_at dksX2_line_0 5 rfl rfl)
theorem dX2_line_6 : decode cX2_line 6 = .ok (.getfield 59, 3) := dk_180 0 59 (dk_at dksX2_line_0 6 rfl rfl)
theorem dX2_line_9 : decode cX2_line 9 = .ok (.arraylength, 1) := dk_190 (dk_at dksX2_line_0 9 rfl rfl)
theorem dX2_line_10 : decode cX2_line 10 = .ok (.if_icmp .ge 33, 3) := dk_162 0 33 (dk_at dksX2_line_0 10 rfl rfl)
theorem dX2_line_13 : decode cX2_line 13 = .ok (.iload_n 1, 1) := dk_27 (dk_at dksX2_line_0 13 rfl rfl)
theorem dX2_line_14 : decode cX2_line 14 = .ok (.iconst (-1), 1) := dk_2 (dk_at dksX2_line_0 14 rfl rfl)
theorem dX2_line_15 : decode cX2_line 15 = .ok (.if_icmp .ne 28, 3) := dk_160 0 28 (dk_at dksX2_line_0 15 rfl rfl)
theorem dX2_line_18 : decode cX2_line 18 = .ok (.aload_n 0, 1) := dk_42 (dk_at dksX2_line_0 18 rfl rfl)
theorem dX2_line_19 : decode cX2_line 19 = .ok (.aload_n 0, 1) := dk_42 (dk_at dksX2_line_0 19 rfl rfl)
theorem dX2_line_20 : decode cX2_line 20 = .ok (.getfield 59, 3) := dk_180 0 59 (dk_at dksX2_line_0 20 rfl rfl)
theorem dX2_line_23 : decode cX2_line 23 = .ok (.iload_n 2, 1) := dk_28 (dk_at dksX2_line_0 23 rfl rfl)
theorem dX2_line_24 : decode cX2_line 24 = .ok (.aaload, 1) := dk_50 (dk_at dksX2_line_1 0 rfl rfl)
theorem dX2_line_25 : decode cX2_line 25 = .ok (.invokevirtual 123, 3) := dk_182 0 123 (dk_at dksX2_line_1 1 rfl rfl)
theorem dX2_line_28 : decode cX2_line 28 = .ok (.ifCond .eq 7, 3) := dk_153 0 7 (dk_at dksX2_line_1 4 rfl rfl)
theorem dX2_line_31 : decode cX2_line 31 = .ok (.iload_n 2, 1) := dk_28 (dk_at dksX2_line_1 7 rfl rfl)
theorem dX2_line_32 : decode cX2_line 32 = .ok (.goto 4, 3) := dk_167 0 4 (dk_at dksX2_line_1 8 rfl rfl)
theorem dX2_line_35 : decode cX2_line 35 = .ok (.iconst (-1), 1) := dk_2 (dk_at dksX2_line_1 11 rfl rfl)
theorem dX2_line_36 : decode cX2_line 36 = .ok (.istore_n 1, 1) := dk_60 (dk_at dksX2_line_1 12 rfl rfl)
theorem dX2_line_37 : decode cX2_line 37 = .ok (.iinc 2 1, 3) := dk_132 2 1 (dk_at dksX2_line_1 13 rfl rfl)
theorem dX2_line_40 : decode cX2_line 40 = .ok (.goto (-36), 3) := dk_167 255 220 (dk_at dksX2_line_1 16 rfl rfl)
theorem dX2_line_43 : decode cX2_line 43 = .ok (.iload_n 1, 1) := dk_27 (dk_at dksX2_line_1 19 rfl rfl)
theorem dX2_line_44 : decode cX2_line 44 = .ok (.iconst (-1), 1) := dk_2 (dk_at dksX2_line_1 20 rfl rfl)
theorem dX2_line_45 : decode cX2_line 45 = .ok (.if_icmp .ne 11, 3) := dk_160 0 11 (dk_at dksX2_line_1 21 rfl rfl)
theorem dX2_line_48 : decode cX2_line 48 = .ok (.aload_n 0, 1) := dk_42 (dk_at dksX2_line_2 0 rfl rfl)
theorem dX2_line_49 : decode cX2_line 49 = .ok (.aload_n 0, 1) := dk_42 (dk_at dksX2_line_2 1 rfl rfl)
theorem dX2_line_50 : decode cX2_line 50 = .ok (.getfield 79, 3) := dk_180 0 79 (dk_at dksX2_line_2 2 rfl rfl)
theorem dX2_line_53 : decode cX2_line 53 = .ok (.invokevirtual 96, 3) := dk_182 0 96 (dk_at dksX2_line_2 5 rfl rfl)
theorem dX2_line_56 : decode cX2_line 56 = .ok (.aload_n 0, 1) := dk_42 (dk_at dksX2_line_2 8 rfl rfl)
theorem dX2_line_57 : decode cX2_line 57 = .ok (.ldc 127, 2) := dk_18 127 (dk_at dksX2_line_2 9 rfl rfl)
theorem dX2_line_59 : decode cX2_line 59 = .ok (.invokevirtual 123, 3) := dk_182 0 123 (dk_at dksX2_line_2 11 rfl rfl)
theorem dX2_line_62 : decode cX2_line 62 = .ok (.ifCond .eq 11, 3) := dk_153 0 11 (dk_at dksX2_line_2 14 rfl rfl)
theorem dX2_line_65 : decode cX2_line 65 = .ok (.aload_n 0, 1) := dk_42 (dk_at dksX2_line_2 17 rfl rfl)
theorem dX2_line_66 : decode cX2_line 66 = .ok (.iconst 0, 1) := dk_3 (dk_at dksX2_line_2 18 rfl rfl)
theorem dX2_line_67 : decode cX2_line 67 = .ok (.invokevirtual 120, 3) := dk_182 0 120 (dk_at dksX2_line_2 19 rfl rfl)
theorem dX2_line_70 : decode cX2_line 70 = .ok (.goto 4, 3) := dk_167 0 4 (dk_at dksX2_line_3 0 rfl rfl)
theorem dX2_line_73 : decode cX2_line 73 = .ok (.aconst_null, 1) := dk_1 (dk_at dksX2_line_3 3 rfl rfl)
theorem dX2_line_74 : decode cX2_line 74 = .ok (.astore_n 2, 1) := dk_77 (dk_at dksX2_line_3 4 rfl rfl)
theorem dX2_line_75 : decode cX2_line 75 = .ok (.iload_n 1, 1) := dk_27 (dk_at dksX2_line_3 5 rfl rfl)
theorem dX2_line_76 : decode cX2_line 76 = .ok (.tableswitch 68 0 3 #[32, 41, 50, 59], 32) := by decide +kernel
theorem dX2_line_108 : decode cX2_line 108 = .ok (.new 129, 3) := dk_187 0 129 (dk_at dksX2_line_5 0 rfl rfl)
theorem dX2_line_111 : decode cX2_line 111 = .ok (.dup, 1) := dk_89 (dk_at dksX2_line_5 3 rfl rfl)
theorem dX2_line_112 : decode cX2_line 112 = .ok (.aload_n 2, 1) := dk_44 (dk_at dksX2_line_5 4 rfl rfl)
theorem dX2_line_113 : decode cX2_line 113 = .ok (.invokespecial 131, 3) := dk_183 0 131 (dk_at dksX2_line_5 5 rfl rfl)
theorem dX2_line_116 : decode cX2_line 116 = .ok (.areturn, 1) := dk_176 (dk_at dksX2_line_5 8 rfl rfl)
theorem dX2_line_117 : decode cX2_line 117 = .ok (.new 134, 3) := dk_187 0 134 (dk_at dksX2_line_5 9 rfl rfl)
theorem dX2_line_120 : decode cX2_line 120 = .ok (.dup, 1) := dk_89 (dk_at dksX2_line_5 12 rfl rfl)
theorem dX2_line_121 : decode cX2_line 121 = .ok (.aload_n 2, 1) := dk_44 (dk_at dksX2_line_5 13 rfl rfl)
theorem dX2_line_122 : decode cX2_line 122 = .ok (.invokespecial 136, 3) := dk_183 0 136 (dk_at dksX2_line_5 14 rfl rfl)
theorem dX2_line_125 : decode cX2_line 125 = .ok (.areturn, 1) := dk_176 (dk_at dksX2_line_5 17 rfl rfl)
theorem dX2_line_126 : decode cX2_line 126 = .ok (.new 137, 3) := dk_187 0 137 (dk_at dksX2_line_5 18 rfl rfl)
theorem dX2_line_129 : decode cX2_line 129 = .ok (.dup, 1) := dk_89 (dk_at dksX2_line_5 21 rfl rfl)
theorem dX2_line_130 : decode cX2_line 130 = .ok (.aload_n 2, 1) := dk_44 (dk_at dksX2_line_5 22 rfl rfl)
theorem dX2_line_131 : decode cX2_line 131 = .ok (.invokespecial 139, 3) := dk_183 0 139 (dk_at dksX2_line_6 0 rfl rfl)
theorem dX2_line_134 : decode cX2_line 134 = .ok (.areturn, 1) := dk_176 (dk_at dksX2_line_6 3 rfl rfl)
theorem dX2_line_135 : decode cX2_line 135 = .ok (.new 140, 3) := dk_187 0 140 (dk_at dksX2_line_6 4 rfl rfl)
theorem dX2_line_138 : decode cX2_line 138 = .ok (.dup, 1) := dk_89 (dk_at dksX2_line_6 7 rfl rfl)
theorem dX2_line_139 : decode cX2_line 139 = .ok (.aload_n 2, 1) := dk_44 (dk_at dksX2_line_6 8 rfl rfl)
theorem dX2_line_140 : decode cX2_line 140 = .ok (.invokespecial 142, 3) := dk_183 0 142 (dk_at dksX2_line_6 9 rfl rfl)
theorem dX2_line_143 : decode cX2_line 143 = .ok (.areturn, 1) := dk_176 (dk_at dksX2_line_6 12 rfl rfl)
theorem dX2_line_144 : decode cX2_line 144 = .ok (.new 143, 3) := dk_187 0 143 (dk_at dksX2_line_6 13 rfl rfl)
theorem dX2_line_147 : decode cX2_line 147 = .ok (.dup, 1) := dk_89 (dk_at dksX2_line_6 16 rfl rfl)
theorem dX2_line_148 : decode cX2_line 148 = .ok (.aload_n 2, 1) := dk_44 (dk_at dksX2_line_6 17 rfl rfl)
theorem dX2_line_149 : decode cX2_line 149 = .ok (.invokespecial 145, 3) := dk_183 0 145 (dk_at dksX2_line_6 18 rfl rfl)
theorem dX2_line_152 : decode cX2_line 152 = .ok (.areturn, 1) := dk_176 (dk_at dksX2_line_6 21 rfl rfl)
abbrev cX2_takes : ByteArray := prog_20_method_4_code
def yX2_takes : MethodName := ⟨RX2, "takes", "(Ljava/lang/String;)Z"⟩
def dkwX2_takes_5 : List UInt8 := [153, 0, 8, 42, 29, 181, 0, 79, 21, 4, 172]
abbrev dktX2_takes_5 : List UInt8 := dkwX2_takes_5 ++ []
def dkwX2_takes_4 : List UInt8 := [21, 5, 182, 0, 92, 160, 0, 7, 4, 167, 0, 4, 3, 54, 4, 132, 5, 1, 167, 255, 211, 21, 4]
abbrev dktX2_takes_4 : List UInt8 := dkwX2_takes_4 ++ dktX2_takes_5
def dkwX2_takes_3 : List UInt8 := [182, 0, 89, 162, 0, 42, 21, 4, 153, 0, 37, 42, 180, 0, 9, 42, 180, 0, 79, 21, 5, 96, 51, 43]
abbrev dktX2_takes_3 : List UInt8 := dkwX2_takes_3 ++ dktX2_takes_4
def dkwX2_takes_2 : List UInt8 := [180, 0, 79, 100, 43, 182, 0, 89, 160, 0, 7, 4, 167, 0, 4, 3, 54, 4, 3, 54, 5, 21, 5, 43]
abbrev dktX2_takes_2 : List UInt8 := dkwX2_takes_2 ++ dktX2_takes_3
def dkwX2_takes_1 : List UInt8 := [16, 97, 161, 0, 20, 42, 180, 0, 9, 29, 51, 16, 122, 163, 0, 9, 132, 3, 1, 167, 255, 223, 29, 42]
abbrev dktX2_takes_1 : List UInt8 := dkwX2_takes_1 ++ dktX2_takes_2
def dkwX2_takes_0 : List UInt8 := [42, 182, 0, 85, 61, 42, 180, 0, 79, 62, 29, 42, 180, 0, 82, 162, 0, 31, 42, 180, 0, 9, 29, 51]
abbrev dktX2_takes_0 : List UInt8 := dkwX2_takes_0 ++ dktX2_takes_1
theorem dksX2_takes_0 : cX2_takes.data.toList.drop 0 = dktX2_takes_0 := by decide +kernel
theorem dksX2_takes_1 : cX2_takes.data.toList.drop 24 = dktX2_takes_1 := dk_seg dksX2_takes_0 24 rfl rfl
theorem dksX2_takes_2 : cX2_takes.data.toList.drop 48 = dktX2_takes_2 := dk_seg dksX2_takes_1 24 rfl rfl
theorem dksX2_takes_3 : cX2_takes.data.toList.drop 72 = dktX2_takes_3 := dk_seg dksX2_takes_2 24 rfl rfl
theorem dksX2_takes_4 : cX2_takes.data.toList.drop 96 = dktX2_takes_4 := dk_seg dksX2_takes_3 24 rfl rfl
theorem dksX2_takes_5 : cX2_takes.data.toList.drop 119 = dktX2_takes_5 := dk_seg dksX2_takes_4 23 rfl rfl
theorem dX2_takes_0 : decode cX2_takes 0 = .ok (.aload_n 0, 1) := dk_42 (dk_at dksX2_takes_0 0 rfl rfl)
theorem dX2_takes_1 : decode cX2_takes 1 = .ok (.invokevirtual 85, 3) := dk_182 0 85 (dk_at dksX2_takes_0 1 rfl rfl)
theorem dX2_takes_4 : decode cX2_takes 4 = .ok (.istore_n 2, 1) := dk_61 (dk_at dksX2_takes_0 4 rfl rfl)
theorem dX2_takes_5 : decode cX2_takes 5 = .ok (.aload_n 0, 1) := dk_42 (dk_at dksX2_takes_0 5 rfl rfl)
theorem dX2_takes_6 : decode cX2_takes 6 = .ok (.getfield 79, 3) := dk_180 0 79 (dk_at dksX2_takes_0 6 rfl rfl)
theorem dX2_takes_9 : decode cX2_takes 9 = .ok (.istore_n 3, 1) := dk_62 (dk_at dksX2_takes_0 9 rfl rfl)
theorem dX2_takes_10 : decode cX2_takes 10 = .ok (.iload_n 3, 1) := dk_29 (dk_at dksX2_takes_0 10 rfl rfl)
theorem dX2_takes_11 : decode cX2_takes 11 = .ok (.aload_n 0, 1) := dk_42 (dk_at dksX2_takes_0 11 rfl rfl)
theorem dX2_takes_12 : decode cX2_takes 12 = .ok (.getfield 82, 3) := dk_180 0 82 (dk_at dksX2_takes_0 12 rfl rfl)
theorem dX2_takes_15 : decode cX2_takes 15 = .ok (.if_icmp .ge 31, 3) := dk_162 0 31 (dk_at dksX2_takes_0 15 rfl rfl)
theorem dX2_takes_18 : decode cX2_takes 18 = .ok (.aload_n 0, 1) := dk_42 (dk_at dksX2_takes_0 18 rfl rfl)
theorem dX2_takes_19 : decode cX2_takes 19 = .ok (.getfield 9, 3) := dk_180 0 9 (dk_at dksX2_takes_0 19 rfl rfl)
theorem dX2_takes_22 : decode cX2_takes 22 = .ok (.iload_n 3, 1) := dk_29 (dk_at dksX2_takes_0 22 rfl rfl)
theorem dX2_takes_23 : decode cX2_takes 23 = .ok (.baload, 1) := dk_51 (dk_at dksX2_takes_0 23 rfl rfl)
theorem dX2_takes_24 : decode cX2_takes 24 = .ok (.bipush 97, 2) := dk_16 97 (dk_at dksX2_takes_1 0 rfl rfl)
theorem dX2_takes_26 : decode cX2_takes 26 = .ok (.if_icmp .lt 20, 3) := dk_161 0 20 (dk_at dksX2_takes_1 2 rfl rfl)
theorem dX2_takes_29 : decode cX2_takes 29 = .ok (.aload_n 0, 1) := dk_42 (dk_at dksX2_takes_1 5 rfl rfl)
theorem dX2_takes_30 : decode cX2_takes 30 = .ok (.getfield 9, 3) := dk_180 0 9 (dk_at dksX2_takes_1 6 rfl rfl)
theorem dX2_takes_33 : decode cX2_takes 33 = .ok (.iload_n 3, 1) := dk_29 (dk_at dksX2_takes_1 9 rfl rfl)
theorem dX2_takes_34 : decode cX2_takes 34 = .ok (.baload, 1) := dk_51 (dk_at dksX2_takes_1 10 rfl rfl)
theorem dX2_takes_35 : decode cX2_takes 35 = .ok (.bipush 122, 2) := dk_16 122 (dk_at dksX2_takes_1 11 rfl rfl)
theorem dX2_takes_37 : decode cX2_takes 37 = .ok (.if_icmp .gt 9, 3) := dk_163 0 9 (dk_at dksX2_takes_1 13 rfl rfl)
theorem dX2_takes_40 : decode cX2_takes 40 = .ok (.iinc 3 1, 3) := dk_132 3 1 (dk_at dksX2_takes_1 16 rfl rfl)
theorem dX2_takes_43 : decode cX2_takes 43 = .ok (.goto (-33), 3) := dk_167 255 223 (dk_at dksX2_takes_1 19 rfl rfl)
theorem dX2_takes_46 : decode cX2_takes 46 = .ok (.iload_n 3, 1) := dk_29 (dk_at dksX2_takes_1 22 rfl rfl)
theorem dX2_takes_47 : decode cX2_takes 47 = .ok (.aload_n 0, 1) := dk_42 (dk_at dksX2_takes_1 23 rfl rfl)
theorem dX2_takes_48 : decode cX2_takes 48 = .ok (.getfield 79, 3) := dk_180 0 79 (dk_at dksX2_takes_2 0 rfl rfl)
theorem dX2_takes_51 : decode cX2_takes 51 = .ok (.isub, 1) := dk_100 (dk_at dksX2_takes_2 3 rfl rfl)
theorem dX2_takes_52 : decode cX2_takes 52 = .ok (.aload_n 1, 1) := dk_43 (dk_at dksX2_takes_2 4 rfl rfl)
theorem dX2_takes_53 : decode cX2_takes 53 = .ok (.invokevirtual 89, 3) := dk_182 0 89 (dk_at dksX2_takes_2 5 rfl rfl)
theorem dX2_takes_56 : decode cX2_takes 56 = .ok (.if_icmp .ne 7, 3) := dk_160 0 7 (dk_at dksX2_takes_2 8 rfl rfl)
theorem dX2_takes_59 : decode cX2_takes 59 = .ok (.iconst 1, 1) := dk_4 (dk_at dksX2_takes_2 11 rfl rfl)
theorem dX2_takes_60 : decode cX2_takes 60 = .ok (.goto 4, 3) := dk_167 0 4 (dk_at dksX2_takes_2 12 rfl rfl)
theorem dX2_takes_63 : decode cX2_takes 63 = .ok (.iconst 0, 1) := dk_3 (dk_at dksX2_takes_2 15 rfl rfl)
theorem dX2_takes_64 : decode cX2_takes 64 = .ok (.istore 4, 2) := dk_54 4 (dk_at dksX2_takes_2 16 rfl rfl)
theorem dX2_takes_66 : decode cX2_takes 66 = .ok (.iconst 0, 1) := dk_3 (dk_at dksX2_takes_2 18 rfl rfl)
theorem dX2_takes_67 : decode cX2_takes 67 = .ok (.istore 5, 2) := dk_54 5 (dk_at dksX2_takes_2 19 rfl rfl)
theorem dX2_takes_69 : decode cX2_takes 69 = .ok (.iload 5, 2) := dk_21 5 (dk_at dksX2_takes_2 21 rfl rfl)
theorem dX2_takes_71 : decode cX2_takes 71 = .ok (.aload_n 1, 1) := dk_43 (dk_at dksX2_takes_2 23 rfl rfl)
theorem dX2_takes_72 : decode cX2_takes 72 = .ok (.invokevirtual 89, 3) := dk_182 0 89 (dk_at dksX2_takes_3 0 rfl rfl)
theorem dX2_takes_75 : decode cX2_takes 75 = .ok (.if_icmp .ge 42, 3) := dk_162 0 42 (dk_at dksX2_takes_3 3 rfl rfl)
theorem dX2_takes_78 : decode cX2_takes 78 = .ok (.iload 4, 2) := dk_21 4 (dk_at dksX2_takes_3 6 rfl rfl)
theorem dX2_takes_80 : decode cX2_takes 80 = .ok (.ifCond .eq 37, 3) := dk_153 0 37 (dk_at dksX2_takes_3 8 rfl rfl)
theorem dX2_takes_83 : decode cX2_takes 83 = .ok (.aload_n 0, 1) := dk_42 (dk_at dksX2_takes_3 11 rfl rfl)
theorem dX2_takes_84 : decode cX2_takes 84 = .ok (.getfield 9, 3) := dk_180 0 9 (dk_at dksX2_takes_3 12 rfl rfl)
theorem dX2_takes_87 : decode cX2_takes 87 = .ok (.aload_n 0, 1) := dk_42 (dk_at dksX2_takes_3 15 rfl rfl)
theorem dX2_takes_88 : decode cX2_takes 88 = .ok (.getfield 79, 3) := dk_180 0 79 (dk_at dksX2_takes_3 16 rfl rfl)
theorem dX2_takes_91 : decode cX2_takes 91 = .ok (.iload 5, 2) := dk_21 5 (dk_at dksX2_takes_3 19 rfl rfl)
theorem dX2_takes_93 : decode cX2_takes 93 = .ok (.iadd, 1) := dk_96 (dk_at dksX2_takes_3 21 rfl rfl)
theorem dX2_takes_94 : decode cX2_takes 94 = .ok (.baload, 1) := dk_51 (dk_at dksX2_takes_3 22 rfl rfl)
theorem dX2_takes_95 : decode cX2_takes 95 = .ok (.aload_n 1, 1) := dk_43 (dk_at dksX2_takes_3 23 rfl rfl)
theorem dX2_takes_96 : decode cX2_takes 96 = .ok (.iload 5, 2) := dk_21 5 (dk_at dksX2_takes_4 0 rfl rfl)
theorem dX2_takes_98 : decode cX2_takes 98 = .ok (.invokevirtual 92, 3) := dk_182 0 92 (dk_at dksX2_takes_4 2 rfl rfl)
theorem dX2_takes_101 : decode cX2_takes 101 = .ok (.if_icmp .ne 7, 3) := dk_160 0 7 (dk_at dksX2_takes_4 5 rfl rfl)
theorem dX2_takes_104 : decode cX2_takes 104 = .ok (.iconst 1, 1) := dk_4 (dk_at dksX2_takes_4 8 rfl rfl)
theorem dX2_takes_105 : decode cX2_takes 105 = .ok (.goto 4, 3) := dk_167 0 4 (dk_at dksX2_takes_4 9 rfl rfl)
theorem dX2_takes_108 : decode cX2_takes 108 = .ok (.iconst 0, 1) := dk_3 (dk_at dksX2_takes_4 12 rfl rfl)
theorem dX2_takes_109 : decode cX2_takes 109 = .ok (.istore 4, 2) := dk_54 4 (dk_at dksX2_takes_4 13 rfl rfl)
theorem dX2_takes_111 : decode cX2_takes 111 = .ok (.iinc 5 1, 3) := dk_132 5 1 (dk_at dksX2_takes_4 15 rfl rfl)
theorem dX2_takes_114 : decode cX2_takes 114 = .ok (.goto (-45), 3) := dk_167 255 211 (dk_at dksX2_takes_4 18 rfl rfl)
theorem dX2_takes_117 : decode cX2_takes 117 = .ok (.iload 4, 2) := dk_21 4 (dk_at dksX2_takes_4 21 rfl rfl)
theorem dX2_takes_119 : decode cX2_takes 119 = .ok (.ifCond .eq 8, 3) := dk_153 0 8 (dk_at dksX2_takes_5 0 rfl rfl)
theorem dX2_takes_122 : decode cX2_takes 122 = .ok (.aload_n 0, 1) := dk_42 (dk_at dksX2_takes_5 3 rfl rfl)
theorem dX2_takes_123 : decode cX2_takes 123 = .ok (.iload_n 3, 1) := dk_29 (dk_at dksX2_takes_5 4 rfl rfl)
theorem dX2_takes_124 : decode cX2_takes 124 = .ok (.putfield 79, 3) := dk_181 0 79 (dk_at dksX2_takes_5 5 rfl rfl)
theorem dX2_takes_127 : decode cX2_takes 127 = .ok (.iload 4, 2) := dk_21 4 (dk_at dksX2_takes_5 8 rfl rfl)
theorem dX2_takes_129 : decode cX2_takes 129 = .ok (.ireturn, 1) := dk_172 (dk_at dksX2_takes_5 10 rfl rfl)
abbrev cX2_row : ByteArray := prog_20_method_10_code
def yX2_row : MethodName := ⟨RX2, "row", "(Z)LGrassField$Cond;"⟩
def dkwX2_row_3 : List UInt8 := [181, 0, 159, 45, 180, 0, 159, 78, 167, 255, 205, 44, 176]
abbrev dktX2_row_3 : List UInt8 := dkwX2_row_3 ++ []
def dkwX2_row_2 : List UInt8 := [187, 0, 146, 89, 27, 153, 0, 10, 42, 182, 0, 148, 167, 0, 8, 42, 4, 182, 0, 120, 27, 183, 0, 152]
abbrev dktX2_row_2 : List UInt8 := dkwX2_row_2 ++ dktX2_row_3
def dkwX2_row_1 : List UInt8 := [77, 44, 78, 42, 27, 153, 0, 8, 18, 155, 167, 0, 5, 18, 157, 182, 0, 123, 153, 0, 39, 45]
abbrev dktX2_row_1 : List UInt8 := dkwX2_row_1 ++ dktX2_row_2
def dkwX2_row_0 : List UInt8 := [187, 0, 146, 89, 27, 153, 0, 10, 42, 182, 0, 148, 167, 0, 8, 42, 4, 182, 0, 120, 27, 183, 0, 152]
abbrev dktX2_row_0 : List UInt8 := dkwX2_row_0 ++ dktX2_row_1
theorem dksX2_row_0 : cX2_row.data.toList.drop 0 = dktX2_row_0 := by decide +kernel
theorem dksX2_row_1 : cX2_row.data.toList.drop 24 = dktX2_row_1 := dk_seg dksX2_row_0 24 rfl rfl
theorem dksX2_row_2 : cX2_row.data.toList.drop 46 = dktX2_row_2 := dk_seg dksX2_row_1 22 rfl rfl
theorem dksX2_row_3 : cX2_row.data.toList.drop 70 = dktX2_row_3 := dk_seg dksX2_row_2 24 rfl rfl
theorem dX2_row_0 : decode cX2_row 0 = .ok (.new 146, 3) := dk_187 0 146 (dk_at dksX2_row_0 0 rfl rfl)
theorem dX2_row_3 : decode cX2_row 3 = .ok (.dup, 1) := dk_89 (dk_at dksX2_row_0 3 rfl rfl)
theorem dX2_row_4 : decode cX2_row 4 = .ok (.iload_n 1, 1) := dk_27 (dk_at dksX2_row_0 4 rfl rfl)
theorem dX2_row_5 : decode cX2_row 5 = .ok (.ifCond .eq 10, 3) := dk_153 0 10 (dk_at dksX2_row_0 5 rfl rfl)
theorem dX2_row_8 : decode cX2_row 8 = .ok (.aload_n 0, 1) := dk_42 (dk_at dksX2_row_0 8 rfl rfl)
theorem dX2_row_9 : decode cX2_row 9 = .ok (.invokevirtual 148, 3) := dk_182 0 148 (dk_at dksX2_row_0 9 rfl rfl)
theorem dX2_row_12 : decode cX2_row 12 = .ok (.goto 8, 3) := dk_167 0 8 (dk_at dksX2_row_0 12 rfl rfl)
theorem dX2_row_15 : decode cX2_row 15 = .ok (.aload_n 0, 1) := dk_42 (dk_at dksX2_row_0 15 rfl rfl)
theorem dX2_row_16 : decode cX2_row 16 = .ok (.iconst 1, 1) := dk_4 (dk_at dksX2_row_0 16 rfl rfl)
theorem dX2_row_17 : decode cX2_row 17 = .ok (.invokevirtual 120, 3) := dk_182 0 120 (dk_at dksX2_row_0 17 rfl rfl)
theorem dX2_row_20 : decode cX2_row 20 = .ok (.iload_n 1, 1) := dk_27 (dk_at dksX2_row_0 20 rfl rfl)
theorem dX2_row_21 : decode cX2_row 21 = .ok (.invokespecial 152, 3) := dk_183 0 152 (dk_at dksX2_row_0 21 rfl rfl)
theorem dX2_row_24 : decode cX2_row 24 = .ok (.astore_n 2, 1) := dk_77 (dk_at dksX2_row_1 0 rfl rfl)
theorem dX2_row_25 : decode cX2_row 25 = .ok (.aload_n 2, 1) := dk_44 (dk_at dksX2_row_1 1 rfl rfl)
theorem dX2_row_26 : decode cX2_row 26 = .ok (.astore_n 3, 1) := dk_78 (dk_at dksX2_row_1 2 rfl rfl)
theorem dX2_row_27 : decode cX2_row 27 = .ok (.aload_n 0, 1) := dk_42 (dk_at dksX2_row_1 3 rfl rfl)
theorem dX2_row_28 : decode cX2_row 28 = .ok (.iload_n 1, 1) := dk_27 (dk_at dksX2_row_1 4 rfl rfl)
theorem dX2_row_29 : decode cX2_row 29 = .ok (.ifCond .eq 8, 3) := dk_153 0 8 (dk_at dksX2_row_1 5 rfl rfl)
theorem dX2_row_32 : decode cX2_row 32 = .ok (.ldc 155, 2) := dk_18 155 (dk_at dksX2_row_1 8 rfl rfl)
theorem dX2_row_34 : decode cX2_row 34 = .ok (.goto 5, 3) := dk_167 0 5 (dk_at dksX2_row_1 10 rfl rfl)
theorem dX2_row_37 : decode cX2_row 37 = .ok (.ldc 157, 2) := dk_18 157 (dk_at dksX2_row_1 13 rfl rfl)
theorem dX2_row_39 : decode cX2_row 39 = .ok (.invokevirtual 123, 3) := dk_182 0 123 (dk_at dksX2_row_1 15 rfl rfl)
theorem dX2_row_42 : decode cX2_row 42 = .ok (.ifCond .eq 39, 3) := dk_153 0 39 (dk_at dksX2_row_1 18 rfl rfl)
theorem dX2_row_45 : decode cX2_row 45 = .ok (.aload_n 3, 1) := dk_45 (dk_at dksX2_row_1 21 rfl rfl)
theorem dX2_row_46 : decode cX2_row 46 = .ok (.new 146, 3) := dk_187 0 146 (dk_at dksX2_row_2 0 rfl rfl)
theorem dX2_row_49 : decode cX2_row 49 = .ok (.dup, 1) := dk_89 (dk_at dksX2_row_2 3 rfl rfl)
theorem dX2_row_50 : decode cX2_row 50 = .ok (.iload_n 1, 1) := dk_27 (dk_at dksX2_row_2 4 rfl rfl)
theorem dX2_row_51 : decode cX2_row 51 = .ok (.ifCond .eq 10, 3) := dk_153 0 10 (dk_at dksX2_row_2 5 rfl rfl)
theorem dX2_row_54 : decode cX2_row 54 = .ok (.aload_n 0, 1) := dk_42 (dk_at dksX2_row_2 8 rfl rfl)
theorem dX2_row_55 : decode cX2_row 55 = .ok (.invokevirtual 148, 3) := dk_182 0 148 (dk_at dksX2_row_2 9 rfl rfl)
theorem dX2_row_58 : decode cX2_row 58 = .ok (.goto 8, 3) := dk_167 0 8 (dk_at dksX2_row_2 12 rfl rfl)
theorem dX2_row_61 : decode cX2_row 61 = .ok (.aload_n 0, 1) := dk_42 (dk_at dksX2_row_2 15 rfl rfl)
theorem dX2_row_62 : decode cX2_row 62 = .ok (.iconst 1, 1) := dk_4 (dk_at dksX2_row_2 16 rfl rfl)
theorem dX2_row_63 : decode cX2_row 63 = .ok (.invokevirtual 120, 3) := dk_182 0 120 (dk_at dksX2_row_2 17 rfl rfl)
theorem dX2_row_66 : decode cX2_row 66 = .ok (.iload_n 1, 1) := dk_27 (dk_at dksX2_row_2 20 rfl rfl)
theorem dX2_row_67 : decode cX2_row 67 = .ok (.invokespecial 152, 3) := dk_183 0 152 (dk_at dksX2_row_2 21 rfl rfl)
theorem dX2_row_70 : decode cX2_row 70 = .ok (.putfield 159, 3) := dk_181 0 159 (dk_at dksX2_row_3 0 rfl rfl)
theorem dX2_row_73 : decode cX2_row 73 = .ok (.aload_n 3, 1) := dk_45 (dk_at dksX2_row_3 3 rfl rfl)
theorem dX2_row_74 : decode cX2_row 74 = .ok (.getfield 159, 3) := dk_180 0 159 (dk_at dksX2_row_3 4 rfl rfl)
theorem dX2_row_77 : decode cX2_row 77 = .ok (.astore_n 3, 1) := dk_78 (dk_at dksX2_row_3 7 rfl rfl)
theorem dX2_row_78 : decode cX2_row 78 = .ok (.goto (-51), 3) := dk_167 255 205 (dk_at dksX2_row_3 8 rfl rfl)
theorem dX2_row_81 : decode cX2_row 81 = .ok (.aload_n 2, 1) := dk_44 (dk_at dksX2_row_3 11 rfl rfl)
theorem dX2_row_82 : decode cX2_row 82 = .ok (.areturn, 1) := dk_176 (dk_at dksX2_row_3 12 rfl rfl)
abbrev cX2_atom : ByteArray := prog_20_method_11_code
def yX2_atom : MethodName := ⟨RX2, "atom", "()LGrassField$Cond;"⟩
def dkwX2_atom_5 : List UInt8 := [181, 0, 79, 42, 89, 180, 0, 100, 4, 100, 181, 0, 100, 25, 4, 176]
abbrev dktX2_atom_5 : List UInt8 := dkwX2_atom_5 ++ []
def dkwX2_atom_4 : List UInt8 := [182, 0, 85, 16, 41, 159, 0, 11, 42, 42, 180, 0, 79, 182, 0, 96, 42, 89, 180, 0, 79, 4, 96]
abbrev dktX2_atom_4 : List UInt8 := dkwX2_atom_4 ++ dktX2_atom_5
def dkwX2_atom_3 : List UInt8 := [58, 4, 167, 0, 47, 42, 89, 180, 0, 79, 4, 96, 181, 0, 79, 42, 3, 182, 0, 120, 58, 4, 42]
abbrev dktX2_atom_3 : List UInt8 := dkwX2_atom_3 ++ dktX2_atom_4
def dkwX2_atom_2 : List UInt8 := [180, 0, 100, 4, 96, 181, 0, 100, 29, 153, 0, 19, 187, 0, 168, 89, 42, 182, 0, 148, 183, 0, 170]
abbrev dktX2_atom_2 : List UInt8 := dkwX2_atom_2 ++ dktX2_atom_3
def dkwX2_atom_1 : List UInt8 := [159, 0, 8, 42, 182, 0, 165, 176, 42, 180, 0, 100, 16, 6, 160, 0, 8, 42, 28, 182, 0, 96, 42, 89]
abbrev dktX2_atom_1 : List UInt8 := dkwX2_atom_1 ++ dktX2_atom_2
def dkwX2_atom_0 : List UInt8 := [42, 182, 0, 85, 60, 42, 180, 0, 79, 61, 42, 18, 163, 182, 0, 123, 62, 29, 154, 0, 14, 27, 16, 40]
abbrev dktX2_atom_0 : List UInt8 := dkwX2_atom_0 ++ dktX2_atom_1
theorem dksX2_atom_0 : cX2_atom.data.toList.drop 0 = dktX2_atom_0 := by decide +kernel
theorem dksX2_atom_1 : cX2_atom.data.toList.drop 24 = dktX2_atom_1 := dk_seg dksX2_atom_0 24 rfl rfl
theorem dksX2_atom_2 : cX2_atom.data.toList.drop 48 = dktX2_atom_2 := dk_seg dksX2_atom_1 24 rfl rfl
theorem dksX2_atom_3 : cX2_atom.data.toList.drop 71 = dktX2_atom_3 := dk_seg dksX2_atom_2 23 rfl rfl
theorem dksX2_atom_4 : cX2_atom.data.toList.drop 94 = dktX2_atom_4 := dk_seg dksX2_atom_3 23 rfl rfl
theorem dksX2_atom_5 : cX2_atom.data.toList.drop 117 = dktX2_atom_5 := dk_seg dksX2_atom_4 23 rfl rfl
theorem dX2_atom_0 : decode cX2_atom 0 = .ok (.aload_n 0, 1) := dk_42 (dk_at dksX2_atom_0 0 rfl rfl)
theorem dX2_atom_1 : decode cX2_atom 1 = .ok (.invokevirtual 85, 3) := dk_182 0 85 (dk_at dksX2_atom_0 1 rfl rfl)
theorem dX2_atom_4 : decode cX2_atom 4 = .ok (.istore_n 1, 1) := dk_60 (dk_at dksX2_atom_0 4 rfl rfl)
theorem dX2_atom_5 : decode cX2_atom 5 = .ok (.aload_n 0, 1) := dk_42 (dk_at dksX2_atom_0 5 rfl rfl)
theorem dX2_atom_6 : decode cX2_atom 6 = .ok (.getfield 79, 3) := dk_180 0 79 (dk_at dksX2_atom_0 6 rfl rfl)
theorem dX2_atom_9 : decode cX2_atom 9 = .ok (.istore_n 2, 1) := dk_61 (dk_at dksX2_atom_0 9 rfl rfl)
theorem dX2_atom_10 : decode cX2_atom 10 = .ok (.aload_n 0, 1) := dk_42 (dk_at dksX2_atom_0 10 rfl rfl)
theorem dX2_atom_11 : decode cX2_atom 11 = .ok (.ldc 163, 2) := dk_18 163 (dk_at dksX2_atom_0 11 rfl rfl)
theorem dX2_atom_13 : decode cX2_atom 13 = .ok (.invokevirtual 123, 3) := dk_182 0 123 (dk_at dksX2_atom_0 13 rfl rfl)
theorem dX2_atom_16 : decode cX2_atom 16 = .ok (.istore_n 3, 1) := dk_62 (dk_at dksX2_atom_0 16 rfl rfl)
theorem dX2_atom_17 : decode cX2_atom 17 = .ok (.iload_n 3, 1) := dk_29 (dk_at dksX2_atom_0 17 rfl rfl)
theorem dX2_atom_18 : decode cX2_atom 18 = .ok (.ifCond .ne 14, 3) := dk_154 0 14 (dk_at dksX2_atom_0 18 rfl rfl)
theorem dX2_atom_21 : decode cX2_atom 21 = .ok (.iload_n 1, 1) := dk_27 (dk_at dksX2_atom_0 21 rfl rfl)
theorem dX2_atom_22 : decode cX2_atom 22 = .ok (.bipush 40, 2) := dk_16 40 (dk_at dksX2_atom_0 22 rfl rfl)
theorem dX2_atom_24 : decode cX2_atom 24 = .ok (.if_icmp .eq 8, 3) := dk_159 0 8 (dk_at dksX2_atom_1 0 rfl rfl)
theorem dX2_atom_27 : decode cX2_atom 27 = .ok (.aload_n 0, 1) := dk_42 (dk_at dksX2_atom_1 3 rfl rfl)
theorem dX2_atom_28 : decode cX2_atom 28 = .ok (.invokevirtual 165, 3) := dk_182 0 165 (dk_at dksX2_atom_1 4 rfl rfl)
theorem dX2_atom_31 : decode cX2_atom 31 = .ok (.areturn, 1) := dk_176 (dk_at dksX2_atom_1 7 rfl rfl)
theorem dX2_atom_32 : decode cX2_atom 32 = .ok (.aload_n 0, 1) := dk_42 (dk_at dksX2_atom_1 8 rfl rfl)
theorem dX2_atom_33 : decode cX2_atom 33 = .ok (.getfield 100, 3) := dk_180 0 100 (dk_at dksX2_atom_1 9 rfl rfl)
theorem dX2_atom_36 : decode cX2_atom 36 = .ok (.bipush 6, 2) := dk_16 6 (dk_at dksX2_atom_1 12 rfl rfl)
theorem dX2_atom_38 : decode cX2_atom 38 = .ok (.if_icmp .ne 8, 3) := dk_160 0 8 (dk_at dksX2_atom_1 14 rfl rfl)
theorem dX2_atom_41 : decode cX2_atom 41 = .ok (.aload_n 0, 1) := dk_42 (dk_at dksX2_atom_1 17 rfl rfl)
theorem dX2_atom_42 : decode cX2_atom 42 = .ok (.iload_n 2, 1) := dk_28 (dk_at dksX2_atom_1 18 rfl rfl)
theorem dX2_atom_43 : decode cX2_atom 43 = .ok (.invokevirtual 96, 3) := dk_182 0 96 (dk_at dksX2_atom_1 19 rfl rfl)
theorem dX2_atom_46 : decode cX2_atom 46 = .ok (.aload_n 0, 1) := dk_42 (dk_at dksX2_atom_1 22 rfl rfl)
theorem dX2_atom_47 : decode cX2_atom 47 = .ok (.dup, 1) := dk_89 (dk_at dksX2_atom_1 23 rfl rfl)
theorem dX2_atom_48 : decode cX2_atom 48 = .ok (.getfield 100, 3) := dk_180 0 100 (dk_at dksX2_atom_2 0 rfl rfl)
theorem dX2_atom_51 : decode cX2_atom 51 = .ok (.iconst 1, 1) := dk_4 (dk_at dksX2_atom_2 3 rfl rfl)
theorem dX2_atom_52 : decode cX2_atom 52 = .ok (.iadd, 1) := dk_96 (dk_at dksX2_atom_2 4 rfl rfl)
theorem dX2_atom_53 : decode cX2_atom 53 = .ok (.putfield 100, 3) := dk_181 0 100 (dk_at dksX2_atom_2 5 rfl rfl)
theorem dX2_atom_56 : decode cX2_atom 56 = .ok (.iload_n 3, 1) := dk_29 (dk_at dksX2_atom_2 8 rfl rfl)
theorem dX2_atom_57 : decode cX2_atom 57 = .ok (.ifCond .eq 19, 3) := dk_153 0 19 (dk_at dksX2_atom_2 9 rfl rfl)
theorem dX2_atom_60 : decode cX2_atom 60 = .ok (.new 168, 3) := dk_187 0 168 (dk_at dksX2_atom_2 12 rfl rfl)
theorem dX2_atom_63 : decode cX2_atom 63 = .ok (.dup, 1) := dk_89 (dk_at dksX2_atom_2 15 rfl rfl)
theorem dX2_atom_64 : decode cX2_atom 64 = .ok (.aload_n 0, 1) := dk_42 (dk_at dksX2_atom_2 16 rfl rfl)
theorem dX2_atom_65 : decode cX2_atom 65 = .ok (.invokevirtual 148, 3) := dk_182 0 148 (dk_at dksX2_atom_2 17 rfl rfl)
theorem dX2_atom_68 : decode cX2_atom 68 = .ok (.invokespecial 170, 3) := dk_183 0 170 (dk_at dksX2_atom_2 20 rfl rfl)
theorem dX2_atom_71 : decode cX2_atom 71 = .ok (.astore 4, 2) := dk_58 4 (dk_at dksX2_atom_3 0 rfl rfl)
theorem dX2_atom_73 : decode cX2_atom 73 = .ok (.goto 47, 3) := dk_167 0 47 (dk_at dksX2_atom_3 2 rfl rfl)
theorem dX2_atom_76 : decode cX2_atom 76 = .ok (.aload_n 0, 1) := dk_42 (dk_at dksX2_atom_3 5 rfl rfl)
theorem dX2_atom_77 : decode cX2_atom 77 = .ok (.dup, 1) := dk_89 (dk_at dksX2_atom_3 6 rfl rfl)
theorem dX2_atom_78 : decode cX2_atom 78 = .ok (.getfield 79, 3) := dk_180 0 79 (dk_at dksX2_atom_3 7 rfl rfl)
theorem dX2_atom_81 : decode cX2_atom 81 = .ok (.iconst 1, 1) := dk_4 (dk_at dksX2_atom_3 10 rfl rfl)
theorem dX2_atom_82 : decode cX2_atom 82 = .ok (.iadd, 1) := dk_96 (dk_at dksX2_atom_3 11 rfl rfl)
theorem dX2_atom_83 : decode cX2_atom 83 = .ok (.putfield 79, 3) := dk_181 0 79 (dk_at dksX2_atom_3 12 rfl rfl)
theorem dX2_atom_86 : decode cX2_atom 86 = .ok (.aload_n 0, 1) := dk_42 (dk_at dksX2_atom_3 15 rfl rfl)
theorem dX2_atom_87 : decode cX2_atom 87 = .ok (.iconst 0, 1) := dk_3 (dk_at dksX2_atom_3 16 rfl rfl)
theorem dX2_atom_88 : decode cX2_atom 88 = .ok (.invokevirtual 120, 3) := dk_182 0 120 (dk_at dksX2_atom_3 17 rfl rfl)
theorem dX2_atom_91 : decode cX2_atom 91 = .ok (.astore 4, 2) := dk_58 4 (dk_at dksX2_atom_3 20 rfl rfl)
theorem dX2_atom_93 : decode cX2_atom 93 = .ok (.aload_n 0, 1) := dk_42 (dk_at dksX2_atom_3 22 rfl rfl)
theorem dX2_atom_94 : decode cX2_atom 94 = .ok (.invokevirtual 85, 3) := dk_182 0 85 (dk_at dksX2_atom_4 0 rfl rfl)
theorem dX2_atom_97 : decode cX2_atom 97 = .ok (.bipush 41, 2) := dk_16 41 (dk_at dksX2_atom_4 3 rfl rfl)
theorem dX2_atom_99 : decode cX2_atom 99 = .ok (.if_icmp .eq 11, 3) := dk_159 0 11 (dk_at dksX2_atom_4 5 rfl rfl)
theorem dX2_atom_102 : decode cX2_atom 102 = .ok (.aload_n 0, 1) := dk_42 (dk_at dksX2_atom_4 8 rfl rfl)
theorem dX2_atom_103 : decode cX2_atom 103 = .ok (.aload_n 0, 1) := dk_42 (dk_at dksX2_atom_4 9 rfl rfl)
theorem dX2_atom_104 : decode cX2_atom 104 = .ok (.getfield 79, 3) := dk_180 0 79 (dk_at dksX2_atom_4 10 rfl rfl)
theorem dX2_atom_107 : decode cX2_atom 107 = .ok (.invokevirtual 96, 3) := dk_182 0 96 (dk_at dksX2_atom_4 13 rfl rfl)
theorem dX2_atom_110 : decode cX2_atom 110 = .ok (.aload_n 0, 1) := dk_42 (dk_at dksX2_atom_4 16 rfl rfl)
theorem dX2_atom_111 : decode cX2_atom 111 = .ok (.dup, 1) := dk_89 (dk_at dksX2_atom_4 17 rfl rfl)
theorem dX2_atom_112 : decode cX2_atom 112 = .ok (.getfield 79, 3) := dk_180 0 79 (dk_at dksX2_atom_4 18 rfl rfl)
theorem dX2_atom_115 : decode cX2_atom 115 = .ok (.iconst 1, 1) := dk_4 (dk_at dksX2_atom_4 21 rfl rfl)
theorem dX2_atom_116 : decode cX2_atom 116 = .ok (.iadd, 1) := dk_96 (dk_at dksX2_atom_4 22 rfl rfl)
theorem dX2_atom_117 : decode cX2_atom 117 = .ok (.putfield 79, 3) := dk_181 0 79 (dk_at dksX2_atom_5 0 rfl rfl)
theorem dX2_atom_120 : decode cX2_atom 120 = .ok (.aload_n 0, 1) := dk_42 (dk_at dksX2_atom_5 3 rfl rfl)
theorem dX2_atom_121 : decode cX2_atom 121 = .ok (.dup, 1) := dk_89 (dk_at dksX2_atom_5 4 rfl rfl)
theorem dX2_atom_122 : decode cX2_atom 122 = .ok (.getfield 100, 3) := dk_180 0 100 (dk_at dksX2_atom_5 5 rfl rfl)
theorem dX2_atom_125 : decode cX2_atom 125 = .ok (.iconst 1, 1) := dk_4 (dk_at dksX2_atom_5 8 rfl rfl)
theorem dX2_atom_126 : decode cX2_atom 126 = .ok (.isub, 1) := dk_100 (dk_at dksX2_atom_5 9 rfl rfl)
theorem dX2_atom_127 : decode cX2_atom 127 = .ok (.putfield 100, 3) := dk_181 0 100 (dk_at dksX2_atom_5 10 rfl rfl)
theorem dX2_atom_130 : decode cX2_atom 130 = .ok (.aload 4, 2) := dk_25 4 (dk_at dksX2_atom_5 13 rfl rfl)
theorem dX2_atom_132 : decode cX2_atom 132 = .ok (.areturn, 1) := dk_176 (dk_at dksX2_atom_5 15 rfl rfl)
abbrev cX2_tag : ByteArray := prog_20_method_12_code
def yX2_tag : MethodName := ⟨RX2, "tag", "()LGrassField$Cond;"⟩
def dkwX2_tag_6 : List UInt8 := [45, 183, 0, 191, 167, 0, 12, 187, 0, 189, 89, 45, 43, 183, 0, 191, 176]
abbrev dktX2_tag_6 : List UInt8 := dkwX2_tag_6 ++ []
def dkwX2_tag_5 : List UInt8 := [180, 0, 79, 4, 96, 181, 0, 79, 42, 182, 0, 185, 78, 28, 16, 60, 160, 0, 15, 187, 0, 189, 89, 43]
abbrev dktX2_tag_5 : List UInt8 := dkwX2_tag_5 ++ dktX2_tag_6
def dkwX2_tag_4 : List UInt8 := [28, 16, 60, 159, 0, 17, 28, 16, 62, 159, 0, 11, 42, 42, 180, 0, 79, 182, 0, 96, 42, 89]
abbrev dktX2_tag_4 : List UInt8 := dkwX2_tag_4 ++ dktX2_tag_5
def dkwX2_tag_3 : List UInt8 := [187, 0, 173, 89, 16, 16, 42, 182, 0, 182, 183, 0, 175, 176, 42, 182, 0, 185, 76, 42, 182, 0, 85, 61]
abbrev dktX2_tag_3 : List UInt8 := dkwX2_tag_3 ++ dktX2_tag_4
def dkwX2_tag_2 : List UInt8 := [16, 15, 4, 183, 0, 175, 176, 42, 180, 0, 103, 154, 0, 26, 42, 18, 180, 182, 0, 123, 153, 0, 17]
abbrev dktX2_tag_2 : List UInt8 := dkwX2_tag_2 ++ dktX2_tag_3
def dkwX2_tag_1 : List UInt8 := [183, 0, 175, 176, 42, 180, 0, 103, 153, 0, 23, 42, 18, 178, 182, 0, 123, 153, 0, 14, 187, 0, 173, 89]
abbrev dktX2_tag_1 : List UInt8 := dkwX2_tag_1 ++ dktX2_tag_2
def dkwX2_tag_0 : List UInt8 := [42, 180, 0, 103, 153, 0, 23, 42, 18, 171, 182, 0, 123, 153, 0, 14, 187, 0, 173, 89, 16, 14, 4]
abbrev dktX2_tag_0 : List UInt8 := dkwX2_tag_0 ++ dktX2_tag_1
theorem dksX2_tag_0 : cX2_tag.data.toList.drop 0 = dktX2_tag_0 := by decide +kernel
theorem dksX2_tag_1 : cX2_tag.data.toList.drop 23 = dktX2_tag_1 := dk_seg dksX2_tag_0 23 rfl rfl
theorem dksX2_tag_2 : cX2_tag.data.toList.drop 47 = dktX2_tag_2 := dk_seg dksX2_tag_1 24 rfl rfl
theorem dksX2_tag_3 : cX2_tag.data.toList.drop 70 = dktX2_tag_3 := dk_seg dksX2_tag_2 23 rfl rfl
theorem dksX2_tag_4 : cX2_tag.data.toList.drop 94 = dktX2_tag_4 := dk_seg dksX2_tag_3 24 rfl rfl
theorem dksX2_tag_5 : cX2_tag.data.toList.drop 116 = dktX2_tag_5 := dk_seg dksX2_tag_4 22 rfl rfl
theorem dksX2_tag_6 : cX2_tag.data.toList.drop 140 = dktX2_tag_6 := dk_seg dksX2_tag_5 24 rfl rfl
theorem dX2_tag_0 : decode cX2_tag 0 = .ok (.aload_n 0, 1) := dk_42 (dk_at dksX2_tag_0 0 rfl rfl)
theorem dX2_tag_1 : decode cX2_tag 1 = .ok (.getfield 103, 3) := dk_180 0 103 (dk_at dksX2_tag_0 1 rfl rfl)
theorem dX2_tag_4 : decode cX2_tag 4 = .ok (.ifCond .eq 23, 3) := dk_153 0 23 (dk_at dksX2_tag_0 4 rfl rfl)
theorem dX2_tag_7 : decode cX2_tag 7 = .ok (.aload_n 0, 1) := dk_42 (dk_at dksX2_tag_0 7 rfl rfl)
theorem dX2_tag_8 : decode cX2_tag 8 = .ok (.ldc 171, 2) := dk_18 171 (dk_at dksX2_tag_0 8 rfl rfl)
theorem dX2_tag_10 : decode cX2_tag 10 = .ok (.invokevirtual 123, 3) := dk_182 0 123 (dk_at dksX2_tag_0 10 rfl rfl)
theorem dX2_tag_13 : decode cX2_tag 13 = .ok (.ifCond .eq 14, 3) := dk_153 0 14 (dk_at dksX2_tag_0 13 rfl rfl)
theorem dX2_tag_16 : decode cX2_tag 16 = .ok (.new 173, 3) := dk_187 0 173 (dk_at dksX2_tag_0 16 rfl rfl)
theorem dX2_tag_19 : decode cX2_tag 19 = .ok (.dup, 1) := dk_89 (dk_at dksX2_tag_0 19 rfl rfl)
theorem dX2_tag_20 : decode cX2_tag 20 = .ok (.bipush 14, 2) := dk_16 14 (dk_at dksX2_tag_0 20 rfl rfl)
theorem dX2_tag_22 : decode cX2_tag 22 = .ok (.iconst 1, 1) := dk_4 (dk_at dksX2_tag_0 22 rfl rfl)
theorem dX2_tag_23 : decode cX2_tag 23 = .ok (.invokespecial 175, 3) := dk_183 0 175 (dk_at dksX2_tag_1 0 rfl rfl)
theorem dX2_tag_26 : decode cX2_tag 26 = .ok (.areturn, 1) := dk_176 (dk_at dksX2_tag_1 3 rfl rfl)
theorem dX2_tag_27 : decode cX2_tag 27 = .ok (.aload_n 0, 1) := dk_42 (dk_at dksX2_tag_1 4 rfl rfl)
theorem dX2_tag_28 : decode cX2_tag 28 = .ok (.getfield 103, 3) := dk_180 0 103 (dk_at dksX2_tag_1 5 rfl rfl)
theorem dX2_tag_31 : decode cX2_tag 31 = .ok (.ifCond .eq 23, 3) := dk_153 0 23 (dk_at dksX2_tag_1 8 rfl rfl)
theorem dX2_tag_34 : decode cX2_tag 34 = .ok (.aload_n 0, 1) := dk_42 (dk_at dksX2_tag_1 11 rfl rfl)
theorem dX2_tag_35 : decode cX2_tag 35 = .ok (.ldc 178, 2) := dk_18 178 (dk_at dksX2_tag_1 12 rfl rfl)
theorem dX2_tag_37 : decode cX2_tag 37 = .ok (.invokevirtual 123, 3) := dk_182 0 123 (dk_at dksX2_tag_1 14 rfl rfl)
theorem dX2_tag_40 : decode cX2_tag 40 = .ok (.ifCond .eq 14, 3) := dk_153 0 14 (dk_at dksX2_tag_1 17 rfl rfl)
theorem dX2_tag_43 : decode cX2_tag 43 = .ok (.new 173, 3) := dk_187 0 173 (dk_at dksX2_tag_1 20 rfl rfl)
theorem dX2_tag_46 : decode cX2_tag 46 = .ok (.dup, 1) := dk_89 (dk_at dksX2_tag_1 23 rfl rfl)
theorem dX2_tag_47 : decode cX2_tag 47 = .ok (.bipush 15, 2) := dk_16 15 (dk_at dksX2_tag_2 0 rfl rfl)
theorem dX2_tag_49 : decode cX2_tag 49 = .ok (.iconst 1, 1) := dk_4 (dk_at dksX2_tag_2 2 rfl rfl)
theorem dX2_tag_50 : decode cX2_tag 50 = .ok (.invokespecial 175, 3) := dk_183 0 175 (dk_at dksX2_tag_2 3 rfl rfl)
theorem dX2_tag_53 : decode cX2_tag 53 = .ok (.areturn, 1) := dk_176 (dk_at dksX2_tag_2 6 rfl rfl)
theorem dX2_tag_54 : decode cX2_tag 54 = .ok (.aload_n 0, 1) := dk_42 (dk_at dksX2_tag_2 7 rfl rfl)
theorem dX2_tag_55 : decode cX2_tag 55 = .ok (.getfield 103, 3) := dk_180 0 103 (dk_at dksX2_tag_2 8 rfl rfl)
theorem dX2_tag_58 : decode cX2_tag 58 = .ok (.ifCond .ne 26, 3) := dk_154 0 26 (dk_at dksX2_tag_2 11 rfl rfl)
theorem dX2_tag_61 : decode cX2_tag 61 = .ok (.aload_n 0, 1) := dk_42 (dk_at dksX2_tag_2 14 rfl rfl)
theorem dX2_tag_62 : decode cX2_tag 62 = .ok (.ldc 180, 2) := dk_18 180 (dk_at dksX2_tag_2 15 rfl rfl)
theorem dX2_tag_64 : decode cX2_tag 64 = .ok (.invokevirtual 123, 3) := dk_182 0 123 (dk_at dksX2_tag_2 17 rfl rfl)
theorem dX2_tag_67 : decode cX2_tag 67 = .ok (.ifCond .eq 17, 3) := dk_153 0 17 (dk_at dksX2_tag_2 20 rfl rfl)
theorem dX2_tag_70 : decode cX2_tag 70 = .ok (.new 173, 3) := dk_187 0 173 (dk_at dksX2_tag_3 0 rfl rfl)
theorem dX2_tag_73 : decode cX2_tag 73 = .ok (.dup, 1) := dk_89 (dk_at dksX2_tag_3 3 rfl rfl)
theorem dX2_tag_74 : decode cX2_tag 74 = .ok (.bipush 16, 2) := dk_16 16 (dk_at dksX2_tag_3 4 rfl rfl)
theorem dX2_tag_76 : decode cX2_tag 76 = .ok (.aload_n 0, 1) := dk_42 (dk_at dksX2_tag_3 6 rfl rfl)
theorem dX2_tag_77 : decode cX2_tag 77 = .ok (.invokevirtual 182, 3) := dk_182 0 182 (dk_at dksX2_tag_3 7 rfl rfl)
theorem dX2_tag_80 : decode cX2_tag 80 = .ok (.invokespecial 175, 3) := dk_183 0 175 (dk_at dksX2_tag_3 10 rfl rfl)
theorem dX2_tag_83 : decode cX2_tag 83 = .ok (.areturn, 1) := dk_176 (dk_at dksX2_tag_3 13 rfl rfl)
theorem dX2_tag_84 : decode cX2_tag 84 = .ok (.aload_n 0, 1) := dk_42 (dk_at dksX2_tag_3 14 rfl rfl)
theorem dX2_tag_85 : decode cX2_tag 85 = .ok (.invokevirtual 185, 3) := dk_182 0 185 (dk_at dksX2_tag_3 15 rfl rfl)
theorem dX2_tag_88 : decode cX2_tag 88 = .ok (.astore_n 1, 1) := dk_76 (dk_at dksX2_tag_3 18 rfl rfl)
theorem dX2_tag_89 : decode cX2_tag 89 = .ok (.aload_n 0, 1) := dk_42 (dk_at dksX2_tag_3 19 rfl rfl)
theorem dX2_tag_90 : decode cX2_tag 90 = .ok (.invokevirtual 85, 3) := dk_182 0 85 (dk_at dksX2_tag_3 20 rfl rfl)
theorem dX2_tag_93 : decode cX2_tag 93 = .ok (.istore_n 2, 1) := dk_61 (dk_at dksX2_tag_3 23 rfl rfl)
theorem dX2_tag_94 : decode cX2_tag 94 = .ok (.iload_n 2, 1) := dk_28 (dk_at dksX2_tag_4 0 rfl rfl)
theorem dX2_tag_95 : decode cX2_tag 95 = .ok (.bipush 60, 2) := dk_16 60 (dk_at dksX2_tag_4 1 rfl rfl)
theorem dX2_tag_97 : decode cX2_tag 97 = .ok (.if_icmp .eq 17, 3) := dk_159 0 17 (dk_at dksX2_tag_4 3 rfl rfl)
theorem dX2_tag_100 : decode cX2_tag 100 = .ok (.iload_n 2, 1) := dk_28 (dk_at dksX2_tag_4 6 rfl rfl)
theorem dX2_tag_101 : decode cX2_tag 101 = .ok (.bipush 62, 2) := dk_16 62 (dk_at dksX2_tag_4 7 rfl rfl)
theorem dX2_tag_103 : decode cX2_tag 103 = .ok (.if_icmp .eq 11, 3) := dk_159 0 11 (dk_at dksX2_tag_4 9 rfl rfl)
theorem dX2_tag_106 : decode cX2_tag 106 = .ok (.aload_n 0, 1) := dk_42 (dk_at dksX2_tag_4 12 rfl rfl)
theorem dX2_tag_107 : decode cX2_tag 107 = .ok (.aload_n 0, 1) := dk_42 (dk_at dksX2_tag_4 13 rfl rfl)
theorem dX2_tag_108 : decode cX2_tag 108 = .ok (.getfield 79, 3) := dk_180 0 79 (dk_at dksX2_tag_4 14 rfl rfl)
theorem dX2_tag_111 : decode cX2_tag 111 = .ok (.invokevirtual 96, 3) := dk_182 0 96 (dk_at dksX2_tag_4 17 rfl rfl)
theorem dX2_tag_114 : decode cX2_tag 114 = .ok (.aload_n 0, 1) := dk_42 (dk_at dksX2_tag_4 20 rfl rfl)
theorem dX2_tag_115 : decode cX2_tag 115 = .ok (.dup, 1) := dk_89 (dk_at dksX2_tag_4 21 rfl rfl)
theorem dX2_tag_116 : decode cX2_tag 116 = .ok (.getfield 79, 3) := dk_180 0 79 (dk_at dksX2_tag_5 0 rfl rfl)
theorem dX2_tag_119 : decode cX2_tag 119 = .ok (.iconst 1, 1) := dk_4 (dk_at dksX2_tag_5 3 rfl rfl)
theorem dX2_tag_120 : decode cX2_tag 120 = .ok (.iadd, 1) := dk_96 (dk_at dksX2_tag_5 4 rfl rfl)
theorem dX2_tag_121 : decode cX2_tag 121 = .ok (.putfield 79, 3) := dk_181 0 79 (dk_at dksX2_tag_5 5 rfl rfl)
theorem dX2_tag_124 : decode cX2_tag 124 = .ok (.aload_n 0, 1) := dk_42 (dk_at dksX2_tag_5 8 rfl rfl)
theorem dX2_tag_125 : decode cX2_tag 125 = .ok (.invokevirtual 185, 3) := dk_182 0 185 (dk_at dksX2_tag_5 9 rfl rfl)
theorem dX2_tag_128 : decode cX2_tag 128 = .ok (.astore_n 3, 1) := dk_78 (dk_at dksX2_tag_5 12 rfl rfl)
theorem dX2_tag_129 : decode cX2_tag 129 = .ok (.iload_n 2, 1) := dk_28 (dk_at dksX2_tag_5 13 rfl rfl)
theorem dX2_tag_130 : decode cX2_tag 130 = .ok (.bipush 60, 2) := dk_16 60 (dk_at dksX2_tag_5 14 rfl rfl)
theorem dX2_tag_132 : decode cX2_tag 132 = .ok (.if_icmp .ne 15, 3) := dk_160 0 15 (dk_at dksX2_tag_5 16 rfl rfl)
theorem dX2_tag_135 : decode cX2_tag 135 = .ok (.new 189, 3) := dk_187 0 189 (dk_at dksX2_tag_5 19 rfl rfl)
theorem dX2_tag_138 : decode cX2_tag 138 = .ok (.dup, 1) := dk_89 (dk_at dksX2_tag_5 22 rfl rfl)
theorem dX2_tag_139 : decode cX2_tag 139 = .ok (.aload_n 1, 1) := dk_43 (dk_at dksX2_tag_5 23 rfl rfl)
theorem dX2_tag_140 : decode cX2_tag 140 = .ok (.aload_n 3, 1) := dk_45 (dk_at dksX2_tag_6 0 rfl rfl)
theorem dX2_tag_141 : decode cX2_tag 141 = .ok (.invokespecial 191, 3) := dk_183 0 191 (dk_at dksX2_tag_6 1 rfl rfl)
theorem dX2_tag_144 : decode cX2_tag 144 = .ok (.goto 12, 3) := dk_167 0 12 (dk_at dksX2_tag_6 4 rfl rfl)
theorem dX2_tag_147 : decode cX2_tag 147 = .ok (.new 189, 3) := dk_187 0 189 (dk_at dksX2_tag_6 7 rfl rfl)
theorem dX2_tag_150 : decode cX2_tag 150 = .ok (.dup, 1) := dk_89 (dk_at dksX2_tag_6 10 rfl rfl)
theorem dX2_tag_151 : decode cX2_tag 151 = .ok (.aload_n 3, 1) := dk_45 (dk_at dksX2_tag_6 11 rfl rfl)
theorem dX2_tag_152 : decode cX2_tag 152 = .ok (.aload_n 1, 1) := dk_43 (dk_at dksX2_tag_6 12 rfl rfl)
theorem dX2_tag_153 : decode cX2_tag 153 = .ok (.invokespecial 191, 3) := dk_183 0 191 (dk_at dksX2_tag_6 13 rfl rfl)
theorem dX2_tag_156 : decode cX2_tag 156 = .ok (.areturn, 1) := dk_176 (dk_at dksX2_tag_6 16 rfl rfl)
abbrev cX2_number : ByteArray := prog_20_method_5_code
def yX2_number : MethodName := ⟨RX2, "number", "()I"⟩
def dkwX2_number_4 : List UInt8 := [167, 255, 174, 42, 180, 0, 79, 28, 160, 0, 8, 42, 28, 182, 0, 96, 29, 172]
abbrev dktX2_number_4 : List UInt8 := dkwX2_number_4 ++ []
def dkwX2_number_3 : List UInt8 := [180, 0, 9, 42, 180, 0, 79, 51, 96, 16, 48, 100, 62, 42, 89, 180, 0, 79, 4, 96, 181, 0, 79]
abbrev dktX2_number_3 : List UInt8 := dkwX2_number_3 ++ dktX2_number_4
def dkwX2_number_2 : List UInt8 := [163, 0, 49, 42, 180, 0, 79, 28, 100, 6, 160, 0, 8, 42, 28, 182, 0, 96, 16, 10, 29, 104, 42]
abbrev dktX2_number_2 : List UInt8 := dkwX2_number_2 ++ dktX2_number_3
def dkwX2_number_1 : List UInt8 := [180, 0, 9, 42, 180, 0, 79, 51, 16, 48, 161, 0, 63, 42, 180, 0, 9, 42, 180, 0, 79, 51, 16, 57]
abbrev dktX2_number_1 : List UInt8 := dkwX2_number_1 ++ dktX2_number_2
def dkwX2_number_0 : List UInt8 := [42, 182, 0, 85, 60, 42, 180, 0, 79, 61, 3, 62, 42, 180, 0, 79, 42, 180, 0, 82, 162, 0, 77, 42]
abbrev dktX2_number_0 : List UInt8 := dkwX2_number_0 ++ dktX2_number_1
theorem dksX2_number_0 : cX2_number.data.toList.drop 0 = dktX2_number_0 := by decide +kernel
theorem dksX2_number_1 : cX2_number.data.toList.drop 24 = dktX2_number_1 := dk_seg dksX2_number_0 24 rfl rfl
theorem dksX2_number_2 : cX2_number.data.toList.drop 48 = dktX2_number_2 := dk_seg dksX2_number_1 24 rfl rfl
theorem dksX2_number_3 : cX2_number.data.toList.drop 71 = dktX2_number_3 := dk_seg dksX2_number_2 23 rfl rfl
theorem dksX2_number_4 : cX2_number.data.toList.drop 94 = dktX2_number_4 := dk_seg dksX2_number_3 23 rfl rfl
theorem dX2_number_0 : decode cX2_number 0 = .ok (.aload_n 0, 1) := dk_42 (dk_at dksX2_number_0 0 rfl rfl)
theorem dX2_number_1 : decode cX2_number 1 = .ok (.invokevirtual 85, 3) := dk_182 0 85 (dk_at dksX2_number_0 1 rfl rfl)
theorem dX2_number_4 : decode cX2_number 4 = .ok (.istore_n 1, 1) := dk_60 (dk_at dksX2_number_0 4 rfl rfl)
theorem dX2_number_5 : decode cX2_number 5 = .ok (.aload_n 0, 1) := dk_42 (dk_at dksX2_number_0 5 rfl rfl)
theorem dX2_number_6 : decode cX2_number 6 = .ok (.getfield 79, 3) := dk_180 0 79 (dk_at dksX2_number_0 6 rfl rfl)
theorem dX2_number_9 : decode cX2_number 9 = .ok (.istore_n 2, 1) := dk_61 (dk_at dksX2_number_0 9 rfl rfl)
theorem dX2_number_10 : decode cX2_number 10 = .ok (.iconst 0, 1) := dk_3 (dk_at dksX2_number_0 10 rfl rfl)
theorem dX2_number_11 : decode cX2_number 11 = .ok (.istore_n 3, 1) := dk_62 (dk_at dksX2_number_0 11 rfl rfl)
theorem dX2_number_12 : decode cX2_number 12 = .ok (.aload_n 0, 1) := dk_42 (dk_at dksX2_number_0 12 rfl rfl)
theorem dX2_number_13 : decode cX2_number 13 = .ok (.getfield 79, 3) := dk_180 0 79 (dk_at dksX2_number_0 13 rfl rfl)
theorem dX2_number_16 : decode cX2_number 16 = .ok (.aload_n 0, 1) := dk_42 (dk_at dksX2_number_0 16 rfl rfl)
theorem dX2_number_17 : decode cX2_number 17 = .ok (.getfield 82, 3) := dk_180 0 82 (dk_at dksX2_number_0 17 rfl rfl)
theorem dX2_number_20 : decode cX2_number 20 = .ok (.if_icmp .ge 77, 3) := dk_162 0 77 (dk_at dksX2_number_0 20 rfl rfl)
theorem dX2_number_23 : decode cX2_number 23 = .ok (.aload_n 0, 1) := dk_42 (dk_at dksX2_number_0 23 rfl rfl)
theorem dX2_number_24 : decode cX2_number 24 = .ok (.getfield 9, 3) := dk_180 0 9 (dk_at dksX2_number_1 0 rfl rfl)
theorem dX2_number_27 : decode cX2_number 27 = .ok (.aload_n 0, 1) := dk_42 (dk_at dksX2_number_1 3 rfl rfl)
theorem dX2_number_28 : decode cX2_number 28 = .ok (.getfield 79, 3) := dk_180 0 79 (dk_at dksX2_number_1 4 rfl rfl)
theorem dX2_number_31 : decode cX2_number 31 = .ok (.baload, 1) := dk_51 (dk_at dksX2_number_1 7 rfl rfl)
theorem dX2_number_32 : decode cX2_number 32 = .ok (.bipush 48, 2) := dk_16 48 (dk_at dksX2_number_1 8 rfl rfl)
theorem dX2_number_34 : decode cX2_number 34 = .ok (.if_icmp .lt 63, 3) := dk_161 0 63 (dk_at dksX2_number_1 10 rfl rfl)
theorem dX2_number_37 : decode cX2_number 37 = .ok (.aload_n 0, 1) := dk_42 (dk_at dksX2_number_1 13 rfl rfl)
theorem dX2_number_38 : decode cX2_number 38 = .ok (.getfield 9, 3) := dk_180 0 9 (dk_at dksX2_number_1 14 rfl rfl)
theorem dX2_number_41 : decode cX2_number 41 = .ok (.aload_n 0, 1) := dk_42 (dk_at dksX2_number_1 17 rfl rfl)
theorem dX2_number_42 : decode cX2_number 42 = .ok (.getfield 79, 3) := dk_180 0 79 (dk_at dksX2_number_1 18 rfl rfl)
theorem dX2_number_45 : decode cX2_number 45 = .ok (.baload, 1) := dk_51 (dk_at dksX2_number_1 21 rfl rfl)
theorem dX2_number_46 : decode cX2_number 46 = .ok (.bipush 57, 2) := dk_16 57 (dk_at dksX2_number_1 22 rfl rfl)
theorem dX2_number_48 : decode cX2_number 48 = .ok (.if_icmp .gt 49, 3) := dk_163 0 49 (dk_at dksX2_number_2 0 rfl rfl)
theorem dX2_number_51 : decode cX2_number 51 = .ok (.aload_n 0, 1) := dk_42 (dk_at dksX2_number_2 3 rfl rfl)
theorem dX2_number_52 : decode cX2_number 52 = .ok (.getfield 79, 3) := dk_180 0 79 (dk_at dksX2_number_2 4 rfl rfl)
theorem dX2_number_55 : decode cX2_number 55 = .ok (.iload_n 2, 1) := dk_28 (dk_at dksX2_number_2 7 rfl rfl)
theorem dX2_number_56 : decode cX2_number 56 = .ok (.isub, 1) := dk_100 (dk_at dksX2_number_2 8 rfl rfl)
theorem dX2_number_57 : decode cX2_number 57 = .ok (.iconst 3, 1) := dk_6 (dk_at dksX2_number_2 9 rfl rfl)
theorem dX2_number_58 : decode cX2_number 58 = .ok (.if_icmp .ne 8, 3) := dk_160 0 8 (dk_at dksX2_number_2 10 rfl rfl)
theorem dX2_number_61 : decode cX2_number 61 = .ok (.aload_n 0, 1) := dk_42 (dk_at dksX2_number_2 13 rfl rfl)
theorem dX2_number_62 : decode cX2_number 62 = .ok (.iload_n 2, 1) := dk_28 (dk_at dksX2_number_2 14 rfl rfl)
theorem dX2_number_63 : decode cX2_number 63 = .ok (.invokevirtual 96, 3) := dk_182 0 96 (dk_at dksX2_number_2 15 rfl rfl)
theorem dX2_number_66 : decode cX2_number 66 = .ok (.bipush 10, 2) := dk_16 10 (dk_at dksX2_number_2 18 rfl rfl)
theorem dX2_number_68 : decode cX2_number 68 = .ok (.iload_n 3, 1) := dk_29 (dk_at dksX2_number_2 20 rfl rfl)
theorem dX2_number_69 : decode cX2_number 69 = .ok (.imul, 1) := dk_104 (dk_at dksX2_number_2 21 rfl rfl)
theorem dX2_number_70 : decode cX2_number 70 = .ok (.aload_n 0, 1) := dk_42 (dk_at dksX2_number_2 22 rfl rfl)
theorem dX2_number_71 : decode cX2_number 71 = .ok (.getfield 9, 3) := dk_180 0 9 (dk_at dksX2_number_3 0 rfl rfl)
theorem dX2_number_74 : decode cX2_number 74 = .ok (.aload_n 0, 1) := dk_42 (dk_at dksX2_number_3 3 rfl rfl)
theorem dX2_number_75 : decode cX2_number 75 = .ok (.getfield 79, 3) := dk_180 0 79 (dk_at dksX2_number_3 4 rfl rfl)
theorem dX2_number_78 : decode cX2_number 78 = .ok (.baload, 1) := dk_51 (dk_at dksX2_number_3 7 rfl rfl)
theorem dX2_number_79 : decode cX2_number 79 = .ok (.iadd, 1) := dk_96 (dk_at dksX2_number_3 8 rfl rfl)
theorem dX2_number_80 : decode cX2_number 80 = .ok (.bipush 48, 2) := dk_16 48 (dk_at dksX2_number_3 9 rfl rfl)
theorem dX2_number_82 : decode cX2_number 82 = .ok (.isub, 1) := dk_100 (dk_at dksX2_number_3 11 rfl rfl)
theorem dX2_number_83 : decode cX2_number 83 = .ok (.istore_n 3, 1) := dk_62 (dk_at dksX2_number_3 12 rfl rfl)
theorem dX2_number_84 : decode cX2_number 84 = .ok (.aload_n 0, 1) := dk_42 (dk_at dksX2_number_3 13 rfl rfl)
theorem dX2_number_85 : decode cX2_number 85 = .ok (.dup, 1) := dk_89 (dk_at dksX2_number_3 14 rfl rfl)
theorem dX2_number_86 : decode cX2_number 86 = .ok (.getfield 79, 3) := dk_180 0 79 (dk_at dksX2_number_3 15 rfl rfl)
theorem dX2_number_89 : decode cX2_number 89 = .ok (.iconst 1, 1) := dk_4 (dk_at dksX2_number_3 18 rfl rfl)
theorem dX2_number_90 : decode cX2_number 90 = .ok (.iadd, 1) := dk_96 (dk_at dksX2_number_3 19 rfl rfl)
theorem dX2_number_91 : decode cX2_number 91 = .ok (.putfield 79, 3) := dk_181 0 79 (dk_at dksX2_number_3 20 rfl rfl)
theorem dX2_number_94 : decode cX2_number 94 = .ok (.goto (-82), 3) := dk_167 255 174 (dk_at dksX2_number_4 0 rfl rfl)
theorem dX2_number_97 : decode cX2_number 97 = .ok (.aload_n 0, 1) := dk_42 (dk_at dksX2_number_4 3 rfl rfl)
theorem dX2_number_98 : decode cX2_number 98 = .ok (.getfield 79, 3) := dk_180 0 79 (dk_at dksX2_number_4 4 rfl rfl)
theorem dX2_number_101 : decode cX2_number 101 = .ok (.iload_n 2, 1) := dk_28 (dk_at dksX2_number_4 7 rfl rfl)
theorem dX2_number_102 : decode cX2_number 102 = .ok (.if_icmp .ne 8, 3) := dk_160 0 8 (dk_at dksX2_number_4 8 rfl rfl)
theorem dX2_number_105 : decode cX2_number 105 = .ok (.aload_n 0, 1) := dk_42 (dk_at dksX2_number_4 11 rfl rfl)
theorem dX2_number_106 : decode cX2_number 106 = .ok (.iload_n 2, 1) := dk_28 (dk_at dksX2_number_4 12 rfl rfl)
theorem dX2_number_107 : decode cX2_number 107 = .ok (.invokevirtual 96, 3) := dk_182 0 96 (dk_at dksX2_number_4 13 rfl rfl)
theorem dX2_number_110 : decode cX2_number 110 = .ok (.iload_n 3, 1) := dk_29 (dk_at dksX2_number_4 16 rfl rfl)
theorem dX2_number_111 : decode cX2_number 111 = .ok (.ireturn, 1) := dk_172 (dk_at dksX2_number_4 17 rfl rfl)
abbrev cX2_sum : ByteArray := prog_20_method_13_code
def yX2_sum : MethodName := ⟨RX2, "sum", "()LGrassField$Sum;"⟩
def dkwX2_sum_1 : List UInt8 := [180, 0, 79, 4, 96, 181, 0, 79, 42, 43, 182, 0, 197, 167, 255, 232, 43, 176]
abbrev dktX2_sum_1 : List UInt8 := dkwX2_sum_1 ++ []
def dkwX2_sum_0 : List UInt8 := [187, 0, 194, 89, 183, 0, 196, 76, 42, 43, 182, 0, 197, 42, 182, 0, 85, 16, 43, 160, 0, 21, 42, 89]
abbrev dktX2_sum_0 : List UInt8 := dkwX2_sum_0 ++ dktX2_sum_1
theorem dksX2_sum_0 : cX2_sum.data.toList.drop 0 = dktX2_sum_0 := by decide +kernel
theorem dksX2_sum_1 : cX2_sum.data.toList.drop 24 = dktX2_sum_1 := dk_seg dksX2_sum_0 24 rfl rfl
theorem dX2_sum_0 : decode cX2_sum 0 = .ok (.new 194, 3) := dk_187 0 194 (dk_at dksX2_sum_0 0 rfl rfl)
theorem dX2_sum_3 : decode cX2_sum 3 = .ok (.dup, 1) := dk_89 (dk_at dksX2_sum_0 3 rfl rfl)
theorem dX2_sum_4 : decode cX2_sum 4 = .ok (.invokespecial 196, 3) := dk_183 0 196 (dk_at dksX2_sum_0 4 rfl rfl)
theorem dX2_sum_7 : decode cX2_sum 7 = .ok (.astore_n 1, 1) := dk_76 (dk_at dksX2_sum_0 7 rfl rfl)
theorem dX2_sum_8 : decode cX2_sum 8 = .ok (.aload_n 0, 1) := dk_42 (dk_at dksX2_sum_0 8 rfl rfl)
theorem dX2_sum_9 : decode cX2_sum 9 = .ok (.aload_n 1, 1) := dk_43 (dk_at dksX2_sum_0 9 rfl rfl)
theorem dX2_sum_10 : decode cX2_sum 10 = .ok (.invokevirtual 197, 3) := dk_182 0 197 (dk_at dksX2_sum_0 10 rfl rfl)
theorem dX2_sum_13 : decode cX2_sum 13 = .ok (.aload_n 0, 1) := dk_42 (dk_at dksX2_sum_0 13 rfl rfl)
theorem dX2_sum_14 : decode cX2_sum 14 = .ok (.invokevirtual 85, 3) := dk_182 0 85 (dk_at dksX2_sum_0 14 rfl rfl)
theorem dX2_sum_17 : decode cX2_sum 17 = .ok (.bipush 43, 2) := dk_16 43 (dk_at dksX2_sum_0 17 rfl rfl)
theorem dX2_sum_19 : decode cX2_sum 19 = .ok (.if_icmp .ne 21, 3) := dk_160 0 21 (dk_at dksX2_sum_0 19 rfl rfl)
theorem dX2_sum_22 : decode cX2_sum 22 = .ok (.aload_n 0, 1) := dk_42 (dk_at dksX2_sum_0 22 rfl rfl)
theorem dX2_sum_23 : decode cX2_sum 23 = .ok (.dup, 1) := dk_89 (dk_at dksX2_sum_0 23 rfl rfl)
theorem dX2_sum_24 : decode cX2_sum 24 = .ok (.getfield 79, 3) := dk_180 0 79 (dk_at dksX2_sum_1 0 rfl rfl)
theorem dX2_sum_27 : decode cX2_sum 27 = .ok (.iconst 1, 1) := dk_4 (dk_at dksX2_sum_1 3 rfl rfl)
theorem dX2_sum_28 : decode cX2_sum 28 = .ok (.iadd, 1) := dk_96 (dk_at dksX2_sum_1 4 rfl rfl)
theorem dX2_sum_29 : decode cX2_sum 29 = .ok (.putfield 79, 3) := dk_181 0 79 (dk_at dksX2_sum_1 5 rfl rfl)
theorem dX2_sum_32 : decode cX2_sum 32 = .ok (.aload_n 0, 1) := dk_42 (dk_at dksX2_sum_1 8 rfl rfl)
theorem dX2_sum_33 : decode cX2_sum 33 = .ok (.aload_n 1, 1) := dk_43 (dk_at dksX2_sum_1 9 rfl rfl)
theorem dX2_sum_34 : decode cX2_sum 34 = .ok (.invokevirtual 197, 3) := dk_182 0 197 (dk_at dksX2_sum_1 10 rfl rfl)
theorem dX2_sum_37 : decode cX2_sum 37 = .ok (.goto (-24), 3) := dk_167 255 232 (dk_at dksX2_sum_1 13 rfl rfl)
theorem dX2_sum_40 : decode cX2_sum 40 = .ok (.aload_n 1, 1) := dk_43 (dk_at dksX2_sum_1 16 rfl rfl)
theorem dX2_sum_41 : decode cX2_sum 41 = .ok (.areturn, 1) := dk_176 (dk_at dksX2_sum_1 17 rfl rfl)
abbrev cX2_part : ByteArray := prog_20_method_14_code
def yX2_part : MethodName := ⟨RX2, "part", "(LGrassField$Sum;)V"⟩
def dkwX2_part_3 : List UInt8 := [42, 182, 0, 205, 92, 46, 29, 96, 79, 177]
abbrev dktX2_part_3 : List UInt8 := dkwX2_part_3 ++ []
def dkwX2_part_2 : List UInt8 := [89, 180, 0, 208, 29, 96, 181, 0, 208, 177, 42, 89, 180, 0, 79, 4, 96, 181, 0, 79, 43, 180, 0, 201]
abbrev dktX2_part_2 : List UInt8 := dkwX2_part_2 ++ dktX2_part_3
def dkwX2_part_1 : List UInt8 := [182, 0, 205, 92, 46, 4, 96, 79, 177, 42, 182, 0, 182, 62, 42, 182, 0, 85, 16, 42, 159, 0, 14, 43]
abbrev dktX2_part_1 : List UInt8 := dkwX2_part_1 ++ dktX2_part_2
def dkwX2_part_0 : List UInt8 := [42, 182, 0, 85, 61, 28, 16, 48, 161, 0, 9, 28, 16, 57, 164, 0, 17, 43, 180, 0, 201, 42]
abbrev dktX2_part_0 : List UInt8 := dkwX2_part_0 ++ dktX2_part_1
theorem dksX2_part_0 : cX2_part.data.toList.drop 0 = dktX2_part_0 := by decide +kernel
theorem dksX2_part_1 : cX2_part.data.toList.drop 22 = dktX2_part_1 := dk_seg dksX2_part_0 22 rfl rfl
theorem dksX2_part_2 : cX2_part.data.toList.drop 46 = dktX2_part_2 := dk_seg dksX2_part_1 24 rfl rfl
theorem dksX2_part_3 : cX2_part.data.toList.drop 70 = dktX2_part_3 := dk_seg dksX2_part_2 24 rfl rfl
theorem dX2_part_0 : decode cX2_part 0 = .ok (.aload_n 0, 1) := dk_42 (dk_at dksX2_part_0 0 rfl rfl)
theorem dX2_part_1 : decode cX2_part 1 = .ok (.invokevirtual 85, 3) := dk_182 0 85 (dk_at dksX2_part_0 1 rfl rfl)
theorem dX2_part_4 : decode cX2_part 4 = .ok (.istore_n 2, 1) := dk_61 (dk_at dksX2_part_0 4 rfl rfl)
theorem dX2_part_5 : decode cX2_part 5 = .ok (.iload_n 2, 1) := dk_28 (dk_at dksX2_part_0 5 rfl rfl)
theorem dX2_part_6 : decode cX2_part 6 = .ok (.bipush 48, 2) := dk_16 48 (dk_at dksX2_part_0 6 rfl rfl)
theorem dX2_part_8 : decode cX2_part 8 = .ok (.if_icmp .lt 9, 3) := dk_161 0 9 (dk_at dksX2_part_0 8 rfl rfl)
theorem dX2_part_11 : decode cX2_part 11 = .ok (.iload_n 2, 1) := dk_28 (dk_at dksX2_part_0 11 rfl rfl)
theorem dX2_part_12 : decode cX2_part 12 = .ok (.bipush 57, 2) := dk_16 57 (dk_at dksX2_part_0 12 rfl rfl)
theorem dX2_part_14 : decode cX2_part 14 = .ok (.if_icmp .le 17, 3) := dk_164 0 17 (dk_at dksX2_part_0 14 rfl rfl)
theorem dX2_part_17 : decode cX2_part 17 = .ok (.aload_n 1, 1) := dk_43 (dk_at dksX2_part_0 17 rfl rfl)
theorem dX2_part_18 : decode cX2_part 18 = .ok (.getfield 201, 3) := dk_180 0 201 (dk_at dksX2_part_0 18 rfl rfl)
theorem dX2_part_21 : decode cX2_part 21 = .ok (.aload_n 0, 1) := dk_42 (dk_at dksX2_part_0 21 rfl rfl)
theorem dX2_part_22 : decode cX2_part 22 = .ok (.invokevirtual 205, 3) := dk_182 0 205 (dk_at dksX2_part_1 0 rfl rfl)
theorem dX2_part_25 : decode cX2_part 25 = .ok (.dup2, 1) := dk_92 (dk_at dksX2_part_1 3 rfl rfl)
theorem dX2_part_26 : decode cX2_part 26 = .ok (.iaload, 1) := dk_46 (dk_at dksX2_part_1 4 rfl rfl)
theorem dX2_part_27 : decode cX2_part 27 = .ok (.iconst 1, 1) := dk_4 (dk_at dksX2_part_1 5 rfl rfl)
theorem dX2_part_28 : decode cX2_part 28 = .ok (.iadd, 1) := dk_96 (dk_at dksX2_part_1 6 rfl rfl)
theorem dX2_part_29 : decode cX2_part 29 = .ok (.iastore, 1) := dk_79 (dk_at dksX2_part_1 7 rfl rfl)
theorem dX2_part_30 : decode cX2_part 30 = .ok (.return_, 1) := dk_177 (dk_at dksX2_part_1 8 rfl rfl)
theorem dX2_part_31 : decode cX2_part 31 = .ok (.aload_n 0, 1) := dk_42 (dk_at dksX2_part_1 9 rfl rfl)
theorem dX2_part_32 : decode cX2_part 32 = .ok (.invokevirtual 182, 3) := dk_182 0 182 (dk_at dksX2_part_1 10 rfl rfl)
theorem dX2_part_35 : decode cX2_part 35 = .ok (.istore_n 3, 1) := dk_62 (dk_at dksX2_part_1 13 rfl rfl)
theorem dX2_part_36 : decode cX2_part 36 = .ok (.aload_n 0, 1) := dk_42 (dk_at dksX2_part_1 14 rfl rfl)
theorem dX2_part_37 : decode cX2_part 37 = .ok (.invokevirtual 85, 3) := dk_182 0 85 (dk_at dksX2_part_1 15 rfl rfl)
theorem dX2_part_40 : decode cX2_part 40 = .ok (.bipush 42, 2) := dk_16 42 (dk_at dksX2_part_1 18 rfl rfl)
theorem dX2_part_42 : decode cX2_part 42 = .ok (.if_icmp .eq 14, 3) := dk_159 0 14 (dk_at dksX2_part_1 20 rfl rfl)
theorem dX2_part_45 : decode cX2_part 45 = .ok (.aload_n 1, 1) := dk_43 (dk_at dksX2_part_1 23 rfl rfl)
theorem dX2_part_46 : decode cX2_part 46 = .ok (.dup, 1) := dk_89 (dk_at dksX2_part_2 0 rfl rfl)
theorem dX2_part_47 : decode cX2_part 47 = .ok (.getfield 208, 3) := dk_180 0 208 (dk_at dksX2_part_2 1 rfl rfl)
theorem dX2_part_50 : decode cX2_part 50 = .ok (.iload_n 3, 1) := dk_29 (dk_at dksX2_part_2 4 rfl rfl)
theorem dX2_part_51 : decode cX2_part 51 = .ok (.iadd, 1) := dk_96 (dk_at dksX2_part_2 5 rfl rfl)
theorem dX2_part_52 : decode cX2_part 52 = .ok (.putfield 208, 3) := dk_181 0 208 (dk_at dksX2_part_2 6 rfl rfl)
theorem dX2_part_55 : decode cX2_part 55 = .ok (.return_, 1) := dk_177 (dk_at dksX2_part_2 9 rfl rfl)
theorem dX2_part_56 : decode cX2_part 56 = .ok (.aload_n 0, 1) := dk_42 (dk_at dksX2_part_2 10 rfl rfl)
theorem dX2_part_57 : decode cX2_part 57 = .ok (.dup, 1) := dk_89 (dk_at dksX2_part_2 11 rfl rfl)
theorem dX2_part_58 : decode cX2_part 58 = .ok (.getfield 79, 3) := dk_180 0 79 (dk_at dksX2_part_2 12 rfl rfl)
theorem dX2_part_61 : decode cX2_part 61 = .ok (.iconst 1, 1) := dk_4 (dk_at dksX2_part_2 15 rfl rfl)
theorem dX2_part_62 : decode cX2_part 62 = .ok (.iadd, 1) := dk_96 (dk_at dksX2_part_2 16 rfl rfl)
theorem dX2_part_63 : decode cX2_part 63 = .ok (.putfield 79, 3) := dk_181 0 79 (dk_at dksX2_part_2 17 rfl rfl)
theorem dX2_part_66 : decode cX2_part 66 = .ok (.aload_n 1, 1) := dk_43 (dk_at dksX2_part_2 20 rfl rfl)
theorem dX2_part_67 : decode cX2_part 67 = .ok (.getfield 201, 3) := dk_180 0 201 (dk_at dksX2_part_2 21 rfl rfl)
theorem dX2_part_70 : decode cX2_part 70 = .ok (.aload_n 0, 1) := dk_42 (dk_at dksX2_part_3 0 rfl rfl)
theorem dX2_part_71 : decode cX2_part 71 = .ok (.invokevirtual 205, 3) := dk_182 0 205 (dk_at dksX2_part_3 1 rfl rfl)
theorem dX2_part_74 : decode cX2_part 74 = .ok (.dup2, 1) := dk_92 (dk_at dksX2_part_3 4 rfl rfl)
theorem dX2_part_75 : decode cX2_part 75 = .ok (.iaload, 1) := dk_46 (dk_at dksX2_part_3 5 rfl rfl)
theorem dX2_part_76 : decode cX2_part 76 = .ok (.iload_n 3, 1) := dk_29 (dk_at dksX2_part_3 6 rfl rfl)
theorem dX2_part_77 : decode cX2_part 77 = .ok (.iadd, 1) := dk_96 (dk_at dksX2_part_3 7 rfl rfl)
theorem dX2_part_78 : decode cX2_part 78 = .ok (.iastore, 1) := dk_79 (dk_at dksX2_part_3 8 rfl rfl)
theorem dX2_part_79 : decode cX2_part 79 = .ok (.return_, 1) := dk_177 (dk_at dksX2_part_3 9 rfl rfl)
abbrev cX2_fact : ByteArray := prog_20_method_15_code
def yX2_fact : MethodName := ⟨RX2, "fact", "()I"⟩
def dkwX2_fact_2 : List UInt8 := [132, 1, 1, 167, 255, 220, 42, 42, 180, 0, 79, 182, 0, 96, 2, 172]
abbrev dktX2_fact_2 : List UInt8 := dkwX2_fact_2 ++ []
def dkwX2_fact_1 : List UInt8 := [167, 0, 5, 16, 14, 162, 0, 24, 42, 42, 180, 0, 45, 27, 50, 182, 0, 123, 153, 0, 5, 27, 172]
abbrev dktX2_fact_1 : List UInt8 := dkwX2_fact_1 ++ dktX2_fact_2
def dkwX2_fact_0 : List UInt8 := [42, 180, 0, 103, 153, 0, 7, 3, 167, 0, 5, 16, 7, 60, 27, 42, 180, 0, 103, 153, 0, 8, 16, 7]
abbrev dktX2_fact_0 : List UInt8 := dkwX2_fact_0 ++ dktX2_fact_1
theorem dksX2_fact_0 : cX2_fact.data.toList.drop 0 = dktX2_fact_0 := by decide +kernel
theorem dksX2_fact_1 : cX2_fact.data.toList.drop 24 = dktX2_fact_1 := dk_seg dksX2_fact_0 24 rfl rfl
theorem dksX2_fact_2 : cX2_fact.data.toList.drop 47 = dktX2_fact_2 := dk_seg dksX2_fact_1 23 rfl rfl
theorem dX2_fact_0 : decode cX2_fact 0 = .ok (.aload_n 0, 1) := dk_42 (dk_at dksX2_fact_0 0 rfl rfl)
theorem dX2_fact_1 : decode cX2_fact 1 = .ok (.getfield 103, 3) := dk_180 0 103 (dk_at dksX2_fact_0 1 rfl rfl)
theorem dX2_fact_4 : decode cX2_fact 4 = .ok (.ifCond .eq 7, 3) := dk_153 0 7 (dk_at dksX2_fact_0 4 rfl rfl)
theorem dX2_fact_7 : decode cX2_fact 7 = .ok (.iconst 0, 1) := dk_3 (dk_at dksX2_fact_0 7 rfl rfl)
theorem dX2_fact_8 : decode cX2_fact 8 = .ok (.goto 5, 3) := dk_167 0 5 (dk_at dksX2_fact_0 8 rfl rfl)
theorem dX2_fact_11 : decode cX2_fact 11 = .ok (.bipush 7, 2) := dk_16 7 (dk_at dksX2_fact_0 11 rfl rfl)
theorem dX2_fact_13 : decode cX2_fact 13 = .ok (.istore_n 1, 1) := dk_60 (dk_at dksX2_fact_0 13 rfl rfl)
theorem dX2_fact_14 : decode cX2_fact 14 = .ok (.iload_n 1, 1) := dk_27 (dk_at dksX2_fact_0 14 rfl rfl)
theorem dX2_fact_15 : decode cX2_fact 15 = .ok (.aload_n 0, 1) := dk_42 (dk_at dksX2_fact_0 15 rfl rfl)
theorem dX2_fact_16 : decode cX2_fact 16 = .ok (.getfield 103, 3) := dk_180 0 103 (dk_at dksX2_fact_0 16 rfl rfl)
theorem dX2_fact_19 : decode cX2_fact 19 = .ok (.ifCond .eq 8, 3) := dk_153 0 8 (dk_at dksX2_fact_0 19 rfl rfl)
theorem dX2_fact_22 : decode cX2_fact 22 = .ok (.bipush 7, 2) := dk_16 7 (dk_at dksX2_fact_0 22 rfl rfl)
theorem dX2_fact_24 : decode cX2_fact 24 = .ok (.goto 5, 3) := dk_167 0 5 (dk_at dksX2_fact_1 0 rfl rfl)
theorem dX2_fact_27 : decode cX2_fact 27 = .ok (.bipush 14, 2) := dk_16 14 (dk_at dksX2_fact_1 3 rfl rfl)
theorem dX2_fact_29 : decode cX2_fact 29 = .ok (.if_icmp .ge 24, 3) := dk_162 0 24 (dk_at dksX2_fact_1 5 rfl rfl)
theorem dX2_fact_32 : decode cX2_fact 32 = .ok (.aload_n 0, 1) := dk_42 (dk_at dksX2_fact_1 8 rfl rfl)
theorem dX2_fact_33 : decode cX2_fact 33 = .ok (.aload_n 0, 1) := dk_42 (dk_at dksX2_fact_1 9 rfl rfl)
theorem dX2_fact_34 : decode cX2_fact 34 = .ok (.getfield 45, 3) := dk_180 0 45 (dk_at dksX2_fact_1 10 rfl rfl)
theorem dX2_fact_37 : decode cX2_fact 37 = .ok (.iload_n 1, 1) := dk_27 (dk_at dksX2_fact_1 13 rfl rfl)
theorem dX2_fact_38 : decode cX2_fact 38 = .ok (.aaload, 1) := dk_50 (dk_at dksX2_fact_1 14 rfl rfl)
theorem dX2_fact_39 : decode cX2_fact 39 = .ok (.invokevirtual 123, 3) := dk_182 0 123 (dk_at dksX2_fact_1 15 rfl rfl)
theorem dX2_fact_42 : decode cX2_fact 42 = .ok (.ifCond .eq 5, 3) := dk_153 0 5 (dk_at dksX2_fact_1 18 rfl rfl)
theorem dX2_fact_45 : decode cX2_fact 45 = .ok (.iload_n 1, 1) := dk_27 (dk_at dksX2_fact_1 21 rfl rfl)
theorem dX2_fact_46 : decode cX2_fact 46 = .ok (.ireturn, 1) := dk_172 (dk_at dksX2_fact_1 22 rfl rfl)
theorem dX2_fact_47 : decode cX2_fact 47 = .ok (.iinc 1 1, 3) := dk_132 1 1 (dk_at dksX2_fact_2 0 rfl rfl)
theorem dX2_fact_50 : decode cX2_fact 50 = .ok (.goto (-36), 3) := dk_167 255 220 (dk_at dksX2_fact_2 3 rfl rfl)
theorem dX2_fact_53 : decode cX2_fact 53 = .ok (.aload_n 0, 1) := dk_42 (dk_at dksX2_fact_2 6 rfl rfl)
theorem dX2_fact_54 : decode cX2_fact 54 = .ok (.aload_n 0, 1) := dk_42 (dk_at dksX2_fact_2 7 rfl rfl)
theorem dX2_fact_55 : decode cX2_fact 55 = .ok (.getfield 79, 3) := dk_180 0 79 (dk_at dksX2_fact_2 8 rfl rfl)
theorem dX2_fact_58 : decode cX2_fact 58 = .ok (.invokevirtual 96, 3) := dk_182 0 96 (dk_at dksX2_fact_2 11 rfl rfl)
theorem dX2_fact_61 : decode cX2_fact 61 = .ok (.iconst (-1), 1) := dk_2 (dk_at dksX2_fact_2 14 rfl rfl)
theorem dX2_fact_62 : decode cX2_fact 62 = .ok (.ireturn, 1) := dk_172 (dk_at dksX2_fact_2 15 rfl rfl)
abbrev cX2_story : ByteArray := prog_20_method_8_code
def yX2_story : MethodName := ⟨RX2, "story", "(I)LGrassField$Cond;"⟩
def dkwX2_story_1 : List UInt8 := [180, 0, 79, 182, 0, 96, 44, 176]
abbrev dktX2_story_1 : List UInt8 := dkwX2_story_1 ++ []
def dkwX2_story_0 : List UInt8 := [42, 27, 3, 182, 0, 107, 42, 3, 182, 0, 120, 77, 42, 182, 0, 85, 2, 159, 0, 11, 42, 42]
abbrev dktX2_story_0 : List UInt8 := dkwX2_story_0 ++ dktX2_story_1
theorem dksX2_story_0 : cX2_story.data.toList.drop 0 = dktX2_story_0 := by decide +kernel
theorem dksX2_story_1 : cX2_story.data.toList.drop 22 = dktX2_story_1 := dk_seg dksX2_story_0 22 rfl rfl
theorem dX2_story_0 : decode cX2_story 0 = .ok (.aload_n 0, 1) := dk_42 (dk_at dksX2_story_0 0 rfl rfl)
theorem dX2_story_1 : decode cX2_story 1 = .ok (.iload_n 1, 1) := dk_27 (dk_at dksX2_story_0 1 rfl rfl)
theorem dX2_story_2 : decode cX2_story 2 = .ok (.iconst 0, 1) := dk_3 (dk_at dksX2_story_0 2 rfl rfl)
theorem dX2_story_3 : decode cX2_story 3 = .ok (.invokevirtual 107, 3) := dk_182 0 107 (dk_at dksX2_story_0 3 rfl rfl)
theorem dX2_story_6 : decode cX2_story 6 = .ok (.aload_n 0, 1) := dk_42 (dk_at dksX2_story_0 6 rfl rfl)
theorem dX2_story_7 : decode cX2_story 7 = .ok (.iconst 0, 1) := dk_3 (dk_at dksX2_story_0 7 rfl rfl)
theorem dX2_story_8 : decode cX2_story 8 = .ok (.invokevirtual 120, 3) := dk_182 0 120 (dk_at dksX2_story_0 8 rfl rfl)
theorem dX2_story_11 : decode cX2_story 11 = .ok (.astore_n 2, 1) := dk_77 (dk_at dksX2_story_0 11 rfl rfl)
theorem dX2_story_12 : decode cX2_story 12 = .ok (.aload_n 0, 1) := dk_42 (dk_at dksX2_story_0 12 rfl rfl)
theorem dX2_story_13 : decode cX2_story 13 = .ok (.invokevirtual 85, 3) := dk_182 0 85 (dk_at dksX2_story_0 13 rfl rfl)
theorem dX2_story_16 : decode cX2_story 16 = .ok (.iconst (-1), 1) := dk_2 (dk_at dksX2_story_0 16 rfl rfl)
theorem dX2_story_17 : decode cX2_story 17 = .ok (.if_icmp .eq 11, 3) := dk_159 0 11 (dk_at dksX2_story_0 17 rfl rfl)
theorem dX2_story_20 : decode cX2_story 20 = .ok (.aload_n 0, 1) := dk_42 (dk_at dksX2_story_0 20 rfl rfl)
theorem dX2_story_21 : decode cX2_story 21 = .ok (.aload_n 0, 1) := dk_42 (dk_at dksX2_story_0 21 rfl rfl)
theorem dX2_story_22 : decode cX2_story 22 = .ok (.getfield 79, 3) := dk_180 0 79 (dk_at dksX2_story_1 0 rfl rfl)
theorem dX2_story_25 : decode cX2_story 25 = .ok (.invokevirtual 96, 3) := dk_182 0 96 (dk_at dksX2_story_1 3 rfl rfl)
theorem dX2_story_28 : decode cX2_story 28 = .ok (.aload_n 2, 1) := dk_44 (dk_at dksX2_story_1 6 rfl rfl)
theorem dX2_story_29 : decode cX2_story 29 = .ok (.areturn, 1) := dk_176 (dk_at dksX2_story_1 7 rfl rfl)
abbrev cX3_init : ByteArray := prog_28_method_1_code
def yX3_init : MethodName := ⟨RX3, "<init>", "()V"⟩
def dkwX3_init_0 : List UInt8 := [42, 1, 1, 3, 3, 183, 0, 1, 177]
abbrev dktX3_init_0 : List UInt8 := dkwX3_init_0 ++ []
theorem dksX3_init_0 : cX3_init.data.toList.drop 0 = dktX3_init_0 := by decide +kernel
theorem dX3_init_0 : decode cX3_init 0 = .ok (.aload_n 0, 1) := dk_42 (dk_at dksX3_init_0 0 rfl rfl)
theorem dX3_init_1 : decode cX3_init 1 = .ok (.aconst_null, 1) := dk_1 (dk_at dksX3_init_0 1 rfl rfl)
theorem dX3_init_2 : decode cX3_init 2 = .ok (.aconst_null, 1) := dk_1 (dk_at dksX3_init_0 2 rfl rfl)
theorem dX3_init_3 : decode cX3_init 3 = .ok (.iconst 0, 1) := dk_3 (dk_at dksX3_init_0 3 rfl rfl)
theorem dX3_init_4 : decode cX3_init 4 = .ok (.iconst 0, 1) := dk_3 (dk_at dksX3_init_0 4 rfl rfl)
theorem dX3_init_5 : decode cX3_init 5 = .ok (.invokespecial 1, 3) := dk_183 0 1 (dk_at dksX3_init_0 5 rfl rfl)
theorem dX3_init_8 : decode cX3_init 8 = .ok (.return_, 1) := dk_177 (dk_at dksX3_init_0 8 rfl rfl)
abbrev cX4_init : ByteArray := prog_12_method_1_code
def yX4_init : MethodName := ⟨RX4, "<init>", "()V"⟩
def dkwX4_init_4 : List UInt8 := [181, 0, 64, 177]
abbrev dktX4_init_4 : List UInt8 := dkwX4_init_4 ++ []
def dkwX4_init_3 : List UInt8 := [189, 0, 51, 181, 0, 53, 42, 16, 17, 188, 10, 181, 0, 57, 42, 17, 7, 84, 181, 0, 60, 42, 16, 9]
abbrev dktX4_init_3 : List UInt8 := dkwX4_init_3 ++ dktX4_init_4
def dkwX4_init_2 : List UInt8 := [181, 0, 35, 42, 16, 8, 189, 0, 39, 181, 0, 41, 42, 16, 20, 189, 0, 45, 181, 0, 47, 42, 8]
abbrev dktX4_init_2 : List UInt8 := dkwX4_init_2 ++ dktX4_init_3
def dkwX4_init_1 : List UInt8 := [16, 8, 189, 0, 21, 181, 0, 23, 42, 7, 189, 0, 27, 181, 0, 29, 42, 16, 120, 189, 0, 33]
abbrev dktX4_init_1 : List UInt8 := dkwX4_init_1 ++ dktX4_init_2
def dkwX4_init_0 : List UInt8 := [42, 183, 0, 3, 42, 17, 1, 0, 188, 10, 181, 0, 9, 42, 16, 8, 189, 0, 15, 181, 0, 17, 42]
abbrev dktX4_init_0 : List UInt8 := dkwX4_init_0 ++ dktX4_init_1
theorem dksX4_init_0 : cX4_init.data.toList.drop 0 = dktX4_init_0 := by decide +kernel
theorem dksX4_init_1 : cX4_init.data.toList.drop 23 = dktX4_init_1 := dk_seg dksX4_init_0 23 rfl rfl
theorem dksX4_init_2 : cX4_init.data.toList.drop 45 = dktX4_init_2 := dk_seg dksX4_init_1 22 rfl rfl
theorem dksX4_init_3 : cX4_init.data.toList.drop 68 = dktX4_init_3 := dk_seg dksX4_init_2 23 rfl rfl
theorem dksX4_init_4 : cX4_init.data.toList.drop 92 = dktX4_init_4 := dk_seg dksX4_init_3 24 rfl rfl
theorem dX4_init_0 : decode cX4_init 0 = .ok (.aload_n 0, 1) := dk_42 (dk_at dksX4_init_0 0 rfl rfl)
theorem dX4_init_1 : decode cX4_init 1 = .ok (.invokespecial 3, 3) := dk_183 0 3 (dk_at dksX4_init_0 1 rfl rfl)
theorem dX4_init_4 : decode cX4_init 4 = .ok (.aload_n 0, 1) := dk_42 (dk_at dksX4_init_0 4 rfl rfl)
theorem dX4_init_5 : decode cX4_init 5 = .ok (.sipush 256, 3) := dk_17 1 0 (dk_at dksX4_init_0 5 rfl rfl)
theorem dX4_init_8 : decode cX4_init 8 = .ok (.newarray .int, 2) := dk_188_10 (dk_at dksX4_init_0 8 rfl rfl)
theorem dX4_init_10 : decode cX4_init 10 = .ok (.putfield 9, 3) := dk_181 0 9 (dk_at dksX4_init_0 10 rfl rfl)
theorem dX4_init_13 : decode cX4_init 13 = .ok (.aload_n 0, 1) := dk_42 (dk_at dksX4_init_0 13 rfl rfl)
theorem dX4_init_14 : decode cX4_init 14 = .ok (.bipush 8, 2) := dk_16 8 (dk_at dksX4_init_0 14 rfl rfl)
theorem dX4_init_16 : decode cX4_init 16 = .ok (.anewarray 15, 3) := dk_189 0 15 (dk_at dksX4_init_0 16 rfl rfl)
theorem dX4_init_19 : decode cX4_init 19 = .ok (.putfield 17, 3) := dk_181 0 17 (dk_at dksX4_init_0 19 rfl rfl)
theorem dX4_init_22 : decode cX4_init 22 = .ok (.aload_n 0, 1) := dk_42 (dk_at dksX4_init_0 22 rfl rfl)
theorem dX4_init_23 : decode cX4_init 23 = .ok (.bipush 8, 2) := dk_16 8 (dk_at dksX4_init_1 0 rfl rfl)
theorem dX4_init_25 : decode cX4_init 25 = .ok (.anewarray 21, 3) := dk_189 0 21 (dk_at dksX4_init_1 2 rfl rfl)
theorem dX4_init_28 : decode cX4_init 28 = .ok (.putfield 23, 3) := dk_181 0 23 (dk_at dksX4_init_1 5 rfl rfl)
theorem dX4_init_31 : decode cX4_init 31 = .ok (.aload_n 0, 1) := dk_42 (dk_at dksX4_init_1 8 rfl rfl)
theorem dX4_init_32 : decode cX4_init 32 = .ok (.iconst 4, 1) := dk_7 (dk_at dksX4_init_1 9 rfl rfl)
theorem dX4_init_33 : decode cX4_init 33 = .ok (.anewarray 27, 3) := dk_189 0 27 (dk_at dksX4_init_1 10 rfl rfl)
theorem dX4_init_36 : decode cX4_init 36 = .ok (.putfield 29, 3) := dk_181 0 29 (dk_at dksX4_init_1 13 rfl rfl)
theorem dX4_init_39 : decode cX4_init 39 = .ok (.aload_n 0, 1) := dk_42 (dk_at dksX4_init_1 16 rfl rfl)
theorem dX4_init_40 : decode cX4_init 40 = .ok (.bipush 120, 2) := dk_16 120 (dk_at dksX4_init_1 17 rfl rfl)
theorem dX4_init_42 : decode cX4_init 42 = .ok (.anewarray 33, 3) := dk_189 0 33 (dk_at dksX4_init_1 19 rfl rfl)
theorem dX4_init_45 : decode cX4_init 45 = .ok (.putfield 35, 3) := dk_181 0 35 (dk_at dksX4_init_2 0 rfl rfl)
theorem dX4_init_48 : decode cX4_init 48 = .ok (.aload_n 0, 1) := dk_42 (dk_at dksX4_init_2 3 rfl rfl)
theorem dX4_init_49 : decode cX4_init 49 = .ok (.bipush 8, 2) := dk_16 8 (dk_at dksX4_init_2 4 rfl rfl)
theorem dX4_init_51 : decode cX4_init 51 = .ok (.anewarray 39, 3) := dk_189 0 39 (dk_at dksX4_init_2 6 rfl rfl)
theorem dX4_init_54 : decode cX4_init 54 = .ok (.putfield 41, 3) := dk_181 0 41 (dk_at dksX4_init_2 9 rfl rfl)
theorem dX4_init_57 : decode cX4_init 57 = .ok (.aload_n 0, 1) := dk_42 (dk_at dksX4_init_2 12 rfl rfl)
theorem dX4_init_58 : decode cX4_init 58 = .ok (.bipush 20, 2) := dk_16 20 (dk_at dksX4_init_2 13 rfl rfl)
theorem dX4_init_60 : decode cX4_init 60 = .ok (.anewarray 45, 3) := dk_189 0 45 (dk_at dksX4_init_2 15 rfl rfl)
theorem dX4_init_63 : decode cX4_init 63 = .ok (.putfield 47, 3) := dk_181 0 47 (dk_at dksX4_init_2 18 rfl rfl)
theorem dX4_init_66 : decode cX4_init 66 = .ok (.aload_n 0, 1) := dk_42 (dk_at dksX4_init_2 21 rfl rfl)
theorem dX4_init_67 : decode cX4_init 67 = .ok (.iconst 5, 1) := dk_8 (dk_at dksX4_init_2 22 rfl rfl)
theorem dX4_init_68 : decode cX4_init 68 = .ok (.anewarray 51, 3) := dk_189 0 51 (dk_at dksX4_init_3 0 rfl rfl)
theorem dX4_init_71 : decode cX4_init 71 = .ok (.putfield 53, 3) := dk_181 0 53 (dk_at dksX4_init_3 3 rfl rfl)
theorem dX4_init_74 : decode cX4_init 74 = .ok (.aload_n 0, 1) := dk_42 (dk_at dksX4_init_3 6 rfl rfl)
theorem dX4_init_75 : decode cX4_init 75 = .ok (.bipush 17, 2) := dk_16 17 (dk_at dksX4_init_3 7 rfl rfl)
theorem dX4_init_77 : decode cX4_init 77 = .ok (.newarray .int, 2) := dk_188_10 (dk_at dksX4_init_3 9 rfl rfl)
theorem dX4_init_79 : decode cX4_init 79 = .ok (.putfield 57, 3) := dk_181 0 57 (dk_at dksX4_init_3 11 rfl rfl)
theorem dX4_init_82 : decode cX4_init 82 = .ok (.aload_n 0, 1) := dk_42 (dk_at dksX4_init_3 14 rfl rfl)
theorem dX4_init_83 : decode cX4_init 83 = .ok (.sipush 1876, 3) := dk_17 7 84 (dk_at dksX4_init_3 15 rfl rfl)
theorem dX4_init_86 : decode cX4_init 86 = .ok (.putfield 60, 3) := dk_181 0 60 (dk_at dksX4_init_3 18 rfl rfl)
theorem dX4_init_89 : decode cX4_init 89 = .ok (.aload_n 0, 1) := dk_42 (dk_at dksX4_init_3 21 rfl rfl)
theorem dX4_init_90 : decode cX4_init 90 = .ok (.bipush 9, 2) := dk_16 9 (dk_at dksX4_init_3 22 rfl rfl)
theorem dX4_init_92 : decode cX4_init 92 = .ok (.putfield 64, 3) := dk_181 0 64 (dk_at dksX4_init_4 0 rfl rfl)
theorem dX4_init_95 : decode cX4_init 95 = .ok (.return_, 1) := dk_177 (dk_at dksX4_init_4 3 rfl rfl)
abbrev cX4_seen : ByteArray := prog_12_method_14_code
def yX4_seen : MethodName := ⟨RX4, "seen", "()I"⟩
def dkwX4_seen_1 : List UInt8 := [167, 0, 4, 3, 96, 60, 132, 2, 1, 167, 255, 229, 27, 172]
abbrev dktX4_seen_1 : List UInt8 := dkwX4_seen_1 ++ []
def dkwX4_seen_0 : List UInt8 := [3, 60, 3, 61, 28, 42, 180, 0, 100, 162, 0, 25, 27, 42, 28, 182, 0, 218, 153, 0, 7, 4]
abbrev dktX4_seen_0 : List UInt8 := dkwX4_seen_0 ++ dktX4_seen_1
theorem dksX4_seen_0 : cX4_seen.data.toList.drop 0 = dktX4_seen_0 := by decide +kernel
theorem dksX4_seen_1 : cX4_seen.data.toList.drop 22 = dktX4_seen_1 := dk_seg dksX4_seen_0 22 rfl rfl
theorem dX4_seen_0 : decode cX4_seen 0 = .ok (.iconst 0, 1) := dk_3 (dk_at dksX4_seen_0 0 rfl rfl)
theorem dX4_seen_1 : decode cX4_seen 1 = .ok (.istore_n 1, 1) := dk_60 (dk_at dksX4_seen_0 1 rfl rfl)
theorem dX4_seen_2 : decode cX4_seen 2 = .ok (.iconst 0, 1) := dk_3 (dk_at dksX4_seen_0 2 rfl rfl)
theorem dX4_seen_3 : decode cX4_seen 3 = .ok (.istore_n 2, 1) := dk_61 (dk_at dksX4_seen_0 3 rfl rfl)
theorem dX4_seen_4 : decode cX4_seen 4 = .ok (.iload_n 2, 1) := dk_28 (dk_at dksX4_seen_0 4 rfl rfl)
theorem dX4_seen_5 : decode cX4_seen 5 = .ok (.aload_n 0, 1) := dk_42 (dk_at dksX4_seen_0 5 rfl rfl)
theorem dX4_seen_6 : decode cX4_seen 6 = .ok (.getfield 100, 3) := dk_180 0 100 (dk_at dksX4_seen_0 6 rfl rfl)
theorem dX4_seen_9 : decode cX4_seen 9 = .ok (.if_icmp .ge 25, 3) := dk_162 0 25 (dk_at dksX4_seen_0 9 rfl rfl)
theorem dX4_seen_12 : decode cX4_seen 12 = .ok (.iload_n 1, 1) := dk_27 (dk_at dksX4_seen_0 12 rfl rfl)
theorem dX4_seen_13 : decode cX4_seen 13 = .ok (.aload_n 0, 1) := dk_42 (dk_at dksX4_seen_0 13 rfl rfl)
theorem dX4_seen_14 : decode cX4_seen 14 = .ok (.iload_n 2, 1) := dk_28 (dk_at dksX4_seen_0 14 rfl rfl)
theorem dX4_seen_15 : decode cX4_seen 15 = .ok (.invokevirtual 218, 3) := dk_182 0 218 (dk_at dksX4_seen_0 15 rfl rfl)
theorem dX4_seen_18 : decode cX4_seen 18 = .ok (.ifCond .eq 7, 3) := dk_153 0 7 (dk_at dksX4_seen_0 18 rfl rfl)
theorem dX4_seen_21 : decode cX4_seen 21 = .ok (.iconst 1, 1) := dk_4 (dk_at dksX4_seen_0 21 rfl rfl)
theorem dX4_seen_22 : decode cX4_seen 22 = .ok (.goto 4, 3) := dk_167 0 4 (dk_at dksX4_seen_1 0 rfl rfl)
theorem dX4_seen_25 : decode cX4_seen 25 = .ok (.iconst 0, 1) := dk_3 (dk_at dksX4_seen_1 3 rfl rfl)
theorem dX4_seen_26 : decode cX4_seen 26 = .ok (.iadd, 1) := dk_96 (dk_at dksX4_seen_1 4 rfl rfl)
theorem dX4_seen_27 : decode cX4_seen 27 = .ok (.istore_n 1, 1) := dk_60 (dk_at dksX4_seen_1 5 rfl rfl)
theorem dX4_seen_28 : decode cX4_seen 28 = .ok (.iinc 2 1, 3) := dk_132 2 1 (dk_at dksX4_seen_1 6 rfl rfl)
theorem dX4_seen_31 : decode cX4_seen 31 = .ok (.goto (-27), 3) := dk_167 255 229 (dk_at dksX4_seen_1 9 rfl rfl)
theorem dX4_seen_34 : decode cX4_seen 34 = .ok (.iload_n 1, 1) := dk_27 (dk_at dksX4_seen_1 12 rfl rfl)
theorem dX4_seen_35 : decode cX4_seen 35 = .ok (.ireturn, 1) := dk_172 (dk_at dksX4_seen_1 13 rfl rfl)
abbrev cX4_isSeen : ByteArray := prog_12_method_13_code
def yX4_isSeen : MethodName := ⟨RX4, "isSeen", "(I)Z"⟩
def dkwX4_isSeen_1 : List UInt8 := [182, 0, 211, 182, 0, 214, 153, 0, 7, 4, 167, 0, 4, 3, 172]
abbrev dktX4_isSeen_1 : List UInt8 := dkwX4_isSeen_1 ++ []
def dkwX4_isSeen_0 : List UInt8 := [42, 180, 0, 35, 27, 50, 182, 0, 207, 42, 180, 0, 64, 163, 0, 23, 42, 42, 180, 0, 35, 27, 50]
abbrev dktX4_isSeen_0 : List UInt8 := dkwX4_isSeen_0 ++ dktX4_isSeen_1
theorem dksX4_isSeen_0 : cX4_isSeen.data.toList.drop 0 = dktX4_isSeen_0 := by decide +kernel
theorem dksX4_isSeen_1 : cX4_isSeen.data.toList.drop 23 = dktX4_isSeen_1 := dk_seg dksX4_isSeen_0 23 rfl rfl
theorem dX4_isSeen_0 : decode cX4_isSeen 0 = .ok (.aload_n 0, 1) := dk_42 (dk_at dksX4_isSeen_0 0 rfl rfl)
theorem dX4_isSeen_1 : decode cX4_isSeen 1 = .ok (.getfield 35, 3) := dk_180 0 35 (dk_at dksX4_isSeen_0 1 rfl rfl)
theorem dX4_isSeen_4 : decode cX4_isSeen 4 = .ok (.iload_n 1, 1) := dk_27 (dk_at dksX4_isSeen_0 4 rfl rfl)
theorem dX4_isSeen_5 : decode cX4_isSeen 5 = .ok (.aaload, 1) := dk_50 (dk_at dksX4_isSeen_0 5 rfl rfl)
theorem dX4_isSeen_6 : decode cX4_isSeen 6 = .ok (.invokevirtual 207, 3) := dk_182 0 207 (dk_at dksX4_isSeen_0 6 rfl rfl)
theorem dX4_isSeen_9 : decode cX4_isSeen 9 = .ok (.aload_n 0, 1) := dk_42 (dk_at dksX4_isSeen_0 9 rfl rfl)
theorem dX4_isSeen_10 : decode cX4_isSeen 10 = .ok (.getfield 64, 3) := dk_180 0 64 (dk_at dksX4_isSeen_0 10 rfl rfl)
theorem dX4_isSeen_13 : decode cX4_isSeen 13 = .ok (.if_icmp .gt 23, 3) := dk_163 0 23 (dk_at dksX4_isSeen_0 13 rfl rfl)
theorem dX4_isSeen_16 : decode cX4_isSeen 16 = .ok (.aload_n 0, 1) := dk_42 (dk_at dksX4_isSeen_0 16 rfl rfl)
theorem dX4_isSeen_17 : decode cX4_isSeen 17 = .ok (.aload_n 0, 1) := dk_42 (dk_at dksX4_isSeen_0 17 rfl rfl)
theorem dX4_isSeen_18 : decode cX4_isSeen 18 = .ok (.getfield 35, 3) := dk_180 0 35 (dk_at dksX4_isSeen_0 18 rfl rfl)
theorem dX4_isSeen_21 : decode cX4_isSeen 21 = .ok (.iload_n 1, 1) := dk_27 (dk_at dksX4_isSeen_0 21 rfl rfl)
theorem dX4_isSeen_22 : decode cX4_isSeen 22 = .ok (.aaload, 1) := dk_50 (dk_at dksX4_isSeen_0 22 rfl rfl)
theorem dX4_isSeen_23 : decode cX4_isSeen 23 = .ok (.invokevirtual 211, 3) := dk_182 0 211 (dk_at dksX4_isSeen_1 0 rfl rfl)
theorem dX4_isSeen_26 : decode cX4_isSeen 26 = .ok (.invokevirtual 214, 3) := dk_182 0 214 (dk_at dksX4_isSeen_1 3 rfl rfl)
theorem dX4_isSeen_29 : decode cX4_isSeen 29 = .ok (.ifCond .eq 7, 3) := dk_153 0 7 (dk_at dksX4_isSeen_1 6 rfl rfl)
theorem dX4_isSeen_32 : decode cX4_isSeen 32 = .ok (.iconst 1, 1) := dk_4 (dk_at dksX4_isSeen_1 9 rfl rfl)
theorem dX4_isSeen_33 : decode cX4_isSeen 33 = .ok (.goto 4, 3) := dk_167 0 4 (dk_at dksX4_isSeen_1 10 rfl rfl)
theorem dX4_isSeen_36 : decode cX4_isSeen 36 = .ok (.iconst 0, 1) := dk_3 (dk_at dksX4_isSeen_1 13 rfl rfl)
theorem dX4_isSeen_37 : decode cX4_isSeen 37 = .ok (.ireturn, 1) := dk_172 (dk_at dksX4_isSeen_1 14 rfl rfl)
abbrev cX4_isNear : ByteArray := prog_12_method_12_code
def yX4_isNear : MethodName := ⟨RX4, "isNear", "(I)Z"⟩
def dkwX4_isNear_2 : List UInt8 := [132, 3, 1, 167, 255, 212, 28, 172]
abbrev dktX4_isNear_2 : List UInt8 := dkwX4_isNear_2 ++ []
def dkwX4_isNear_1 : List UInt8 := [160, 0, 20, 29, 27, 100, 184, 0, 203, 42, 180, 0, 118, 163, 0, 7, 4, 167, 0, 4, 3, 61]
abbrev dktX4_isNear_1 : List UInt8 := dkwX4_isNear_1 ++ dktX4_isNear_2
def dkwX4_isNear_0 : List UInt8 := [3, 61, 3, 62, 29, 16, 16, 162, 0, 44, 28, 154, 0, 28, 42, 180, 0, 121, 29, 122, 4, 126, 4]
abbrev dktX4_isNear_0 : List UInt8 := dkwX4_isNear_0 ++ dktX4_isNear_1
theorem dksX4_isNear_0 : cX4_isNear.data.toList.drop 0 = dktX4_isNear_0 := by decide +kernel
theorem dksX4_isNear_1 : cX4_isNear.data.toList.drop 23 = dktX4_isNear_1 := dk_seg dksX4_isNear_0 23 rfl rfl
theorem dksX4_isNear_2 : cX4_isNear.data.toList.drop 45 = dktX4_isNear_2 := dk_seg dksX4_isNear_1 22 rfl rfl
theorem dX4_isNear_0 : decode cX4_isNear 0 = .ok (.iconst 0, 1) := dk_3 (dk_at dksX4_isNear_0 0 rfl rfl)
theorem dX4_isNear_1 : decode cX4_isNear 1 = .ok (.istore_n 2, 1) := dk_61 (dk_at dksX4_isNear_0 1 rfl rfl)
theorem dX4_isNear_2 : decode cX4_isNear 2 = .ok (.iconst 0, 1) := dk_3 (dk_at dksX4_isNear_0 2 rfl rfl)
theorem dX4_isNear_3 : decode cX4_isNear 3 = .ok (.istore_n 3, 1) := dk_62 (dk_at dksX4_isNear_0 3 rfl rfl)
theorem dX4_isNear_4 : decode cX4_isNear 4 = .ok (.iload_n 3, 1) := dk_29 (dk_at dksX4_isNear_0 4 rfl rfl)
theorem dX4_isNear_5 : decode cX4_isNear 5 = .ok (.bipush 16, 2) := dk_16 16 (dk_at dksX4_isNear_0 5 rfl rfl)
theorem dX4_isNear_7 : decode cX4_isNear 7 = .ok (.if_icmp .ge 44, 3) := dk_162 0 44 (dk_at dksX4_isNear_0 7 rfl rfl)
theorem dX4_isNear_10 : decode cX4_isNear 10 = .ok (.iload_n 2, 1) := dk_28 (dk_at dksX4_isNear_0 10 rfl rfl)
theorem dX4_isNear_11 : decode cX4_isNear 11 = .ok (.ifCond .ne 28, 3) := dk_154 0 28 (dk_at dksX4_isNear_0 11 rfl rfl)
theorem dX4_isNear_14 : decode cX4_isNear 14 = .ok (.aload_n 0, 1) := dk_42 (dk_at dksX4_isNear_0 14 rfl rfl)
theorem dX4_isNear_15 : decode cX4_isNear 15 = .ok (.getfield 121, 3) := dk_180 0 121 (dk_at dksX4_isNear_0 15 rfl rfl)
theorem dX4_isNear_18 : decode cX4_isNear 18 = .ok (.iload_n 3, 1) := dk_29 (dk_at dksX4_isNear_0 18 rfl rfl)
theorem dX4_isNear_19 : decode cX4_isNear 19 = .ok (.ishr, 1) := dk_122 (dk_at dksX4_isNear_0 19 rfl rfl)
theorem dX4_isNear_20 : decode cX4_isNear 20 = .ok (.iconst 1, 1) := dk_4 (dk_at dksX4_isNear_0 20 rfl rfl)
theorem dX4_isNear_21 : decode cX4_isNear 21 = .ok (.iand, 1) := dk_126 (dk_at dksX4_isNear_0 21 rfl rfl)
theorem dX4_isNear_22 : decode cX4_isNear 22 = .ok (.iconst 1, 1) := dk_4 (dk_at dksX4_isNear_0 22 rfl rfl)
theorem dX4_isNear_23 : decode cX4_isNear 23 = .ok (.if_icmp .ne 20, 3) := dk_160 0 20 (dk_at dksX4_isNear_1 0 rfl rfl)
theorem dX4_isNear_26 : decode cX4_isNear 26 = .ok (.iload_n 3, 1) := dk_29 (dk_at dksX4_isNear_1 3 rfl rfl)
theorem dX4_isNear_27 : decode cX4_isNear 27 = .ok (.iload_n 1, 1) := dk_27 (dk_at dksX4_isNear_1 4 rfl rfl)
theorem dX4_isNear_28 : decode cX4_isNear 28 = .ok (.isub, 1) := dk_100 (dk_at dksX4_isNear_1 5 rfl rfl)
theorem dX4_isNear_29 : decode cX4_isNear 29 = .ok (.invokestatic 203, 3) := dk_184 0 203 (dk_at dksX4_isNear_1 6 rfl rfl)
theorem dX4_isNear_32 : decode cX4_isNear 32 = .ok (.aload_n 0, 1) := dk_42 (dk_at dksX4_isNear_1 9 rfl rfl)
theorem dX4_isNear_33 : decode cX4_isNear 33 = .ok (.getfield 118, 3) := dk_180 0 118 (dk_at dksX4_isNear_1 10 rfl rfl)
theorem dX4_isNear_36 : decode cX4_isNear 36 = .ok (.if_icmp .gt 7, 3) := dk_163 0 7 (dk_at dksX4_isNear_1 13 rfl rfl)
theorem dX4_isNear_39 : decode cX4_isNear 39 = .ok (.iconst 1, 1) := dk_4 (dk_at dksX4_isNear_1 16 rfl rfl)
theorem dX4_isNear_40 : decode cX4_isNear 40 = .ok (.goto 4, 3) := dk_167 0 4 (dk_at dksX4_isNear_1 17 rfl rfl)
theorem dX4_isNear_43 : decode cX4_isNear 43 = .ok (.iconst 0, 1) := dk_3 (dk_at dksX4_isNear_1 20 rfl rfl)
theorem dX4_isNear_44 : decode cX4_isNear 44 = .ok (.istore_n 2, 1) := dk_61 (dk_at dksX4_isNear_1 21 rfl rfl)
theorem dX4_isNear_45 : decode cX4_isNear 45 = .ok (.iinc 3 1, 3) := dk_132 3 1 (dk_at dksX4_isNear_2 0 rfl rfl)
theorem dX4_isNear_48 : decode cX4_isNear 48 = .ok (.goto (-44), 3) := dk_167 255 212 (dk_at dksX4_isNear_2 3 rfl rfl)
theorem dX4_isNear_51 : decode cX4_isNear 51 = .ok (.iload_n 2, 1) := dk_28 (dk_at dksX4_isNear_2 6 rfl rfl)
theorem dX4_isNear_52 : decode cX4_isNear 52 = .ok (.ireturn, 1) := dk_172 (dk_at dksX4_isNear_2 7 rfl rfl)
abbrev cX4_fits : ByteArray := prog_12_method_23_code
def yX4_fits : MethodName := ⟨RX4, "fits", "(LGrassField$Telling;)Z"⟩
def dkwX4_fits_3 : List UInt8 := [153, 0, 15, 42, 43, 182, 1, 11, 153, 0, 7, 4, 167, 0, 4, 3, 172]
abbrev dktX4_fits_3 : List UInt8 := dkwX4_fits_3 ++ []
def dkwX4_fits_2 : List UInt8 := [180, 1, 6, 184, 0, 139, 4, 163, 0, 7, 4, 167, 0, 4, 3, 61, 132, 3, 1, 167, 255, 194, 28]
abbrev dktX4_fits_2 : List UInt8 := dkwX4_fits_2 ++ dktX4_fits_3
def dkwX4_fits_1 : List UInt8 := [42, 180, 0, 35, 29, 50, 182, 0, 221, 6, 159, 0, 27, 42, 180, 0, 35, 29, 50, 182, 0, 242, 43]
abbrev dktX4_fits_1 : List UInt8 := dkwX4_fits_1 ++ dktX4_fits_2
def dkwX4_fits_0 : List UInt8 := [3, 61, 3, 62, 29, 42, 180, 0, 100, 162, 0, 60, 28, 154, 0, 44, 42, 29, 182, 0, 218, 153, 0, 40]
abbrev dktX4_fits_0 : List UInt8 := dkwX4_fits_0 ++ dktX4_fits_1
theorem dksX4_fits_0 : cX4_fits.data.toList.drop 0 = dktX4_fits_0 := by decide +kernel
theorem dksX4_fits_1 : cX4_fits.data.toList.drop 24 = dktX4_fits_1 := dk_seg dksX4_fits_0 24 rfl rfl
theorem dksX4_fits_2 : cX4_fits.data.toList.drop 47 = dktX4_fits_2 := dk_seg dksX4_fits_1 23 rfl rfl
theorem dksX4_fits_3 : cX4_fits.data.toList.drop 70 = dktX4_fits_3 := dk_seg dksX4_fits_2 23 rfl rfl
theorem dX4_fits_0 : decode cX4_fits 0 = .ok (.iconst 0, 1) := dk_3 (dk_at dksX4_fits_0 0 rfl rfl)
theorem dX4_fits_1 : decode cX4_fits 1 = .ok (.istore_n 2, 1) := dk_61 (dk_at dksX4_fits_0 1 rfl rfl)
theorem dX4_fits_2 : decode cX4_fits 2 = .ok (.iconst 0, 1) := dk_3 (dk_at dksX4_fits_0 2 rfl rfl)
theorem dX4_fits_3 : decode cX4_fits 3 = .ok (.istore_n 3, 1) := dk_62 (dk_at dksX4_fits_0 3 rfl rfl)
theorem dX4_fits_4 : decode cX4_fits 4 = .ok (.iload_n 3, 1) := dk_29 (dk_at dksX4_fits_0 4 rfl rfl)
theorem dX4_fits_5 : decode cX4_fits 5 = .ok (.aload_n 0, 1) := dk_42 (dk_at dksX4_fits_0 5 rfl rfl)
theorem dX4_fits_6 : decode cX4_fits 6 = .ok (.getfield 100, 3) := dk_180 0 100 (dk_at dksX4_fits_0 6 rfl rfl)
theorem dX4_fits_9 : decode cX4_fits 9 = .ok (.if_icmp .ge 60, 3) := dk_162 0 60 (dk_at dksX4_fits_0 9 rfl rfl)
theorem dX4_fits_12 : decode cX4_fits 12 = .ok (.iload_n 2, 1) := dk_28 (dk_at dksX4_fits_0 12 rfl rfl)
theorem dX4_fits_13 : decode cX4_fits 13 = .ok (.ifCond .ne 44, 3) := dk_154 0 44 (dk_at dksX4_fits_0 13 rfl rfl)
theorem dX4_fits_16 : decode cX4_fits 16 = .ok (.aload_n 0, 1) := dk_42 (dk_at dksX4_fits_0 16 rfl rfl)
theorem dX4_fits_17 : decode cX4_fits 17 = .ok (.iload_n 3, 1) := dk_29 (dk_at dksX4_fits_0 17 rfl rfl)
theorem dX4_fits_18 : decode cX4_fits 18 = .ok (.invokevirtual 218, 3) := dk_182 0 218 (dk_at dksX4_fits_0 18 rfl rfl)
theorem dX4_fits_21 : decode cX4_fits 21 = .ok (.ifCond .eq 40, 3) := dk_153 0 40 (dk_at dksX4_fits_0 21 rfl rfl)
theorem dX4_fits_24 : decode cX4_fits 24 = .ok (.aload_n 0, 1) := dk_42 (dk_at dksX4_fits_1 0 rfl rfl)
theorem dX4_fits_25 : decode cX4_fits 25 = .ok (.getfield 35, 3) := dk_180 0 35 (dk_at dksX4_fits_1 1 rfl rfl)
theorem dX4_fits_28 : decode cX4_fits 28 = .ok (.iload_n 3, 1) := dk_29 (dk_at dksX4_fits_1 4 rfl rfl)
theorem dX4_fits_29 : decode cX4_fits 29 = .ok (.aaload, 1) := dk_50 (dk_at dksX4_fits_1 5 rfl rfl)
theorem dX4_fits_30 : decode cX4_fits 30 = .ok (.invokevirtual 221, 3) := dk_182 0 221 (dk_at dksX4_fits_1 6 rfl rfl)
theorem dX4_fits_33 : decode cX4_fits 33 = .ok (.iconst 3, 1) := dk_6 (dk_at dksX4_fits_1 9 rfl rfl)
theorem dX4_fits_34 : decode cX4_fits 34 = .ok (.if_icmp .eq 27, 3) := dk_159 0 27 (dk_at dksX4_fits_1 10 rfl rfl)
theorem dX4_fits_37 : decode cX4_fits 37 = .ok (.aload_n 0, 1) := dk_42 (dk_at dksX4_fits_1 13 rfl rfl)
theorem dX4_fits_38 : decode cX4_fits 38 = .ok (.getfield 35, 3) := dk_180 0 35 (dk_at dksX4_fits_1 14 rfl rfl)
theorem dX4_fits_41 : decode cX4_fits 41 = .ok (.iload_n 3, 1) := dk_29 (dk_at dksX4_fits_1 17 rfl rfl)
theorem dX4_fits_42 : decode cX4_fits 42 = .ok (.aaload, 1) := dk_50 (dk_at dksX4_fits_1 18 rfl rfl)
theorem dX4_fits_43 : decode cX4_fits 43 = .ok (.invokevirtual 242, 3) := dk_182 0 242 (dk_at dksX4_fits_1 19 rfl rfl)
theorem dX4_fits_46 : decode cX4_fits 46 = .ok (.aload_n 1, 1) := dk_43 (dk_at dksX4_fits_1 22 rfl rfl)
theorem dX4_fits_47 : decode cX4_fits 47 = .ok (.getfield 262, 3) := dk_180 1 6 (dk_at dksX4_fits_2 0 rfl rfl)
theorem dX4_fits_50 : decode cX4_fits 50 = .ok (.invokestatic 139, 3) := dk_184 0 139 (dk_at dksX4_fits_2 3 rfl rfl)
theorem dX4_fits_53 : decode cX4_fits 53 = .ok (.iconst 1, 1) := dk_4 (dk_at dksX4_fits_2 6 rfl rfl)
theorem dX4_fits_54 : decode cX4_fits 54 = .ok (.if_icmp .gt 7, 3) := dk_163 0 7 (dk_at dksX4_fits_2 7 rfl rfl)
theorem dX4_fits_57 : decode cX4_fits 57 = .ok (.iconst 1, 1) := dk_4 (dk_at dksX4_fits_2 10 rfl rfl)
theorem dX4_fits_58 : decode cX4_fits 58 = .ok (.goto 4, 3) := dk_167 0 4 (dk_at dksX4_fits_2 11 rfl rfl)
theorem dX4_fits_61 : decode cX4_fits 61 = .ok (.iconst 0, 1) := dk_3 (dk_at dksX4_fits_2 14 rfl rfl)
theorem dX4_fits_62 : decode cX4_fits 62 = .ok (.istore_n 2, 1) := dk_61 (dk_at dksX4_fits_2 15 rfl rfl)
theorem dX4_fits_63 : decode cX4_fits 63 = .ok (.iinc 3 1, 3) := dk_132 3 1 (dk_at dksX4_fits_2 16 rfl rfl)
theorem dX4_fits_66 : decode cX4_fits 66 = .ok (.goto (-62), 3) := dk_167 255 194 (dk_at dksX4_fits_2 19 rfl rfl)
theorem dX4_fits_69 : decode cX4_fits 69 = .ok (.iload_n 2, 1) := dk_28 (dk_at dksX4_fits_2 22 rfl rfl)
theorem dX4_fits_70 : decode cX4_fits 70 = .ok (.ifCond .eq 15, 3) := dk_153 0 15 (dk_at dksX4_fits_3 0 rfl rfl)
theorem dX4_fits_73 : decode cX4_fits 73 = .ok (.aload_n 0, 1) := dk_42 (dk_at dksX4_fits_3 3 rfl rfl)
theorem dX4_fits_74 : decode cX4_fits 74 = .ok (.aload_n 1, 1) := dk_43 (dk_at dksX4_fits_3 4 rfl rfl)
theorem dX4_fits_75 : decode cX4_fits 75 = .ok (.invokevirtual 267, 3) := dk_182 1 11 (dk_at dksX4_fits_3 5 rfl rfl)
theorem dX4_fits_78 : decode cX4_fits 78 = .ok (.ifCond .eq 7, 3) := dk_153 0 7 (dk_at dksX4_fits_3 8 rfl rfl)
theorem dX4_fits_81 : decode cX4_fits 81 = .ok (.iconst 1, 1) := dk_4 (dk_at dksX4_fits_3 11 rfl rfl)
theorem dX4_fits_82 : decode cX4_fits 82 = .ok (.goto 4, 3) := dk_167 0 4 (dk_at dksX4_fits_3 12 rfl rfl)
theorem dX4_fits_85 : decode cX4_fits 85 = .ok (.iconst 0, 1) := dk_3 (dk_at dksX4_fits_3 15 rfl rfl)
theorem dX4_fits_86 : decode cX4_fits 86 = .ok (.ireturn, 1) := dk_172 (dk_at dksX4_fits_3 16 rfl rfl)
abbrev cX4_could : ByteArray := prog_12_method_22_code
def yX4_could : MethodName := ⟨RX4, "could", "(LGrassField$Telling;)Z"⟩
def dkwX4_could_2 : List UInt8 := [153, 0, 7, 4, 167, 0, 4, 3, 172]
abbrev dktX4_could_2 : List UInt8 := dkwX4_could_2 ++ []
def dkwX4_could_1 : List UInt8 := [180, 0, 254, 44, 180, 1, 2, 163, 0, 22, 42, 44, 180, 1, 5, 43, 180, 1, 6, 182, 1, 7]
abbrev dktX4_could_1 : List UInt8 := dkwX4_could_1 ++ dktX4_could_2
def dkwX4_could_0 : List UInt8 := [42, 180, 0, 41, 43, 180, 0, 251, 50, 77, 43, 180, 0, 254, 44, 180, 0, 255, 161, 0, 33, 43]
abbrev dktX4_could_0 : List UInt8 := dkwX4_could_0 ++ dktX4_could_1
theorem dksX4_could_0 : cX4_could.data.toList.drop 0 = dktX4_could_0 := by decide +kernel
theorem dksX4_could_1 : cX4_could.data.toList.drop 22 = dktX4_could_1 := dk_seg dksX4_could_0 22 rfl rfl
theorem dksX4_could_2 : cX4_could.data.toList.drop 44 = dktX4_could_2 := dk_seg dksX4_could_1 22 rfl rfl
theorem dX4_could_0 : decode cX4_could 0 = .ok (.aload_n 0, 1) := dk_42 (dk_at dksX4_could_0 0 rfl rfl)
theorem dX4_could_1 : decode cX4_could 1 = .ok (.getfield 41, 3) := dk_180 0 41 (dk_at dksX4_could_0 1 rfl rfl)
theorem dX4_could_4 : decode cX4_could 4 = .ok (.aload_n 1, 1) := dk_43 (dk_at dksX4_could_0 4 rfl rfl)
theorem dX4_could_5 : decode cX4_could 5 = .ok (.getfield 251, 3) := dk_180 0 251 (dk_at dksX4_could_0 5 rfl rfl)
theorem dX4_could_8 : decode cX4_could 8 = .ok (.aaload, 1) := dk_50 (dk_at dksX4_could_0 8 rfl rfl)
theorem dX4_could_9 : decode cX4_could 9 = .ok (.astore_n 2, 1) := dk_77 (dk_at dksX4_could_0 9 rfl rfl)
theorem dX4_could_10 : decode cX4_could 10 = .ok (.aload_n 1, 1) := dk_43 (dk_at dksX4_could_0 10 rfl rfl)
theorem dX4_could_11 : decode cX4_could 11 = .ok (.getfield 254, 3) := dk_180 0 254 (dk_at dksX4_could_0 11 rfl rfl)
theorem dX4_could_14 : decode cX4_could 14 = .ok (.aload_n 2, 1) := dk_44 (dk_at dksX4_could_0 14 rfl rfl)
theorem dX4_could_15 : decode cX4_could 15 = .ok (.getfield 255, 3) := dk_180 0 255 (dk_at dksX4_could_0 15 rfl rfl)
theorem dX4_could_18 : decode cX4_could 18 = .ok (.if_icmp .lt 33, 3) := dk_161 0 33 (dk_at dksX4_could_0 18 rfl rfl)
theorem dX4_could_21 : decode cX4_could 21 = .ok (.aload_n 1, 1) := dk_43 (dk_at dksX4_could_0 21 rfl rfl)
theorem dX4_could_22 : decode cX4_could 22 = .ok (.getfield 254, 3) := dk_180 0 254 (dk_at dksX4_could_1 0 rfl rfl)
theorem dX4_could_25 : decode cX4_could 25 = .ok (.aload_n 2, 1) := dk_44 (dk_at dksX4_could_1 3 rfl rfl)
theorem dX4_could_26 : decode cX4_could 26 = .ok (.getfield 258, 3) := dk_180 1 2 (dk_at dksX4_could_1 4 rfl rfl)
theorem dX4_could_29 : decode cX4_could 29 = .ok (.if_icmp .gt 22, 3) := dk_163 0 22 (dk_at dksX4_could_1 7 rfl rfl)
theorem dX4_could_32 : decode cX4_could 32 = .ok (.aload_n 0, 1) := dk_42 (dk_at dksX4_could_1 10 rfl rfl)
theorem dX4_could_33 : decode cX4_could 33 = .ok (.aload_n 2, 1) := dk_44 (dk_at dksX4_could_1 11 rfl rfl)
theorem dX4_could_34 : decode cX4_could 34 = .ok (.getfield 261, 3) := dk_180 1 5 (dk_at dksX4_could_1 12 rfl rfl)
theorem dX4_could_37 : decode cX4_could 37 = .ok (.aload_n 1, 1) := dk_43 (dk_at dksX4_could_1 15 rfl rfl)
theorem dX4_could_38 : decode cX4_could 38 = .ok (.getfield 262, 3) := dk_180 1 6 (dk_at dksX4_could_1 16 rfl rfl)
theorem dX4_could_41 : decode cX4_could 41 = .ok (.invokevirtual 263, 3) := dk_182 1 7 (dk_at dksX4_could_1 19 rfl rfl)
theorem dX4_could_44 : decode cX4_could 44 = .ok (.ifCond .eq 7, 3) := dk_153 0 7 (dk_at dksX4_could_2 0 rfl rfl)
theorem dX4_could_47 : decode cX4_could 47 = .ok (.iconst 1, 1) := dk_4 (dk_at dksX4_could_2 3 rfl rfl)
theorem dX4_could_48 : decode cX4_could 48 = .ok (.goto 4, 3) := dk_167 0 4 (dk_at dksX4_could_2 4 rfl rfl)
theorem dX4_could_51 : decode cX4_could 51 = .ok (.iconst 0, 1) := dk_3 (dk_at dksX4_could_2 7 rfl rfl)
theorem dX4_could_52 : decode cX4_could 52 = .ok (.ireturn, 1) := dk_172 (dk_at dksX4_could_2 8 rfl rfl)
abbrev cX4_sees : ByteArray := prog_12_method_21_code
def yX4_sees : MethodName := ⟨RX4, "sees", "(II)Z"⟩
def dkwX4_sees_6 : List UInt8 := [172]
abbrev dktX4_sees_6 : List UInt8 := dkwX4_sees_6 ++ []
def dkwX4_sees_5 : List UInt8 := [28, 46, 21, 7, 104, 96, 163, 0, 7, 4, 167, 0, 4, 3, 54, 6, 132, 7, 1, 167, 255, 152, 21, 6]
abbrev dktX4_sees_5 : List UInt8 := dkwX4_sees_5 ++ dktX4_sees_6
def dkwX4_sees_4 : List UInt8 := [21, 9, 104, 21, 8, 96, 46, 29, 104, 42, 180, 0, 9, 27, 46, 29, 21, 7, 100, 104, 42, 180, 0, 9]
abbrev dktX4_sees_4 : List UInt8 := dkwX4_sees_4 ++ dktX4_sees_5
def dkwX4_sees_3 : List UInt8 := [21, 7, 104, 21, 5, 104, 29, 96, 5, 29, 104, 184, 0, 248, 96, 54, 9, 42, 180, 0, 9, 16, 16]
abbrev dktX4_sees_3 : List UInt8 := dkwX4_sees_3 ++ dktX4_sees_4
def dkwX4_sees_2 : List UInt8 := [112, 5, 21, 7, 104, 21, 4, 104, 29, 96, 5, 29, 104, 184, 0, 248, 96, 54, 8, 27, 16, 16, 108, 5]
abbrev dktX4_sees_2 : List UInt8 := dkwX4_sees_2 ++ dktX4_sees_3
def dkwX4_sees_1 : List UInt8 := [108, 100, 54, 5, 4, 54, 6, 4, 54, 7, 21, 7, 29, 162, 0, 104, 21, 6, 153, 0, 99, 27, 16, 16]
abbrev dktX4_sees_1 : List UInt8 := dkwX4_sees_1 ++ dktX4_sees_2
def dkwX4_sees_0 : List UInt8 := [27, 28, 184, 0, 139, 62, 28, 16, 16, 112, 27, 16, 16, 112, 100, 54, 4, 28, 16, 16, 108, 27, 16, 16]
abbrev dktX4_sees_0 : List UInt8 := dkwX4_sees_0 ++ dktX4_sees_1
theorem dksX4_sees_0 : cX4_sees.data.toList.drop 0 = dktX4_sees_0 := by decide +kernel
theorem dksX4_sees_1 : cX4_sees.data.toList.drop 24 = dktX4_sees_1 := dk_seg dksX4_sees_0 24 rfl rfl
theorem dksX4_sees_2 : cX4_sees.data.toList.drop 48 = dktX4_sees_2 := dk_seg dksX4_sees_1 24 rfl rfl
theorem dksX4_sees_3 : cX4_sees.data.toList.drop 72 = dktX4_sees_3 := dk_seg dksX4_sees_2 24 rfl rfl
theorem dksX4_sees_4 : cX4_sees.data.toList.drop 95 = dktX4_sees_4 := dk_seg dksX4_sees_3 23 rfl rfl
theorem dksX4_sees_5 : cX4_sees.data.toList.drop 119 = dktX4_sees_5 := dk_seg dksX4_sees_4 24 rfl rfl
theorem dksX4_sees_6 : cX4_sees.data.toList.drop 143 = dktX4_sees_6 := dk_seg dksX4_sees_5 24 rfl rfl
theorem dX4_sees_0 : decode cX4_sees 0 = .ok (.iload_n 1, 1) := dk_27 (dk_at dksX4_sees_0 0 rfl rfl)
theorem dX4_sees_1 : decode cX4_sees 1 = .ok (.iload_n 2, 1) := dk_28 (dk_at dksX4_sees_0 1 rfl rfl)
theorem dX4_sees_2 : decode cX4_sees 2 = .ok (.invokestatic 139, 3) := dk_184 0 139 (dk_at dksX4_sees_0 2 rfl rfl)
theorem dX4_sees_5 : decode cX4_sees 5 = .ok (.istore_n 3, 1) := dk_62 (dk_at dksX4_sees_0 5 rfl rfl)
theorem dX4_sees_6 : decode cX4_sees 6 = .ok (.iload_n 2, 1) := dk_28 (dk_at dksX4_sees_0 6 rfl rfl)
theorem dX4_sees_7 : decode cX4_sees 7 = .ok (.bipush 16, 2) := dk_16 16 (dk_at dksX4_sees_0 7 rfl rfl)
theorem dX4_sees_9 : decode cX4_sees 9 = .ok (.irem, 1) := dk_112 (dk_at dksX4_sees_0 9 rfl rfl)
theorem dX4_sees_10 : decode cX4_sees 10 = .ok (.iload_n 1, 1) := dk_27 (dk_at dksX4_sees_0 10 rfl rfl)
theorem dX4_sees_11 : decode cX4_sees 11 = .ok (.bipush 16, 2) := dk_16 16 (dk_at dksX4_sees_0 11 rfl rfl)
theorem dX4_sees_13 : decode cX4_sees 13 = .ok (.irem, 1) := dk_112 (dk_at dksX4_sees_0 13 rfl rfl)
theorem dX4_sees_14 : decode cX4_sees 14 = .ok (.isub, 1) := dk_100 (dk_at dksX4_sees_0 14 rfl rfl)
theorem dX4_sees_15 : decode cX4_sees 15 = .ok (.istore 4, 2) := dk_54 4 (dk_at dksX4_sees_0 15 rfl rfl)
theorem dX4_sees_17 : decode cX4_sees 17 = .ok (.iload_n 2, 1) := dk_28 (dk_at dksX4_sees_0 17 rfl rfl)
theorem dX4_sees_18 : decode cX4_sees 18 = .ok (.bipush 16, 2) := dk_16 16 (dk_at dksX4_sees_0 18 rfl rfl)
theorem dX4_sees_20 : decode cX4_sees 20 = .ok (.idiv, 1) := dk_108 (dk_at dksX4_sees_0 20 rfl rfl)
theorem dX4_sees_21 : decode cX4_sees 21 = .ok (.iload_n 1, 1) := dk_27 (dk_at dksX4_sees_0 21 rfl rfl)
theorem dX4_sees_22 : decode cX4_sees 22 = .ok (.bipush 16, 2) := dk_16 16 (dk_at dksX4_sees_0 22 rfl rfl)
theorem dX4_sees_24 : decode cX4_sees 24 = .ok (.idiv, 1) := dk_108 (dk_at dksX4_sees_1 0 rfl rfl)
theorem dX4_sees_25 : decode cX4_sees 25 = .ok (.isub, 1) := dk_100 (dk_at dksX4_sees_1 1 rfl rfl)
theorem dX4_sees_26 : decode cX4_sees 26 = .ok (.istore 5, 2) := dk_54 5 (dk_at dksX4_sees_1 2 rfl rfl)
theorem dX4_sees_28 : decode cX4_sees 28 = .ok (.iconst 1, 1) := dk_4 (dk_at dksX4_sees_1 4 rfl rfl)
theorem dX4_sees_29 : decode cX4_sees 29 = .ok (.istore 6, 2) := dk_54 6 (dk_at dksX4_sees_1 5 rfl rfl)
theorem dX4_sees_31 : decode cX4_sees 31 = .ok (.iconst 1, 1) := dk_4 (dk_at dksX4_sees_1 7 rfl rfl)
theorem dX4_sees_32 : decode cX4_sees 32 = .ok (.istore 7, 2) := dk_54 7 (dk_at dksX4_sees_1 8 rfl rfl)
theorem dX4_sees_34 : decode cX4_sees 34 = .ok (.iload 7, 2) := dk_21 7 (dk_at dksX4_sees_1 10 rfl rfl)
theorem dX4_sees_36 : decode cX4_sees 36 = .ok (.iload_n 3, 1) := dk_29 (dk_at dksX4_sees_1 12 rfl rfl)
theorem dX4_sees_37 : decode cX4_sees 37 = .ok (.if_icmp .ge 104, 3) := dk_162 0 104 (dk_at dksX4_sees_1 13 rfl rfl)
theorem dX4_sees_40 : decode cX4_sees 40 = .ok (.iload 6, 2) := dk_21 6 (dk_at dksX4_sees_1 16 rfl rfl)
theorem dX4_sees_42 : decode cX4_sees 42 = .ok (.ifCond .eq 99, 3) := dk_153 0 99 (dk_at dksX4_sees_1 18 rfl rfl)
theorem dX4_sees_45 : decode cX4_sees 45 = .ok (.iload_n 1, 1) := dk_27 (dk_at dksX4_sees_1 21 rfl rfl)
theorem dX4_sees_46 : decode cX4_sees 46 = .ok (.bipush 16, 2) := dk_16 16 (dk_at dksX4_sees_1 22 rfl rfl)
theorem dX4_sees_48 : decode cX4_sees 48 = .ok (.irem, 1) := dk_112 (dk_at dksX4_sees_2 0 rfl rfl)
theorem dX4_sees_49 : decode cX4_sees 49 = .ok (.iconst 2, 1) := dk_5 (dk_at dksX4_sees_2 1 rfl rfl)
theorem dX4_sees_50 : decode cX4_sees 50 = .ok (.iload 7, 2) := dk_21 7 (dk_at dksX4_sees_2 2 rfl rfl)
theorem dX4_sees_52 : decode cX4_sees 52 = .ok (.imul, 1) := dk_104 (dk_at dksX4_sees_2 4 rfl rfl)
theorem dX4_sees_53 : decode cX4_sees 53 = .ok (.iload 4, 2) := dk_21 4 (dk_at dksX4_sees_2 5 rfl rfl)
theorem dX4_sees_55 : decode cX4_sees 55 = .ok (.imul, 1) := dk_104 (dk_at dksX4_sees_2 7 rfl rfl)
theorem dX4_sees_56 : decode cX4_sees 56 = .ok (.iload_n 3, 1) := dk_29 (dk_at dksX4_sees_2 8 rfl rfl)
theorem dX4_sees_57 : decode cX4_sees 57 = .ok (.iadd, 1) := dk_96 (dk_at dksX4_sees_2 9 rfl rfl)
theorem dX4_sees_58 : decode cX4_sees 58 = .ok (.iconst 2, 1) := dk_5 (dk_at dksX4_sees_2 10 rfl rfl)
theorem dX4_sees_59 : decode cX4_sees 59 = .ok (.iload_n 3, 1) := dk_29 (dk_at dksX4_sees_2 11 rfl rfl)
theorem dX4_sees_60 : decode cX4_sees 60 = .ok (.imul, 1) := dk_104 (dk_at dksX4_sees_2 12 rfl rfl)
theorem dX4_sees_61 : decode cX4_sees 61 = .ok (.invokestatic 248, 3) := dk_184 0 248 (dk_at dksX4_sees_2 13 rfl rfl)
theorem dX4_sees_64 : decode cX4_sees 64 = .ok (.iadd, 1) := dk_96 (dk_at dksX4_sees_2 16 rfl rfl)
theorem dX4_sees_65 : decode cX4_sees 65 = .ok (.istore 8, 2) := dk_54 8 (dk_at dksX4_sees_2 17 rfl rfl)
theorem dX4_sees_67 : decode cX4_sees 67 = .ok (.iload_n 1, 1) := dk_27 (dk_at dksX4_sees_2 19 rfl rfl)
theorem dX4_sees_68 : decode cX4_sees 68 = .ok (.bipush 16, 2) := dk_16 16 (dk_at dksX4_sees_2 20 rfl rfl)
theorem dX4_sees_70 : decode cX4_sees 70 = .ok (.idiv, 1) := dk_108 (dk_at dksX4_sees_2 22 rfl rfl)
theorem dX4_sees_71 : decode cX4_sees 71 = .ok (.iconst 2, 1) := dk_5 (dk_at dksX4_sees_2 23 rfl rfl)
theorem dX4_sees_72 : decode cX4_sees 72 = .ok (.iload 7, 2) := dk_21 7 (dk_at dksX4_sees_3 0 rfl rfl)
theorem dX4_sees_74 : decode cX4_sees 74 = .ok (.imul, 1) := dk_104 (dk_at dksX4_sees_3 2 rfl rfl)
theorem dX4_sees_75 : decode cX4_sees 75 = .ok (.iload 5, 2) := dk_21 5 (dk_at dksX4_sees_3 3 rfl rfl)
theorem dX4_sees_77 : decode cX4_sees 77 = .ok (.imul, 1) := dk_104 (dk_at dksX4_sees_3 5 rfl rfl)
theorem dX4_sees_78 : decode cX4_sees 78 = .ok (.iload_n 3, 1) := dk_29 (dk_at dksX4_sees_3 6 rfl rfl)
theorem dX4_sees_79 : decode cX4_sees 79 = .ok (.iadd, 1) := dk_96 (dk_at dksX4_sees_3 7 rfl rfl)
theorem dX4_sees_80 : decode cX4_sees 80 = .ok (.iconst 2, 1) := dk_5 (dk_at dksX4_sees_3 8 rfl rfl)
theorem dX4_sees_81 : decode cX4_sees 81 = .ok (.iload_n 3, 1) := dk_29 (dk_at dksX4_sees_3 9 rfl rfl)
theorem dX4_sees_82 : decode cX4_sees 82 = .ok (.imul, 1) := dk_104 (dk_at dksX4_sees_3 10 rfl rfl)
theorem dX4_sees_83 : decode cX4_sees 83 = .ok (.invokestatic 248, 3) := dk_184 0 248 (dk_at dksX4_sees_3 11 rfl rfl)
theorem dX4_sees_86 : decode cX4_sees 86 = .ok (.iadd, 1) := dk_96 (dk_at dksX4_sees_3 14 rfl rfl)
theorem dX4_sees_87 : decode cX4_sees 87 = .ok (.istore 9, 2) := dk_54 9 (dk_at dksX4_sees_3 15 rfl rfl)
theorem dX4_sees_89 : decode cX4_sees 89 = .ok (.aload_n 0, 1) := dk_42 (dk_at dksX4_sees_3 17 rfl rfl)
theorem dX4_sees_90 : decode cX4_sees 90 = .ok (.getfield 9, 3) := dk_180 0 9 (dk_at dksX4_sees_3 18 rfl rfl)
theorem dX4_sees_93 : decode cX4_sees 93 = .ok (.bipush 16, 2) := dk_16 16 (dk_at dksX4_sees_3 21 rfl rfl)
theorem dX4_sees_95 : decode cX4_sees 95 = .ok (.iload 9, 2) := dk_21 9 (dk_at dksX4_sees_4 0 rfl rfl)
theorem dX4_sees_97 : decode cX4_sees 97 = .ok (.imul, 1) := dk_104 (dk_at dksX4_sees_4 2 rfl rfl)
theorem dX4_sees_98 : decode cX4_sees 98 = .ok (.iload 8, 2) := dk_21 8 (dk_at dksX4_sees_4 3 rfl rfl)
theorem dX4_sees_100 : decode cX4_sees 100 = .ok (.iadd, 1) := dk_96 (dk_at dksX4_sees_4 5 rfl rfl)
theorem dX4_sees_101 : decode cX4_sees 101 = .ok (.iaload, 1) := dk_46 (dk_at dksX4_sees_4 6 rfl rfl)
theorem dX4_sees_102 : decode cX4_sees 102 = .ok (.iload_n 3, 1) := dk_29 (dk_at dksX4_sees_4 7 rfl rfl)
theorem dX4_sees_103 : decode cX4_sees 103 = .ok (.imul, 1) := dk_104 (dk_at dksX4_sees_4 8 rfl rfl)
theorem dX4_sees_104 : decode cX4_sees 104 = .ok (.aload_n 0, 1) := dk_42 (dk_at dksX4_sees_4 9 rfl rfl)
theorem dX4_sees_105 : decode cX4_sees 105 = .ok (.getfield 9, 3) := dk_180 0 9 (dk_at dksX4_sees_4 10 rfl rfl)
theorem dX4_sees_108 : decode cX4_sees 108 = .ok (.iload_n 1, 1) := dk_27 (dk_at dksX4_sees_4 13 rfl rfl)
theorem dX4_sees_109 : decode cX4_sees 109 = .ok (.iaload, 1) := dk_46 (dk_at dksX4_sees_4 14 rfl rfl)
theorem dX4_sees_110 : decode cX4_sees 110 = .ok (.iload_n 3, 1) := dk_29 (dk_at dksX4_sees_4 15 rfl rfl)
theorem dX4_sees_111 : decode cX4_sees 111 = .ok (.iload 7, 2) := dk_21 7 (dk_at dksX4_sees_4 16 rfl rfl)
theorem dX4_sees_113 : decode cX4_sees 113 = .ok (.isub, 1) := dk_100 (dk_at dksX4_sees_4 18 rfl rfl)
theorem dX4_sees_114 : decode cX4_sees 114 = .ok (.imul, 1) := dk_104 (dk_at dksX4_sees_4 19 rfl rfl)
theorem dX4_sees_115 : decode cX4_sees 115 = .ok (.aload_n 0, 1) := dk_42 (dk_at dksX4_sees_4 20 rfl rfl)
theorem dX4_sees_116 : decode cX4_sees 116 = .ok (.getfield 9, 3) := dk_180 0 9 (dk_at dksX4_sees_4 21 rfl rfl)
theorem dX4_sees_119 : decode cX4_sees 119 = .ok (.iload_n 2, 1) := dk_28 (dk_at dksX4_sees_5 0 rfl rfl)
theorem dX4_sees_120 : decode cX4_sees 120 = .ok (.iaload, 1) := dk_46 (dk_at dksX4_sees_5 1 rfl rfl)
theorem dX4_sees_121 : decode cX4_sees 121 = .ok (.iload 7, 2) := dk_21 7 (dk_at dksX4_sees_5 2 rfl rfl)
theorem dX4_sees_123 : decode cX4_sees 123 = .ok (.imul, 1) := dk_104 (dk_at dksX4_sees_5 4 rfl rfl)
theorem dX4_sees_124 : decode cX4_sees 124 = .ok (.iadd, 1) := dk_96 (dk_at dksX4_sees_5 5 rfl rfl)
theorem dX4_sees_125 : decode cX4_sees 125 = .ok (.if_icmp .gt 7, 3) := dk_163 0 7 (dk_at dksX4_sees_5 6 rfl rfl)
theorem dX4_sees_128 : decode cX4_sees 128 = .ok (.iconst 1, 1) := dk_4 (dk_at dksX4_sees_5 9 rfl rfl)
theorem dX4_sees_129 : decode cX4_sees 129 = .ok (.goto 4, 3) := dk_167 0 4 (dk_at dksX4_sees_5 10 rfl rfl)
theorem dX4_sees_132 : decode cX4_sees 132 = .ok (.iconst 0, 1) := dk_3 (dk_at dksX4_sees_5 13 rfl rfl)
theorem dX4_sees_133 : decode cX4_sees 133 = .ok (.istore 6, 2) := dk_54 6 (dk_at dksX4_sees_5 14 rfl rfl)
theorem dX4_sees_135 : decode cX4_sees 135 = .ok (.iinc 7 1, 3) := dk_132 7 1 (dk_at dksX4_sees_5 16 rfl rfl)
theorem dX4_sees_138 : decode cX4_sees 138 = .ok (.goto (-104), 3) := dk_167 255 152 (dk_at dksX4_sees_5 19 rfl rfl)
theorem dX4_sees_141 : decode cX4_sees 141 = .ok (.iload 6, 2) := dk_21 6 (dk_at dksX4_sees_5 22 rfl rfl)
theorem dX4_sees_143 : decode cX4_sees 143 = .ok (.ireturn, 1) := dk_172 (dk_at dksX4_sees_6 0 rfl rfl)
abbrev cX4_talked : ByteArray := prog_12_method_24_code
def yX4_talked : MethodName := ⟨RX4, "talked", "(II)Z"⟩
def dkwX4_talked_5 : List UInt8 := [42, 180, 0, 41, 28, 50, 180, 1, 15, 160, 0, 7, 4, 167, 0, 4, 3, 172]
abbrev dktX4_talked_5 : List UInt8 := dkwX4_talked_5 ++ []
def dkwX4_talked_4 : List UInt8 := [132, 4, 1, 167, 255, 165, 27, 28, 159, 0, 32, 29, 153, 0, 28, 42, 180, 0, 41, 27, 50, 180, 1, 15]
abbrev dktX4_talked_4 : List UInt8 := dkwX4_talked_4 ++ dktX4_talked_5
def dkwX4_talked_3 : List UInt8 := [180, 0, 47, 21, 5, 50, 180, 1, 6, 160, 0, 7, 4, 167, 0, 4, 3, 62, 132, 5, 1, 167, 255, 183]
abbrev dktX4_talked_3 : List UInt8 := dkwX4_talked_3 ++ dktX4_talked_4
def dkwX4_talked_2 : List UInt8 := [180, 0, 47, 21, 5, 50, 180, 0, 251, 28, 160, 0, 30, 42, 180, 0, 47, 21, 4, 50, 180, 1, 6, 42]
abbrev dktX4_talked_2 : List UInt8 := dkwX4_talked_2 ++ dktX4_talked_3
def dkwX4_talked_1 : List UInt8 := [162, 0, 70, 29, 154, 0, 54, 42, 180, 0, 47, 21, 4, 50, 180, 0, 251, 27, 160, 0, 44, 42]
abbrev dktX4_talked_1 : List UInt8 := dkwX4_talked_1 ++ dktX4_talked_2
def dkwX4_talked_0 : List UInt8 := [3, 62, 3, 54, 4, 21, 4, 42, 180, 0, 106, 162, 0, 88, 3, 54, 5, 21, 5, 42, 180, 0, 106]
abbrev dktX4_talked_0 : List UInt8 := dkwX4_talked_0 ++ dktX4_talked_1
theorem dksX4_talked_0 : cX4_talked.data.toList.drop 0 = dktX4_talked_0 := by decide +kernel
theorem dksX4_talked_1 : cX4_talked.data.toList.drop 23 = dktX4_talked_1 := dk_seg dksX4_talked_0 23 rfl rfl
theorem dksX4_talked_2 : cX4_talked.data.toList.drop 45 = dktX4_talked_2 := dk_seg dksX4_talked_1 22 rfl rfl
theorem dksX4_talked_3 : cX4_talked.data.toList.drop 69 = dktX4_talked_3 := dk_seg dksX4_talked_2 24 rfl rfl
theorem dksX4_talked_4 : cX4_talked.data.toList.drop 93 = dktX4_talked_4 := dk_seg dksX4_talked_3 24 rfl rfl
theorem dksX4_talked_5 : cX4_talked.data.toList.drop 117 = dktX4_talked_5 := dk_seg dksX4_talked_4 24 rfl rfl
theorem dX4_talked_0 : decode cX4_talked 0 = .ok (.iconst 0, 1) := dk_3 (dk_at dksX4_talked_0 0 rfl rfl)
theorem dX4_talked_1 : decode cX4_talked 1 = .ok (.istore_n 3, 1) := dk_62 (dk_at dksX4_talked_0 1 rfl rfl)
theorem dX4_talked_2 : decode cX4_talked 2 = .ok (.iconst 0, 1) := dk_3 (dk_at dksX4_talked_0 2 rfl rfl)
theorem dX4_talked_3 : decode cX4_talked 3 = .ok (.istore 4, 2) := dk_54 4 (dk_at dksX4_talked_0 3 rfl rfl)
theorem dX4_talked_5 : decode cX4_talked 5 = .ok (.iload 4, 2) := dk_21 4 (dk_at dksX4_talked_0 5 rfl rfl)
theorem dX4_talked_7 : decode cX4_talked 7 = .ok (.aload_n 0, 1) := dk_42 (dk_at dksX4_talked_0 7 rfl rfl)
theorem dX4_talked_8 : decode cX4_talked 8 = .ok (.getfield 106, 3) := dk_180 0 106 (dk_at dksX4_talked_0 8 rfl rfl)
theorem dX4_talked_11 : decode cX4_talked 11 = .ok (.if_icmp .ge 88, 3) := dk_162 0 88 (dk_at dksX4_talked_0 11 rfl rfl)
theorem dX4_talked_14 : decode cX4_talked 14 = .ok (.iconst 0, 1) := dk_3 (dk_at dksX4_talked_0 14 rfl rfl)
theorem dX4_talked_15 : decode cX4_talked 15 = .ok (.istore 5, 2) := dk_54 5 (dk_at dksX4_talked_0 15 rfl rfl)
theorem dX4_talked_17 : decode cX4_talked 17 = .ok (.iload 5, 2) := dk_21 5 (dk_at dksX4_talked_0 17 rfl rfl)
theorem dX4_talked_19 : decode cX4_talked 19 = .ok (.aload_n 0, 1) := dk_42 (dk_at dksX4_talked_0 19 rfl rfl)
theorem dX4_talked_20 : decode cX4_talked 20 = .ok (.getfield 106, 3) := dk_180 0 106 (dk_at dksX4_talked_0 20 rfl rfl)
theorem dX4_talked_23 : decode cX4_talked 23 = .ok (.if_icmp .ge 70, 3) := dk_162 0 70 (dk_at dksX4_talked_1 0 rfl rfl)
theorem dX4_talked_26 : decode cX4_talked 26 = .ok (.iload_n 3, 1) := dk_29 (dk_at dksX4_talked_1 3 rfl rfl)
theorem dX4_talked_27 : decode cX4_talked 27 = .ok (.ifCond .ne 54, 3) := dk_154 0 54 (dk_at dksX4_talked_1 4 rfl rfl)
theorem dX4_talked_30 : decode cX4_talked 30 = .ok (.aload_n 0, 1) := dk_42 (dk_at dksX4_talked_1 7 rfl rfl)
theorem dX4_talked_31 : decode cX4_talked 31 = .ok (.getfield 47, 3) := dk_180 0 47 (dk_at dksX4_talked_1 8 rfl rfl)
theorem dX4_talked_34 : decode cX4_talked 34 = .ok (.iload 4, 2) := dk_21 4 (dk_at dksX4_talked_1 11 rfl rfl)
theorem dX4_talked_36 : decode cX4_talked 36 = .ok (.aaload, 1) := dk_50 (dk_at dksX4_talked_1 13 rfl rfl)
theorem dX4_talked_37 : decode cX4_talked 37 = .ok (.getfield 251, 3) := dk_180 0 251 (dk_at dksX4_talked_1 14 rfl rfl)
theorem dX4_talked_40 : decode cX4_talked 40 = .ok (.iload_n 1, 1) := dk_27 (dk_at dksX4_talked_1 17 rfl rfl)
theorem dX4_talked_41 : decode cX4_talked 41 = .ok (.if_icmp .ne 44, 3) := dk_160 0 44 (dk_at dksX4_talked_1 18 rfl rfl)
theorem dX4_talked_44 : decode cX4_talked 44 = .ok (.aload_n 0, 1) := dk_42 (dk_at dksX4_talked_1 21 rfl rfl)
theorem dX4_talked_45 : decode cX4_talked 45 = .ok (.getfield 47, 3) := dk_180 0 47 (dk_at dksX4_talked_2 0 rfl rfl)
theorem dX4_talked_48 : decode cX4_talked 48 = .ok (.iload 5, 2) := dk_21 5 (dk_at dksX4_talked_2 3 rfl rfl)
theorem dX4_talked_50 : decode cX4_talked 50 = .ok (.aaload, 1) := dk_50 (dk_at dksX4_talked_2 5 rfl rfl)
theorem dX4_talked_51 : decode cX4_talked 51 = .ok (.getfield 251, 3) := dk_180 0 251 (dk_at dksX4_talked_2 6 rfl rfl)
theorem dX4_talked_54 : decode cX4_talked 54 = .ok (.iload_n 2, 1) := dk_28 (dk_at dksX4_talked_2 9 rfl rfl)
theorem dX4_talked_55 : decode cX4_talked 55 = .ok (.if_icmp .ne 30, 3) := dk_160 0 30 (dk_at dksX4_talked_2 10 rfl rfl)
theorem dX4_talked_58 : decode cX4_talked 58 = .ok (.aload_n 0, 1) := dk_42 (dk_at dksX4_talked_2 13 rfl rfl)
theorem dX4_talked_59 : decode cX4_talked 59 = .ok (.getfield 47, 3) := dk_180 0 47 (dk_at dksX4_talked_2 14 rfl rfl)
theorem dX4_talked_62 : decode cX4_talked 62 = .ok (.iload 4, 2) := dk_21 4 (dk_at dksX4_talked_2 17 rfl rfl)
theorem dX4_talked_64 : decode cX4_talked 64 = .ok (.aaload, 1) := dk_50 (dk_at dksX4_talked_2 19 rfl rfl)
theorem dX4_talked_65 : decode cX4_talked 65 = .ok (.getfield 262, 3) := dk_180 1 6 (dk_at dksX4_talked_2 20 rfl rfl)
theorem dX4_talked_68 : decode cX4_talked 68 = .ok (.aload_n 0, 1) := dk_42 (dk_at dksX4_talked_2 23 rfl rfl)
theorem dX4_talked_69 : decode cX4_talked 69 = .ok (.getfield 47, 3) := dk_180 0 47 (dk_at dksX4_talked_3 0 rfl rfl)
theorem dX4_talked_72 : decode cX4_talked 72 = .ok (.iload 5, 2) := dk_21 5 (dk_at dksX4_talked_3 3 rfl rfl)
theorem dX4_talked_74 : decode cX4_talked 74 = .ok (.aaload, 1) := dk_50 (dk_at dksX4_talked_3 5 rfl rfl)
theorem dX4_talked_75 : decode cX4_talked 75 = .ok (.getfield 262, 3) := dk_180 1 6 (dk_at dksX4_talked_3 6 rfl rfl)
theorem dX4_talked_78 : decode cX4_talked 78 = .ok (.if_icmp .ne 7, 3) := dk_160 0 7 (dk_at dksX4_talked_3 9 rfl rfl)
theorem dX4_talked_81 : decode cX4_talked 81 = .ok (.iconst 1, 1) := dk_4 (dk_at dksX4_talked_3 12 rfl rfl)
theorem dX4_talked_82 : decode cX4_talked 82 = .ok (.goto 4, 3) := dk_167 0 4 (dk_at dksX4_talked_3 13 rfl rfl)
theorem dX4_talked_85 : decode cX4_talked 85 = .ok (.iconst 0, 1) := dk_3 (dk_at dksX4_talked_3 16 rfl rfl)
theorem dX4_talked_86 : decode cX4_talked 86 = .ok (.istore_n 3, 1) := dk_62 (dk_at dksX4_talked_3 17 rfl rfl)
theorem dX4_talked_87 : decode cX4_talked 87 = .ok (.iinc 5 1, 3) := dk_132 5 1 (dk_at dksX4_talked_3 18 rfl rfl)
theorem dX4_talked_90 : decode cX4_talked 90 = .ok (.goto (-73), 3) := dk_167 255 183 (dk_at dksX4_talked_3 21 rfl rfl)
theorem dX4_talked_93 : decode cX4_talked 93 = .ok (.iinc 4 1, 3) := dk_132 4 1 (dk_at dksX4_talked_4 0 rfl rfl)
theorem dX4_talked_96 : decode cX4_talked 96 = .ok (.goto (-91), 3) := dk_167 255 165 (dk_at dksX4_talked_4 3 rfl rfl)
theorem dX4_talked_99 : decode cX4_talked 99 = .ok (.iload_n 1, 1) := dk_27 (dk_at dksX4_talked_4 6 rfl rfl)
theorem dX4_talked_100 : decode cX4_talked 100 = .ok (.iload_n 2, 1) := dk_28 (dk_at dksX4_talked_4 7 rfl rfl)
theorem dX4_talked_101 : decode cX4_talked 101 = .ok (.if_icmp .eq 32, 3) := dk_159 0 32 (dk_at dksX4_talked_4 8 rfl rfl)
theorem dX4_talked_104 : decode cX4_talked 104 = .ok (.iload_n 3, 1) := dk_29 (dk_at dksX4_talked_4 11 rfl rfl)
theorem dX4_talked_105 : decode cX4_talked 105 = .ok (.ifCond .eq 28, 3) := dk_153 0 28 (dk_at dksX4_talked_4 12 rfl rfl)
theorem dX4_talked_108 : decode cX4_talked 108 = .ok (.aload_n 0, 1) := dk_42 (dk_at dksX4_talked_4 15 rfl rfl)
theorem dX4_talked_109 : decode cX4_talked 109 = .ok (.getfield 41, 3) := dk_180 0 41 (dk_at dksX4_talked_4 16 rfl rfl)
theorem dX4_talked_112 : decode cX4_talked 112 = .ok (.iload_n 1, 1) := dk_27 (dk_at dksX4_talked_4 19 rfl rfl)
theorem dX4_talked_113 : decode cX4_talked 113 = .ok (.aaload, 1) := dk_50 (dk_at dksX4_talked_4 20 rfl rfl)
theorem dX4_talked_114 : decode cX4_talked 114 = .ok (.getfield 271, 3) := dk_180 1 15 (dk_at dksX4_talked_4 21 rfl rfl)
theorem dX4_talked_117 : decode cX4_talked 117 = .ok (.aload_n 0, 1) := dk_42 (dk_at dksX4_talked_5 0 rfl rfl)
theorem dX4_talked_118 : decode cX4_talked 118 = .ok (.getfield 41, 3) := dk_180 0 41 (dk_at dksX4_talked_5 1 rfl rfl)
theorem dX4_talked_121 : decode cX4_talked 121 = .ok (.iload_n 2, 1) := dk_28 (dk_at dksX4_talked_5 4 rfl rfl)
theorem dX4_talked_122 : decode cX4_talked 122 = .ok (.aaload, 1) := dk_50 (dk_at dksX4_talked_5 5 rfl rfl)
theorem dX4_talked_123 : decode cX4_talked 123 = .ok (.getfield 271, 3) := dk_180 1 15 (dk_at dksX4_talked_5 6 rfl rfl)
theorem dX4_talked_126 : decode cX4_talked 126 = .ok (.if_icmp .ne 7, 3) := dk_160 0 7 (dk_at dksX4_talked_5 9 rfl rfl)
theorem dX4_talked_129 : decode cX4_talked 129 = .ok (.iconst 1, 1) := dk_4 (dk_at dksX4_talked_5 12 rfl rfl)
theorem dX4_talked_130 : decode cX4_talked 130 = .ok (.goto 4, 3) := dk_167 0 4 (dk_at dksX4_talked_5 13 rfl rfl)
theorem dX4_talked_133 : decode cX4_talked 133 = .ok (.iconst 0, 1) := dk_3 (dk_at dksX4_talked_5 16 rfl rfl)
theorem dX4_talked_134 : decode cX4_talked 134 = .ok (.ireturn, 1) := dk_172 (dk_at dksX4_talked_5 17 rfl rfl)
abbrev cX4_be : ByteArray := prog_12_method_2_code
def yX4_be : MethodName := ⟨RX4, "be", "(LGrassField$House;)V"⟩
def dkwX4_be_12 : List UInt8 := [181, 0, 118, 42, 43, 180, 0, 121, 181, 0, 121, 177]
abbrev dktX4_be_12 : List UInt8 := dkwX4_be_12 ++ []
def dkwX4_be_11 : List UInt8 := [181, 0, 112, 42, 43, 180, 0, 115, 181, 0, 115, 42, 43, 180, 0, 64, 181, 0, 64, 42, 43, 180, 0, 118]
abbrev dktX4_be_11 : List UInt8 := dkwX4_be_11 ++ dktX4_be_12
def dkwX4_be_10 : List UInt8 := [181, 0, 106, 42, 43, 180, 0, 109, 181, 0, 109, 42, 43, 180, 0, 60, 181, 0, 60, 42, 43, 180, 0, 112]
abbrev dktX4_be_10 : List UInt8 := dkwX4_be_10 ++ dktX4_be_11
def dkwX4_be_9 : List UInt8 := [181, 0, 97, 42, 43, 180, 0, 100, 181, 0, 100, 42, 43, 180, 0, 103, 181, 0, 103, 42, 43, 180, 0, 106]
abbrev dktX4_be_9 : List UInt8 := dkwX4_be_9 ++ dktX4_be_10
def dkwX4_be_8 : List UInt8 := [184, 0, 67, 42, 43, 180, 0, 73, 181, 0, 73, 42, 43, 180, 0, 91, 181, 0, 91, 42, 43, 180, 0, 97]
abbrev dktX4_be_8 : List UInt8 := dkwX4_be_8 ++ dktX4_be_9
def dkwX4_be_7 : List UInt8 := [3, 42, 180, 0, 47, 3, 16, 20, 184, 0, 67, 43, 180, 0, 53, 3, 42, 180, 0, 53, 3, 8]
abbrev dktX4_be_7 : List UInt8 := dkwX4_be_7 ++ dktX4_be_8
def dkwX4_be_6 : List UInt8 := [16, 120, 184, 0, 67, 43, 180, 0, 41, 3, 42, 180, 0, 41, 3, 16, 8, 184, 0, 67, 43, 180, 0, 47]
abbrev dktX4_be_6 : List UInt8 := dkwX4_be_6 ++ dktX4_be_7
def dkwX4_be_5 : List UInt8 := [43, 180, 0, 29, 3, 42, 180, 0, 29, 3, 7, 184, 0, 67, 43, 180, 0, 35, 3, 42, 180, 0, 35, 3]
abbrev dktX4_be_5 : List UInt8 := dkwX4_be_5 ++ dktX4_be_6
def dkwX4_be_4 : List UInt8 := [180, 0, 23, 28, 187, 0, 21, 89, 43, 180, 0, 23, 28, 50, 183, 0, 94, 83, 132, 2, 1, 167, 255, 226]
abbrev dktX4_be_4 : List UInt8 := dkwX4_be_4 ++ dktX4_be_5
def dkwX4_be_3 : List UInt8 := [180, 0, 85, 183, 0, 88, 83, 132, 2, 1, 167, 255, 196, 3, 61, 28, 43, 180, 0, 91, 162, 0, 28, 42]
abbrev dktX4_be_3 : List UInt8 := dkwX4_be_3 ++ dktX4_be_4
def dkwX4_be_2 : List UInt8 := [180, 0, 17, 28, 50, 180, 0, 79, 43, 180, 0, 17, 28, 50, 180, 0, 82, 43, 180, 0, 17, 28, 50]
abbrev dktX4_be_2 : List UInt8 := dkwX4_be_2 ++ dktX4_be_3
def dkwX4_be_1 : List UInt8 := [162, 0, 58, 42, 180, 0, 17, 28, 187, 0, 15, 89, 43, 180, 0, 17, 28, 50, 180, 0, 76, 43]
abbrev dktX4_be_1 : List UInt8 := dkwX4_be_1 ++ dktX4_be_2
def dkwX4_be_0 : List UInt8 := [43, 180, 0, 9, 3, 42, 180, 0, 9, 3, 17, 1, 0, 184, 0, 67, 3, 61, 28, 43, 180, 0, 73]
abbrev dktX4_be_0 : List UInt8 := dkwX4_be_0 ++ dktX4_be_1
theorem dksX4_be_0 : cX4_be.data.toList.drop 0 = dktX4_be_0 := by decide +kernel
theorem dksX4_be_1 : cX4_be.data.toList.drop 23 = dktX4_be_1 := dk_seg dksX4_be_0 23 rfl rfl
theorem dksX4_be_2 : cX4_be.data.toList.drop 45 = dktX4_be_2 := dk_seg dksX4_be_1 22 rfl rfl
theorem dksX4_be_3 : cX4_be.data.toList.drop 68 = dktX4_be_3 := dk_seg dksX4_be_2 23 rfl rfl
theorem dksX4_be_4 : cX4_be.data.toList.drop 92 = dktX4_be_4 := dk_seg dksX4_be_3 24 rfl rfl
theorem dksX4_be_5 : cX4_be.data.toList.drop 116 = dktX4_be_5 := dk_seg dksX4_be_4 24 rfl rfl
theorem dksX4_be_6 : cX4_be.data.toList.drop 140 = dktX4_be_6 := dk_seg dksX4_be_5 24 rfl rfl
theorem dksX4_be_7 : cX4_be.data.toList.drop 164 = dktX4_be_7 := dk_seg dksX4_be_6 24 rfl rfl
theorem dksX4_be_8 : cX4_be.data.toList.drop 186 = dktX4_be_8 := dk_seg dksX4_be_7 22 rfl rfl
theorem dksX4_be_9 : cX4_be.data.toList.drop 210 = dktX4_be_9 := dk_seg dksX4_be_8 24 rfl rfl
theorem dksX4_be_10 : cX4_be.data.toList.drop 234 = dktX4_be_10 := dk_seg dksX4_be_9 24 rfl rfl
theorem dksX4_be_11 : cX4_be.data.toList.drop 258 = dktX4_be_11 := dk_seg dksX4_be_10 24 rfl rfl
theorem dksX4_be_12 : cX4_be.data.toList.drop 282 = dktX4_be_12 := dk_seg dksX4_be_11 24 rfl rfl
theorem dX4_be_0 : decode cX4_be 0 = .ok (.aload_n 1, 1) := dk_43 (dk_at dksX4_be_0 0 rfl rfl)
theorem dX4_be_1 : decode cX4_be 1 = .ok (.getfield 9, 3) := dk_180 0 9 (dk_at dksX4_be_0 1 rfl rfl)
theorem dX4_be_4 : decode cX4_be 4 = .ok (.iconst 0, 1) := dk_3 (dk_at dksX4_be_0 4 rfl rfl)
theorem dX4_be_5 : decode cX4_be 5 = .ok (.aload_n 0, 1) := dk_42 (dk_at dksX4_be_0 5 rfl rfl)
theorem dX4_be_6 : decode cX4_be 6 = .ok (.getfield 9, 3) := dk_180 0 9 (dk_at dksX4_be_0 6 rfl rfl)
theorem dX4_be_9 : decode cX4_be 9 = .ok (.iconst 0, 1) := dk_3 (dk_at dksX4_be_0 9 rfl rfl)
theorem dX4_be_10 : decode cX4_be 10 = .ok (.sipush 256, 3) := dk_17 1 0 (dk_at dksX4_be_0 10 rfl rfl)
theorem dX4_be_13 : decode cX4_be 13 = .ok (.invokestatic 67, 3) := dk_184 0 67 (dk_at dksX4_be_0 13 rfl rfl)
theorem dX4_be_16 : decode cX4_be 16 = .ok (.iconst 0, 1) := dk_3 (dk_at dksX4_be_0 16 rfl rfl)
theorem dX4_be_17 : decode cX4_be 17 = .ok (.istore_n 2, 1) := dk_61 (dk_at dksX4_be_0 17 rfl rfl)
theorem dX4_be_18 : decode cX4_be 18 = .ok (.iload_n 2, 1) := dk_28 (dk_at dksX4_be_0 18 rfl rfl)
theorem dX4_be_19 : decode cX4_be 19 = .ok (.aload_n 1, 1) := dk_43 (dk_at dksX4_be_0 19 rfl rfl)
theorem dX4_be_20 : decode cX4_be 20 = .ok (.getfield 73, 3) := dk_180 0 73 (dk_at dksX4_be_0 20 rfl rfl)
theorem dX4_be_23 : decode cX4_be 23 = .ok (.if_icmp .ge 58, 3) := dk_162 0 58 (dk_at dksX4_be_1 0 rfl rfl)
theorem dX4_be_26 : decode cX4_be 26 = .ok (.aload_n 0, 1) := dk_42 (dk_at dksX4_be_1 3 rfl rfl)
theorem dX4_be_27 : decode cX4_be 27 = .ok (.getfield 17, 3) := dk_180 0 17 (dk_at dksX4_be_1 4 rfl rfl)
theorem dX4_be_30 : decode cX4_be 30 = .ok (.iload_n 2, 1) := dk_28 (dk_at dksX4_be_1 7 rfl rfl)
theorem dX4_be_31 : decode cX4_be 31 = .ok (.new 15, 3) := dk_187 0 15 (dk_at dksX4_be_1 8 rfl rfl)
theorem dX4_be_34 : decode cX4_be 34 = .ok (.dup, 1) := dk_89 (dk_at dksX4_be_1 11 rfl rfl)
theorem dX4_be_35 : decode cX4_be 35 = .ok (.aload_n 1, 1) := dk_43 (dk_at dksX4_be_1 12 rfl rfl)
theorem dX4_be_36 : decode cX4_be 36 = .ok (.getfield 17, 3) := dk_180 0 17 (dk_at dksX4_be_1 13 rfl rfl)
theorem dX4_be_39 : decode cX4_be 39 = .ok (.iload_n 2, 1) := dk_28 (dk_at dksX4_be_1 16 rfl rfl)
theorem dX4_be_40 : decode cX4_be 40 = .ok (.aaload, 1) := dk_50 (dk_at dksX4_be_1 17 rfl rfl)
theorem dX4_be_41 : decode cX4_be 41 = .ok (.getfield 76, 3) := dk_180 0 76 (dk_at dksX4_be_1 18 rfl rfl)
theorem dX4_be_44 : decode cX4_be 44 = .ok (.aload_n 1, 1) := dk_43 (dk_at dksX4_be_1 21 rfl rfl)
theorem dX4_be_45 : decode cX4_be 45 = .ok (.getfield 17, 3) := dk_180 0 17 (dk_at dksX4_be_2 0 rfl rfl)
theorem dX4_be_48 : decode cX4_be 48 = .ok (.iload_n 2, 1) := dk_28 (dk_at dksX4_be_2 3 rfl rfl)
theorem dX4_be_49 : decode cX4_be 49 = .ok (.aaload, 1) := dk_50 (dk_at dksX4_be_2 4 rfl rfl)
theorem dX4_be_50 : decode cX4_be 50 = .ok (.getfield 79, 3) := dk_180 0 79 (dk_at dksX4_be_2 5 rfl rfl)
theorem dX4_be_53 : decode cX4_be 53 = .ok (.aload_n 1, 1) := dk_43 (dk_at dksX4_be_2 8 rfl rfl)
theorem dX4_be_54 : decode cX4_be 54 = .ok (.getfield 17, 3) := dk_180 0 17 (dk_at dksX4_be_2 9 rfl rfl)
theorem dX4_be_57 : decode cX4_be 57 = .ok (.iload_n 2, 1) := dk_28 (dk_at dksX4_be_2 12 rfl rfl)
theorem dX4_be_58 : decode cX4_be 58 = .ok (.aaload, 1) := dk_50 (dk_at dksX4_be_2 13 rfl rfl)
theorem dX4_be_59 : decode cX4_be 59 = .ok (.getfield 82, 3) := dk_180 0 82 (dk_at dksX4_be_2 14 rfl rfl)
theorem dX4_be_62 : decode cX4_be 62 = .ok (.aload_n 1, 1) := dk_43 (dk_at dksX4_be_2 17 rfl rfl)
theorem dX4_be_63 : decode cX4_be 63 = .ok (.getfield 17, 3) := dk_180 0 17 (dk_at dksX4_be_2 18 rfl rfl)
theorem dX4_be_66 : decode cX4_be 66 = .ok (.iload_n 2, 1) := dk_28 (dk_at dksX4_be_2 21 rfl rfl)
theorem dX4_be_67 : decode cX4_be 67 = .ok (.aaload, 1) := dk_50 (dk_at dksX4_be_2 22 rfl rfl)
theorem dX4_be_68 : decode cX4_be 68 = .ok (.getfield 85, 3) := dk_180 0 85 (dk_at dksX4_be_3 0 rfl rfl)
theorem dX4_be_71 : decode cX4_be 71 = .ok (.invokespecial 88, 3) := dk_183 0 88 (dk_at dksX4_be_3 3 rfl rfl)
theorem dX4_be_74 : decode cX4_be 74 = .ok (.aastore, 1) := dk_83 (dk_at dksX4_be_3 6 rfl rfl)
theorem dX4_be_75 : decode cX4_be 75 = .ok (.iinc 2 1, 3) := dk_132 2 1 (dk_at dksX4_be_3 7 rfl rfl)
theorem dX4_be_78 : decode cX4_be 78 = .ok (.goto (-60), 3) := dk_167 255 196 (dk_at dksX4_be_3 10 rfl rfl)
theorem dX4_be_81 : decode cX4_be 81 = .ok (.iconst 0, 1) := dk_3 (dk_at dksX4_be_3 13 rfl rfl)
theorem dX4_be_82 : decode cX4_be 82 = .ok (.istore_n 2, 1) := dk_61 (dk_at dksX4_be_3 14 rfl rfl)
theorem dX4_be_83 : decode cX4_be 83 = .ok (.iload_n 2, 1) := dk_28 (dk_at dksX4_be_3 15 rfl rfl)
theorem dX4_be_84 : decode cX4_be 84 = .ok (.aload_n 1, 1) := dk_43 (dk_at dksX4_be_3 16 rfl rfl)
theorem dX4_be_85 : decode cX4_be 85 = .ok (.getfield 91, 3) := dk_180 0 91 (dk_at dksX4_be_3 17 rfl rfl)
theorem dX4_be_88 : decode cX4_be 88 = .ok (.if_icmp .ge 28, 3) := dk_162 0 28 (dk_at dksX4_be_3 20 rfl rfl)
theorem dX4_be_91 : decode cX4_be 91 = .ok (.aload_n 0, 1) := dk_42 (dk_at dksX4_be_3 23 rfl rfl)
theorem dX4_be_92 : decode cX4_be 92 = .ok (.getfield 23, 3) := dk_180 0 23 (dk_at dksX4_be_4 0 rfl rfl)
theorem dX4_be_95 : decode cX4_be 95 = .ok (.iload_n 2, 1) := dk_28 (dk_at dksX4_be_4 3 rfl rfl)
theorem dX4_be_96 : decode cX4_be 96 = .ok (.new 21, 3) := dk_187 0 21 (dk_at dksX4_be_4 4 rfl rfl)
theorem dX4_be_99 : decode cX4_be 99 = .ok (.dup, 1) := dk_89 (dk_at dksX4_be_4 7 rfl rfl)
theorem dX4_be_100 : decode cX4_be 100 = .ok (.aload_n 1, 1) := dk_43 (dk_at dksX4_be_4 8 rfl rfl)
theorem dX4_be_101 : decode cX4_be 101 = .ok (.getfield 23, 3) := dk_180 0 23 (dk_at dksX4_be_4 9 rfl rfl)
theorem dX4_be_104 : decode cX4_be 104 = .ok (.iload_n 2, 1) := dk_28 (dk_at dksX4_be_4 12 rfl rfl)
theorem dX4_be_105 : decode cX4_be 105 = .ok (.aaload, 1) := dk_50 (dk_at dksX4_be_4 13 rfl rfl)
theorem dX4_be_106 : decode cX4_be 106 = .ok (.invokespecial 94, 3) := dk_183 0 94 (dk_at dksX4_be_4 14 rfl rfl)
theorem dX4_be_109 : decode cX4_be 109 = .ok (.aastore, 1) := dk_83 (dk_at dksX4_be_4 17 rfl rfl)
theorem dX4_be_110 : decode cX4_be 110 = .ok (.iinc 2 1, 3) := dk_132 2 1 (dk_at dksX4_be_4 18 rfl rfl)
theorem dX4_be_113 : decode cX4_be 113 = .ok (.goto (-30), 3) := dk_167 255 226 (dk_at dksX4_be_4 21 rfl rfl)
theorem dX4_be_116 : decode cX4_be 116 = .ok (.aload_n 1, 1) := dk_43 (dk_at dksX4_be_5 0 rfl rfl)
theorem dX4_be_117 : decode cX4_be 117 = .ok (.getfield 29, 3) := dk_180 0 29 (dk_at dksX4_be_5 1 rfl rfl)
theorem dX4_be_120 : decode cX4_be 120 = .ok (.iconst 0, 1) := dk_3 (dk_at dksX4_be_5 4 rfl rfl)
theorem dX4_be_121 : decode cX4_be 121 = .ok (.aload_n 0, 1) := dk_42 (dk_at dksX4_be_5 5 rfl rfl)
theorem dX4_be_122 : decode cX4_be 122 = .ok (.getfield 29, 3) := dk_180 0 29 (dk_at dksX4_be_5 6 rfl rfl)
theorem dX4_be_125 : decode cX4_be 125 = .ok (.iconst 0, 1) := dk_3 (dk_at dksX4_be_5 9 rfl rfl)
theorem dX4_be_126 : decode cX4_be 126 = .ok (.iconst 4, 1) := dk_7 (dk_at dksX4_be_5 10 rfl rfl)
theorem dX4_be_127 : decode cX4_be 127 = .ok (.invokestatic 67, 3) := dk_184 0 67 (dk_at dksX4_be_5 11 rfl rfl)
theorem dX4_be_130 : decode cX4_be 130 = .ok (.aload_n 1, 1) := dk_43 (dk_at dksX4_be_5 14 rfl rfl)
theorem dX4_be_131 : decode cX4_be 131 = .ok (.getfield 35, 3) := dk_180 0 35 (dk_at dksX4_be_5 15 rfl rfl)
theorem dX4_be_134 : decode cX4_be 134 = .ok (.iconst 0, 1) := dk_3 (dk_at dksX4_be_5 18 rfl rfl)
theorem dX4_be_135 : decode cX4_be 135 = .ok (.aload_n 0, 1) := dk_42 (dk_at dksX4_be_5 19 rfl rfl)
theorem dX4_be_136 : decode cX4_be 136 = .ok (.getfield 35, 3) := dk_180 0 35 (dk_at dksX4_be_5 20 rfl rfl)
theorem dX4_be_139 : decode cX4_be 139 = .ok (.iconst 0, 1) := dk_3 (dk_at dksX4_be_5 23 rfl rfl)
theorem dX4_be_140 : decode cX4_be 140 = .ok (.bipush 120, 2) := dk_16 120 (dk_at dksX4_be_6 0 rfl rfl)
theorem dX4_be_142 : decode cX4_be 142 = .ok (.invokestatic 67, 3) := dk_184 0 67 (dk_at dksX4_be_6 2 rfl rfl)
theorem dX4_be_145 : decode cX4_be 145 = .ok (.aload_n 1, 1) := dk_43 (dk_at dksX4_be_6 5 rfl rfl)
theorem dX4_be_146 : decode cX4_be 146 = .ok (.getfield 41, 3) := dk_180 0 41 (dk_at dksX4_be_6 6 rfl rfl)
theorem dX4_be_149 : decode cX4_be 149 = .ok (.iconst 0, 1) := dk_3 (dk_at dksX4_be_6 9 rfl rfl)
theorem dX4_be_150 : decode cX4_be 150 = .ok (.aload_n 0, 1) := dk_42 (dk_at dksX4_be_6 10 rfl rfl)
theorem dX4_be_151 : decode cX4_be 151 = .ok (.getfield 41, 3) := dk_180 0 41 (dk_at dksX4_be_6 11 rfl rfl)
theorem dX4_be_154 : decode cX4_be 154 = .ok (.iconst 0, 1) := dk_3 (dk_at dksX4_be_6 14 rfl rfl)
theorem dX4_be_155 : decode cX4_be 155 = .ok (.bipush 8, 2) := dk_16 8 (dk_at dksX4_be_6 15 rfl rfl)
theorem dX4_be_157 : decode cX4_be 157 = .ok (.invokestatic 67, 3) := dk_184 0 67 (dk_at dksX4_be_6 17 rfl rfl)
theorem dX4_be_160 : decode cX4_be 160 = .ok (.aload_n 1, 1) := dk_43 (dk_at dksX4_be_6 20 rfl rfl)
theorem dX4_be_161 : decode cX4_be 161 = .ok (.getfield 47, 3) := dk_180 0 47 (dk_at dksX4_be_6 21 rfl rfl)
theorem dX4_be_164 : decode cX4_be 164 = .ok (.iconst 0, 1) := dk_3 (dk_at dksX4_be_7 0 rfl rfl)
theorem dX4_be_165 : decode cX4_be 165 = .ok (.aload_n 0, 1) := dk_42 (dk_at dksX4_be_7 1 rfl rfl)
theorem dX4_be_166 : decode cX4_be 166 = .ok (.getfield 47, 3) := dk_180 0 47 (dk_at dksX4_be_7 2 rfl rfl)
theorem dX4_be_169 : decode cX4_be 169 = .ok (.iconst 0, 1) := dk_3 (dk_at dksX4_be_7 5 rfl rfl)
theorem dX4_be_170 : decode cX4_be 170 = .ok (.bipush 20, 2) := dk_16 20 (dk_at dksX4_be_7 6 rfl rfl)
theorem dX4_be_172 : decode cX4_be 172 = .ok (.invokestatic 67, 3) := dk_184 0 67 (dk_at dksX4_be_7 8 rfl rfl)
theorem dX4_be_175 : decode cX4_be 175 = .ok (.aload_n 1, 1) := dk_43 (dk_at dksX4_be_7 11 rfl rfl)
theorem dX4_be_176 : decode cX4_be 176 = .ok (.getfield 53, 3) := dk_180 0 53 (dk_at dksX4_be_7 12 rfl rfl)
theorem dX4_be_179 : decode cX4_be 179 = .ok (.iconst 0, 1) := dk_3 (dk_at dksX4_be_7 15 rfl rfl)
theorem dX4_be_180 : decode cX4_be 180 = .ok (.aload_n 0, 1) := dk_42 (dk_at dksX4_be_7 16 rfl rfl)
theorem dX4_be_181 : decode cX4_be 181 = .ok (.getfield 53, 3) := dk_180 0 53 (dk_at dksX4_be_7 17 rfl rfl)
theorem dX4_be_184 : decode cX4_be 184 = .ok (.iconst 0, 1) := dk_3 (dk_at dksX4_be_7 20 rfl rfl)
theorem dX4_be_185 : decode cX4_be 185 = .ok (.iconst 5, 1) := dk_8 (dk_at dksX4_be_7 21 rfl rfl)
theorem dX4_be_186 : decode cX4_be 186 = .ok (.invokestatic 67, 3) := dk_184 0 67 (dk_at dksX4_be_8 0 rfl rfl)
theorem dX4_be_189 : decode cX4_be 189 = .ok (.aload_n 0, 1) := dk_42 (dk_at dksX4_be_8 3 rfl rfl)
theorem dX4_be_190 : decode cX4_be 190 = .ok (.aload_n 1, 1) := dk_43 (dk_at dksX4_be_8 4 rfl rfl)
theorem dX4_be_191 : decode cX4_be 191 = .ok (.getfield 73, 3) := dk_180 0 73 (dk_at dksX4_be_8 5 rfl rfl)
theorem dX4_be_194 : decode cX4_be 194 = .ok (.putfield 73, 3) := dk_181 0 73 (dk_at dksX4_be_8 8 rfl rfl)
theorem dX4_be_197 : decode cX4_be 197 = .ok (.aload_n 0, 1) := dk_42 (dk_at dksX4_be_8 11 rfl rfl)
theorem dX4_be_198 : decode cX4_be 198 = .ok (.aload_n 1, 1) := dk_43 (dk_at dksX4_be_8 12 rfl rfl)
theorem dX4_be_199 : decode cX4_be 199 = .ok (.getfield 91, 3) := dk_180 0 91 (dk_at dksX4_be_8 13 rfl rfl)
theorem dX4_be_202 : decode cX4_be 202 = .ok (.putfield 91, 3) := dk_181 0 91 (dk_at dksX4_be_8 16 rfl rfl)
theorem dX4_be_205 : decode cX4_be 205 = .ok (.aload_n 0, 1) := dk_42 (dk_at dksX4_be_8 19 rfl rfl)
theorem dX4_be_206 : decode cX4_be 206 = .ok (.aload_n 1, 1) := dk_43 (dk_at dksX4_be_8 20 rfl rfl)
theorem dX4_be_207 : decode cX4_be 207 = .ok (.getfield 97, 3) := dk_180 0 97 (dk_at dksX4_be_8 21 rfl rfl)
theorem dX4_be_210 : decode cX4_be 210 = .ok (.putfield 97, 3) := dk_181 0 97 (dk_at dksX4_be_9 0 rfl rfl)
theorem dX4_be_213 : decode cX4_be 213 = .ok (.aload_n 0, 1) := dk_42 (dk_at dksX4_be_9 3 rfl rfl)
theorem dX4_be_214 : decode cX4_be 214 = .ok (.aload_n 1, 1) := dk_43 (dk_at dksX4_be_9 4 rfl rfl)
theorem dX4_be_215 : decode cX4_be 215 = .ok (.getfield 100, 3) := dk_180 0 100 (dk_at dksX4_be_9 5 rfl rfl)
theorem dX4_be_218 : decode cX4_be 218 = .ok (.putfield 100, 3) := dk_181 0 100 (dk_at dksX4_be_9 8 rfl rfl)
theorem dX4_be_221 : decode cX4_be 221 = .ok (.aload_n 0, 1) := dk_42 (dk_at dksX4_be_9 11 rfl rfl)
theorem dX4_be_222 : decode cX4_be 222 = .ok (.aload_n 1, 1) := dk_43 (dk_at dksX4_be_9 12 rfl rfl)
theorem dX4_be_223 : decode cX4_be 223 = .ok (.getfield 103, 3) := dk_180 0 103 (dk_at dksX4_be_9 13 rfl rfl)
theorem dX4_be_226 : decode cX4_be 226 = .ok (.putfield 103, 3) := dk_181 0 103 (dk_at dksX4_be_9 16 rfl rfl)
theorem dX4_be_229 : decode cX4_be 229 = .ok (.aload_n 0, 1) := dk_42 (dk_at dksX4_be_9 19 rfl rfl)
theorem dX4_be_230 : decode cX4_be 230 = .ok (.aload_n 1, 1) := dk_43 (dk_at dksX4_be_9 20 rfl rfl)
theorem dX4_be_231 : decode cX4_be 231 = .ok (.getfield 106, 3) := dk_180 0 106 (dk_at dksX4_be_9 21 rfl rfl)
theorem dX4_be_234 : decode cX4_be 234 = .ok (.putfield 106, 3) := dk_181 0 106 (dk_at dksX4_be_10 0 rfl rfl)
theorem dX4_be_237 : decode cX4_be 237 = .ok (.aload_n 0, 1) := dk_42 (dk_at dksX4_be_10 3 rfl rfl)
theorem dX4_be_238 : decode cX4_be 238 = .ok (.aload_n 1, 1) := dk_43 (dk_at dksX4_be_10 4 rfl rfl)
theorem dX4_be_239 : decode cX4_be 239 = .ok (.getfield 109, 3) := dk_180 0 109 (dk_at dksX4_be_10 5 rfl rfl)
theorem dX4_be_242 : decode cX4_be 242 = .ok (.putfield 109, 3) := dk_181 0 109 (dk_at dksX4_be_10 8 rfl rfl)
theorem dX4_be_245 : decode cX4_be 245 = .ok (.aload_n 0, 1) := dk_42 (dk_at dksX4_be_10 11 rfl rfl)
theorem dX4_be_246 : decode cX4_be 246 = .ok (.aload_n 1, 1) := dk_43 (dk_at dksX4_be_10 12 rfl rfl)
theorem dX4_be_247 : decode cX4_be 247 = .ok (.getfield 60, 3) := dk_180 0 60 (dk_at dksX4_be_10 13 rfl rfl)
theorem dX4_be_250 : decode cX4_be 250 = .ok (.putfield 60, 3) := dk_181 0 60 (dk_at dksX4_be_10 16 rfl rfl)
theorem dX4_be_253 : decode cX4_be 253 = .ok (.aload_n 0, 1) := dk_42 (dk_at dksX4_be_10 19 rfl rfl)
theorem dX4_be_254 : decode cX4_be 254 = .ok (.aload_n 1, 1) := dk_43 (dk_at dksX4_be_10 20 rfl rfl)
theorem dX4_be_255 : decode cX4_be 255 = .ok (.getfield 112, 3) := dk_180 0 112 (dk_at dksX4_be_10 21 rfl rfl)
theorem dX4_be_258 : decode cX4_be 258 = .ok (.putfield 112, 3) := dk_181 0 112 (dk_at dksX4_be_11 0 rfl rfl)
theorem dX4_be_261 : decode cX4_be 261 = .ok (.aload_n 0, 1) := dk_42 (dk_at dksX4_be_11 3 rfl rfl)
theorem dX4_be_262 : decode cX4_be 262 = .ok (.aload_n 1, 1) := dk_43 (dk_at dksX4_be_11 4 rfl rfl)
theorem dX4_be_263 : decode cX4_be 263 = .ok (.getfield 115, 3) := dk_180 0 115 (dk_at dksX4_be_11 5 rfl rfl)
theorem dX4_be_266 : decode cX4_be 266 = .ok (.putfield 115, 3) := dk_181 0 115 (dk_at dksX4_be_11 8 rfl rfl)
theorem dX4_be_269 : decode cX4_be 269 = .ok (.aload_n 0, 1) := dk_42 (dk_at dksX4_be_11 11 rfl rfl)
theorem dX4_be_270 : decode cX4_be 270 = .ok (.aload_n 1, 1) := dk_43 (dk_at dksX4_be_11 12 rfl rfl)
theorem dX4_be_271 : decode cX4_be 271 = .ok (.getfield 64, 3) := dk_180 0 64 (dk_at dksX4_be_11 13 rfl rfl)
theorem dX4_be_274 : decode cX4_be 274 = .ok (.putfield 64, 3) := dk_181 0 64 (dk_at dksX4_be_11 16 rfl rfl)
theorem dX4_be_277 : decode cX4_be 277 = .ok (.aload_n 0, 1) := dk_42 (dk_at dksX4_be_11 19 rfl rfl)
theorem dX4_be_278 : decode cX4_be 278 = .ok (.aload_n 1, 1) := dk_43 (dk_at dksX4_be_11 20 rfl rfl)
theorem dX4_be_279 : decode cX4_be 279 = .ok (.getfield 118, 3) := dk_180 0 118 (dk_at dksX4_be_11 21 rfl rfl)
theorem dX4_be_282 : decode cX4_be 282 = .ok (.putfield 118, 3) := dk_181 0 118 (dk_at dksX4_be_12 0 rfl rfl)
theorem dX4_be_285 : decode cX4_be 285 = .ok (.aload_n 0, 1) := dk_42 (dk_at dksX4_be_12 3 rfl rfl)
theorem dX4_be_286 : decode cX4_be 286 = .ok (.aload_n 1, 1) := dk_43 (dk_at dksX4_be_12 4 rfl rfl)
theorem dX4_be_287 : decode cX4_be 287 = .ok (.getfield 121, 3) := dk_180 0 121 (dk_at dksX4_be_12 5 rfl rfl)
theorem dX4_be_290 : decode cX4_be 290 = .ok (.putfield 121, 3) := dk_181 0 121 (dk_at dksX4_be_12 8 rfl rfl)
theorem dX4_be_293 : decode cX4_be 293 = .ok (.return_, 1) := dk_177 (dk_at dksX4_be_12 11 rfl rfl)
abbrev cX4_isIn : ByteArray := prog_12_method_18_code
def yX4_isIn : MethodName := ⟨RX4, "isIn", "(III)Z"⟩
def dkwX4_isIn_3 : List UInt8 := [163, 0, 7, 4, 167, 0, 4, 3, 172]
abbrev dktX4_isIn_3 : List UInt8 := dkwX4_isIn_3 ++ []
def dkwX4_isIn_2 : List UInt8 := [28, 16, 16, 108, 184, 0, 175, 161, 0, 23, 21, 4, 27, 16, 16, 108, 28, 16, 16, 108, 184, 0, 180]
abbrev dktX4_isIn_2 : List UInt8 := dkwX4_isIn_2 ++ dktX4_isIn_3
def dkwX4_isIn_1 : List UInt8 := [161, 0, 54, 29, 27, 16, 16, 112, 28, 16, 16, 112, 184, 0, 180, 163, 0, 39, 21, 4, 27, 16, 16, 108]
abbrev dktX4_isIn_1 : List UInt8 := dkwX4_isIn_1 ++ dktX4_isIn_2
def dkwX4_isIn_0 : List UInt8 := [26, 16, 16, 112, 62, 26, 16, 16, 108, 54, 4, 29, 27, 16, 16, 112, 28, 16, 16, 112, 184, 0, 175]
abbrev dktX4_isIn_0 : List UInt8 := dkwX4_isIn_0 ++ dktX4_isIn_1
theorem dksX4_isIn_0 : cX4_isIn.data.toList.drop 0 = dktX4_isIn_0 := by decide +kernel
theorem dksX4_isIn_1 : cX4_isIn.data.toList.drop 23 = dktX4_isIn_1 := dk_seg dksX4_isIn_0 23 rfl rfl
theorem dksX4_isIn_2 : cX4_isIn.data.toList.drop 47 = dktX4_isIn_2 := dk_seg dksX4_isIn_1 24 rfl rfl
theorem dksX4_isIn_3 : cX4_isIn.data.toList.drop 70 = dktX4_isIn_3 := dk_seg dksX4_isIn_2 23 rfl rfl
theorem dX4_isIn_0 : decode cX4_isIn 0 = .ok (.iload_n 0, 1) := dk_26 (dk_at dksX4_isIn_0 0 rfl rfl)
theorem dX4_isIn_1 : decode cX4_isIn 1 = .ok (.bipush 16, 2) := dk_16 16 (dk_at dksX4_isIn_0 1 rfl rfl)
theorem dX4_isIn_3 : decode cX4_isIn 3 = .ok (.irem, 1) := dk_112 (dk_at dksX4_isIn_0 3 rfl rfl)
theorem dX4_isIn_4 : decode cX4_isIn 4 = .ok (.istore_n 3, 1) := dk_62 (dk_at dksX4_isIn_0 4 rfl rfl)
theorem dX4_isIn_5 : decode cX4_isIn 5 = .ok (.iload_n 0, 1) := dk_26 (dk_at dksX4_isIn_0 5 rfl rfl)
theorem dX4_isIn_6 : decode cX4_isIn 6 = .ok (.bipush 16, 2) := dk_16 16 (dk_at dksX4_isIn_0 6 rfl rfl)
theorem dX4_isIn_8 : decode cX4_isIn 8 = .ok (.idiv, 1) := dk_108 (dk_at dksX4_isIn_0 8 rfl rfl)
theorem dX4_isIn_9 : decode cX4_isIn 9 = .ok (.istore 4, 2) := dk_54 4 (dk_at dksX4_isIn_0 9 rfl rfl)
theorem dX4_isIn_11 : decode cX4_isIn 11 = .ok (.iload_n 3, 1) := dk_29 (dk_at dksX4_isIn_0 11 rfl rfl)
theorem dX4_isIn_12 : decode cX4_isIn 12 = .ok (.iload_n 1, 1) := dk_27 (dk_at dksX4_isIn_0 12 rfl rfl)
theorem dX4_isIn_13 : decode cX4_isIn 13 = .ok (.bipush 16, 2) := dk_16 16 (dk_at dksX4_isIn_0 13 rfl rfl)
theorem dX4_isIn_15 : decode cX4_isIn 15 = .ok (.irem, 1) := dk_112 (dk_at dksX4_isIn_0 15 rfl rfl)
theorem dX4_isIn_16 : decode cX4_isIn 16 = .ok (.iload_n 2, 1) := dk_28 (dk_at dksX4_isIn_0 16 rfl rfl)
theorem dX4_isIn_17 : decode cX4_isIn 17 = .ok (.bipush 16, 2) := dk_16 16 (dk_at dksX4_isIn_0 17 rfl rfl)
theorem dX4_isIn_19 : decode cX4_isIn 19 = .ok (.irem, 1) := dk_112 (dk_at dksX4_isIn_0 19 rfl rfl)
theorem dX4_isIn_20 : decode cX4_isIn 20 = .ok (.invokestatic 175, 3) := dk_184 0 175 (dk_at dksX4_isIn_0 20 rfl rfl)
theorem dX4_isIn_23 : decode cX4_isIn 23 = .ok (.if_icmp .lt 54, 3) := dk_161 0 54 (dk_at dksX4_isIn_1 0 rfl rfl)
theorem dX4_isIn_26 : decode cX4_isIn 26 = .ok (.iload_n 3, 1) := dk_29 (dk_at dksX4_isIn_1 3 rfl rfl)
theorem dX4_isIn_27 : decode cX4_isIn 27 = .ok (.iload_n 1, 1) := dk_27 (dk_at dksX4_isIn_1 4 rfl rfl)
theorem dX4_isIn_28 : decode cX4_isIn 28 = .ok (.bipush 16, 2) := dk_16 16 (dk_at dksX4_isIn_1 5 rfl rfl)
theorem dX4_isIn_30 : decode cX4_isIn 30 = .ok (.irem, 1) := dk_112 (dk_at dksX4_isIn_1 7 rfl rfl)
theorem dX4_isIn_31 : decode cX4_isIn 31 = .ok (.iload_n 2, 1) := dk_28 (dk_at dksX4_isIn_1 8 rfl rfl)
theorem dX4_isIn_32 : decode cX4_isIn 32 = .ok (.bipush 16, 2) := dk_16 16 (dk_at dksX4_isIn_1 9 rfl rfl)
theorem dX4_isIn_34 : decode cX4_isIn 34 = .ok (.irem, 1) := dk_112 (dk_at dksX4_isIn_1 11 rfl rfl)
theorem dX4_isIn_35 : decode cX4_isIn 35 = .ok (.invokestatic 180, 3) := dk_184 0 180 (dk_at dksX4_isIn_1 12 rfl rfl)
theorem dX4_isIn_38 : decode cX4_isIn 38 = .ok (.if_icmp .gt 39, 3) := dk_163 0 39 (dk_at dksX4_isIn_1 15 rfl rfl)
theorem dX4_isIn_41 : decode cX4_isIn 41 = .ok (.iload 4, 2) := dk_21 4 (dk_at dksX4_isIn_1 18 rfl rfl)
theorem dX4_isIn_43 : decode cX4_isIn 43 = .ok (.iload_n 1, 1) := dk_27 (dk_at dksX4_isIn_1 20 rfl rfl)
theorem dX4_isIn_44 : decode cX4_isIn 44 = .ok (.bipush 16, 2) := dk_16 16 (dk_at dksX4_isIn_1 21 rfl rfl)
theorem dX4_isIn_46 : decode cX4_isIn 46 = .ok (.idiv, 1) := dk_108 (dk_at dksX4_isIn_1 23 rfl rfl)
theorem dX4_isIn_47 : decode cX4_isIn 47 = .ok (.iload_n 2, 1) := dk_28 (dk_at dksX4_isIn_2 0 rfl rfl)
theorem dX4_isIn_48 : decode cX4_isIn 48 = .ok (.bipush 16, 2) := dk_16 16 (dk_at dksX4_isIn_2 1 rfl rfl)
theorem dX4_isIn_50 : decode cX4_isIn 50 = .ok (.idiv, 1) := dk_108 (dk_at dksX4_isIn_2 3 rfl rfl)
theorem dX4_isIn_51 : decode cX4_isIn 51 = .ok (.invokestatic 175, 3) := dk_184 0 175 (dk_at dksX4_isIn_2 4 rfl rfl)
theorem dX4_isIn_54 : decode cX4_isIn 54 = .ok (.if_icmp .lt 23, 3) := dk_161 0 23 (dk_at dksX4_isIn_2 7 rfl rfl)
theorem dX4_isIn_57 : decode cX4_isIn 57 = .ok (.iload 4, 2) := dk_21 4 (dk_at dksX4_isIn_2 10 rfl rfl)
theorem dX4_isIn_59 : decode cX4_isIn 59 = .ok (.iload_n 1, 1) := dk_27 (dk_at dksX4_isIn_2 12 rfl rfl)
theorem dX4_isIn_60 : decode cX4_isIn 60 = .ok (.bipush 16, 2) := dk_16 16 (dk_at dksX4_isIn_2 13 rfl rfl)
theorem dX4_isIn_62 : decode cX4_isIn 62 = .ok (.idiv, 1) := dk_108 (dk_at dksX4_isIn_2 15 rfl rfl)
theorem dX4_isIn_63 : decode cX4_isIn 63 = .ok (.iload_n 2, 1) := dk_28 (dk_at dksX4_isIn_2 16 rfl rfl)
theorem dX4_isIn_64 : decode cX4_isIn 64 = .ok (.bipush 16, 2) := dk_16 16 (dk_at dksX4_isIn_2 17 rfl rfl)
theorem dX4_isIn_66 : decode cX4_isIn 66 = .ok (.idiv, 1) := dk_108 (dk_at dksX4_isIn_2 19 rfl rfl)
theorem dX4_isIn_67 : decode cX4_isIn 67 = .ok (.invokestatic 180, 3) := dk_184 0 180 (dk_at dksX4_isIn_2 20 rfl rfl)
theorem dX4_isIn_70 : decode cX4_isIn 70 = .ok (.if_icmp .gt 7, 3) := dk_163 0 7 (dk_at dksX4_isIn_3 0 rfl rfl)
theorem dX4_isIn_73 : decode cX4_isIn 73 = .ok (.iconst 1, 1) := dk_4 (dk_at dksX4_isIn_3 3 rfl rfl)
theorem dX4_isIn_74 : decode cX4_isIn 74 = .ok (.goto 4, 3) := dk_167 0 4 (dk_at dksX4_isIn_3 4 rfl rfl)
theorem dX4_isIn_77 : decode cX4_isIn 77 = .ok (.iconst 0, 1) := dk_3 (dk_at dksX4_isIn_3 7 rfl rfl)
theorem dX4_isIn_78 : decode cX4_isIn 78 = .ok (.ireturn, 1) := dk_172 (dk_at dksX4_isIn_3 8 rfl rfl)
abbrev cX4_within : ByteArray := prog_12_method_6_code
def yX4_within : MethodName := ⟨RX4, "within", "(LGrassField$Person;Z)I"⟩
def dkwX4_within_3 : List UInt8 := [163, 0, 7, 4, 167, 0, 4, 3, 96, 62, 132, 4, 1, 167, 255, 176, 29, 172]
abbrev dktX4_within_3 : List UInt8 := dkwX4_within_3 ++ []
def dkwX4_within_2 : List UInt8 := [153, 0, 31, 25, 5, 180, 0, 136, 43, 180, 0, 136, 184, 0, 139, 28, 153, 0, 7, 6, 167, 0, 4, 5]
abbrev dktX4_within_2 : List UInt8 := dkwX4_within_2 ++ dktX4_within_3
def dkwX4_within_1 : List UInt8 := [28, 153, 0, 16, 42, 43, 25, 5, 182, 0, 129, 153, 0, 44, 167, 0, 13, 42, 43, 25, 5, 182, 0, 133]
abbrev dktX4_within_1 : List UInt8 := dkwX4_within_1 ++ dktX4_within_2
def dkwX4_within_0 : List UInt8 := [3, 62, 3, 54, 4, 21, 4, 42, 180, 0, 91, 162, 0, 77, 42, 180, 0, 23, 21, 4, 50, 58, 5, 29]
abbrev dktX4_within_0 : List UInt8 := dkwX4_within_0 ++ dktX4_within_1
theorem dksX4_within_0 : cX4_within.data.toList.drop 0 = dktX4_within_0 := by decide +kernel
theorem dksX4_within_1 : cX4_within.data.toList.drop 24 = dktX4_within_1 := dk_seg dksX4_within_0 24 rfl rfl
theorem dksX4_within_2 : cX4_within.data.toList.drop 48 = dktX4_within_2 := dk_seg dksX4_within_1 24 rfl rfl
theorem dksX4_within_3 : cX4_within.data.toList.drop 72 = dktX4_within_3 := dk_seg dksX4_within_2 24 rfl rfl
theorem dX4_within_0 : decode cX4_within 0 = .ok (.iconst 0, 1) := dk_3 (dk_at dksX4_within_0 0 rfl rfl)
theorem dX4_within_1 : decode cX4_within 1 = .ok (.istore_n 3, 1) := dk_62 (dk_at dksX4_within_0 1 rfl rfl)
theorem dX4_within_2 : decode cX4_within 2 = .ok (.iconst 0, 1) := dk_3 (dk_at dksX4_within_0 2 rfl rfl)
theorem dX4_within_3 : decode cX4_within 3 = .ok (.istore 4, 2) := dk_54 4 (dk_at dksX4_within_0 3 rfl rfl)
theorem dX4_within_5 : decode cX4_within 5 = .ok (.iload 4, 2) := dk_21 4 (dk_at dksX4_within_0 5 rfl rfl)
theorem dX4_within_7 : decode cX4_within 7 = .ok (.aload_n 0, 1) := dk_42 (dk_at dksX4_within_0 7 rfl rfl)
theorem dX4_within_8 : decode cX4_within 8 = .ok (.getfield 91, 3) := dk_180 0 91 (dk_at dksX4_within_0 8 rfl rfl)
theorem dX4_within_11 : decode cX4_within 11 = .ok (.if_icmp .ge 77, 3) := dk_162 0 77 (dk_at dksX4_within_0 11 rfl rfl)
theorem dX4_within_14 : decode cX4_within 14 = .ok (.aload_n 0, 1) := dk_42 (dk_at dksX4_within_0 14 rfl rfl)
theorem dX4_within_15 : decode cX4_within 15 = .ok (.getfield 23, 3) := dk_180 0 23 (dk_at dksX4_within_0 15 rfl rfl)
theorem dX4_within_18 : decode cX4_within 18 = .ok (.iload 4, 2) := dk_21 4 (dk_at dksX4_within_0 18 rfl rfl)
theorem dX4_within_20 : decode cX4_within 20 = .ok (.aaload, 1) := dk_50 (dk_at dksX4_within_0 20 rfl rfl)
theorem dX4_within_21 : decode cX4_within 21 = .ok (.astore 5, 2) := dk_58 5 (dk_at dksX4_within_0 21 rfl rfl)
theorem dX4_within_23 : decode cX4_within 23 = .ok (.iload_n 3, 1) := dk_29 (dk_at dksX4_within_0 23 rfl rfl)
theorem dX4_within_24 : decode cX4_within 24 = .ok (.iload_n 2, 1) := dk_28 (dk_at dksX4_within_1 0 rfl rfl)
theorem dX4_within_25 : decode cX4_within 25 = .ok (.ifCond .eq 16, 3) := dk_153 0 16 (dk_at dksX4_within_1 1 rfl rfl)
theorem dX4_within_28 : decode cX4_within 28 = .ok (.aload_n 0, 1) := dk_42 (dk_at dksX4_within_1 4 rfl rfl)
theorem dX4_within_29 : decode cX4_within 29 = .ok (.aload_n 1, 1) := dk_43 (dk_at dksX4_within_1 5 rfl rfl)
theorem dX4_within_30 : decode cX4_within 30 = .ok (.aload 5, 2) := dk_25 5 (dk_at dksX4_within_1 6 rfl rfl)
theorem dX4_within_32 : decode cX4_within 32 = .ok (.invokevirtual 129, 3) := dk_182 0 129 (dk_at dksX4_within_1 8 rfl rfl)
theorem dX4_within_35 : decode cX4_within 35 = .ok (.ifCond .eq 44, 3) := dk_153 0 44 (dk_at dksX4_within_1 11 rfl rfl)
theorem dX4_within_38 : decode cX4_within 38 = .ok (.goto 13, 3) := dk_167 0 13 (dk_at dksX4_within_1 14 rfl rfl)
theorem dX4_within_41 : decode cX4_within 41 = .ok (.aload_n 0, 1) := dk_42 (dk_at dksX4_within_1 17 rfl rfl)
theorem dX4_within_42 : decode cX4_within 42 = .ok (.aload_n 1, 1) := dk_43 (dk_at dksX4_within_1 18 rfl rfl)
theorem dX4_within_43 : decode cX4_within 43 = .ok (.aload 5, 2) := dk_25 5 (dk_at dksX4_within_1 19 rfl rfl)
theorem dX4_within_45 : decode cX4_within 45 = .ok (.invokevirtual 133, 3) := dk_182 0 133 (dk_at dksX4_within_1 21 rfl rfl)
theorem dX4_within_48 : decode cX4_within 48 = .ok (.ifCond .eq 31, 3) := dk_153 0 31 (dk_at dksX4_within_2 0 rfl rfl)
theorem dX4_within_51 : decode cX4_within 51 = .ok (.aload 5, 2) := dk_25 5 (dk_at dksX4_within_2 3 rfl rfl)
theorem dX4_within_53 : decode cX4_within 53 = .ok (.getfield 136, 3) := dk_180 0 136 (dk_at dksX4_within_2 5 rfl rfl)
theorem dX4_within_56 : decode cX4_within 56 = .ok (.aload_n 1, 1) := dk_43 (dk_at dksX4_within_2 8 rfl rfl)
theorem dX4_within_57 : decode cX4_within 57 = .ok (.getfield 136, 3) := dk_180 0 136 (dk_at dksX4_within_2 9 rfl rfl)
theorem dX4_within_60 : decode cX4_within 60 = .ok (.invokestatic 139, 3) := dk_184 0 139 (dk_at dksX4_within_2 12 rfl rfl)
theorem dX4_within_63 : decode cX4_within 63 = .ok (.iload_n 2, 1) := dk_28 (dk_at dksX4_within_2 15 rfl rfl)
theorem dX4_within_64 : decode cX4_within 64 = .ok (.ifCond .eq 7, 3) := dk_153 0 7 (dk_at dksX4_within_2 16 rfl rfl)
theorem dX4_within_67 : decode cX4_within 67 = .ok (.iconst 3, 1) := dk_6 (dk_at dksX4_within_2 19 rfl rfl)
theorem dX4_within_68 : decode cX4_within 68 = .ok (.goto 4, 3) := dk_167 0 4 (dk_at dksX4_within_2 20 rfl rfl)
theorem dX4_within_71 : decode cX4_within 71 = .ok (.iconst 2, 1) := dk_5 (dk_at dksX4_within_2 23 rfl rfl)
theorem dX4_within_72 : decode cX4_within 72 = .ok (.if_icmp .gt 7, 3) := dk_163 0 7 (dk_at dksX4_within_3 0 rfl rfl)
theorem dX4_within_75 : decode cX4_within 75 = .ok (.iconst 1, 1) := dk_4 (dk_at dksX4_within_3 3 rfl rfl)
theorem dX4_within_76 : decode cX4_within 76 = .ok (.goto 4, 3) := dk_167 0 4 (dk_at dksX4_within_3 4 rfl rfl)
theorem dX4_within_79 : decode cX4_within 79 = .ok (.iconst 0, 1) := dk_3 (dk_at dksX4_within_3 7 rfl rfl)
theorem dX4_within_80 : decode cX4_within 80 = .ok (.iadd, 1) := dk_96 (dk_at dksX4_within_3 8 rfl rfl)
theorem dX4_within_81 : decode cX4_within 81 = .ok (.istore_n 3, 1) := dk_62 (dk_at dksX4_within_3 9 rfl rfl)
theorem dX4_within_82 : decode cX4_within 82 = .ok (.iinc 4 1, 3) := dk_132 4 1 (dk_at dksX4_within_3 10 rfl rfl)
theorem dX4_within_85 : decode cX4_within 85 = .ok (.goto (-80), 3) := dk_167 255 176 (dk_at dksX4_within_3 13 rfl rfl)
theorem dX4_within_88 : decode cX4_within 88 = .ok (.iload_n 3, 1) := dk_29 (dk_at dksX4_within_3 16 rfl rfl)
theorem dX4_within_89 : decode cX4_within 89 = .ok (.ireturn, 1) := dk_172 (dk_at dksX4_within_3 17 rfl rfl)
abbrev cX4_isFoe : ByteArray := prog_12_method_3_code
def yX4_isFoe : MethodName := ⟨RX4, "isFoe", "(LGrassField$Person;LGrassField$Person;)Z"⟩
def dkwX4_isFoe_0 : List UInt8 := [44, 180, 0, 124, 153, 0, 18, 44, 180, 0, 128, 43, 180, 0, 128, 159, 0, 7, 4, 167, 0, 4, 3, 172]
abbrev dktX4_isFoe_0 : List UInt8 := dkwX4_isFoe_0 ++ []
theorem dksX4_isFoe_0 : cX4_isFoe.data.toList.drop 0 = dktX4_isFoe_0 := by decide +kernel
theorem dX4_isFoe_0 : decode cX4_isFoe 0 = .ok (.aload_n 2, 1) := dk_44 (dk_at dksX4_isFoe_0 0 rfl rfl)
theorem dX4_isFoe_1 : decode cX4_isFoe 1 = .ok (.getfield 124, 3) := dk_180 0 124 (dk_at dksX4_isFoe_0 1 rfl rfl)
theorem dX4_isFoe_4 : decode cX4_isFoe 4 = .ok (.ifCond .eq 18, 3) := dk_153 0 18 (dk_at dksX4_isFoe_0 4 rfl rfl)
theorem dX4_isFoe_7 : decode cX4_isFoe 7 = .ok (.aload_n 2, 1) := dk_44 (dk_at dksX4_isFoe_0 7 rfl rfl)
theorem dX4_isFoe_8 : decode cX4_isFoe 8 = .ok (.getfield 128, 3) := dk_180 0 128 (dk_at dksX4_isFoe_0 8 rfl rfl)
theorem dX4_isFoe_11 : decode cX4_isFoe 11 = .ok (.aload_n 1, 1) := dk_43 (dk_at dksX4_isFoe_0 11 rfl rfl)
theorem dX4_isFoe_12 : decode cX4_isFoe 12 = .ok (.getfield 128, 3) := dk_180 0 128 (dk_at dksX4_isFoe_0 12 rfl rfl)
theorem dX4_isFoe_15 : decode cX4_isFoe 15 = .ok (.if_icmp .eq 7, 3) := dk_159 0 7 (dk_at dksX4_isFoe_0 15 rfl rfl)
theorem dX4_isFoe_18 : decode cX4_isFoe 18 = .ok (.iconst 1, 1) := dk_4 (dk_at dksX4_isFoe_0 18 rfl rfl)
theorem dX4_isFoe_19 : decode cX4_isFoe 19 = .ok (.goto 4, 3) := dk_167 0 4 (dk_at dksX4_isFoe_0 19 rfl rfl)
theorem dX4_isFoe_22 : decode cX4_isFoe 22 = .ok (.iconst 0, 1) := dk_3 (dk_at dksX4_isFoe_0 22 rfl rfl)
theorem dX4_isFoe_23 : decode cX4_isFoe 23 = .ok (.ireturn, 1) := dk_172 (dk_at dksX4_isFoe_0 23 rfl rfl)
abbrev cX4_isFriend : ByteArray := prog_12_method_4_code
def yX4_isFriend : MethodName := ⟨RX4, "isFriend", "(LGrassField$Person;LGrassField$Person;)Z"⟩
def dkwX4_isFriend_1 : List UInt8 := [167, 0, 4, 3, 172]
abbrev dktX4_isFriend_1 : List UInt8 := dkwX4_isFriend_1 ++ []
def dkwX4_isFriend_0 : List UInt8 := [44, 43, 165, 0, 25, 44, 180, 0, 124, 153, 0, 18, 44, 180, 0, 128, 43, 180, 0, 128, 160, 0, 7, 4]
abbrev dktX4_isFriend_0 : List UInt8 := dkwX4_isFriend_0 ++ dktX4_isFriend_1
theorem dksX4_isFriend_0 : cX4_isFriend.data.toList.drop 0 = dktX4_isFriend_0 := by decide +kernel
theorem dksX4_isFriend_1 : cX4_isFriend.data.toList.drop 24 = dktX4_isFriend_1 := dk_seg dksX4_isFriend_0 24 rfl rfl
theorem dX4_isFriend_0 : decode cX4_isFriend 0 = .ok (.aload_n 2, 1) := dk_44 (dk_at dksX4_isFriend_0 0 rfl rfl)
theorem dX4_isFriend_1 : decode cX4_isFriend 1 = .ok (.aload_n 1, 1) := dk_43 (dk_at dksX4_isFriend_0 1 rfl rfl)
theorem dX4_isFriend_2 : decode cX4_isFriend 2 = .ok (.if_acmp .eq 25, 3) := dk_165 0 25 (dk_at dksX4_isFriend_0 2 rfl rfl)
theorem dX4_isFriend_5 : decode cX4_isFriend 5 = .ok (.aload_n 2, 1) := dk_44 (dk_at dksX4_isFriend_0 5 rfl rfl)
theorem dX4_isFriend_6 : decode cX4_isFriend 6 = .ok (.getfield 124, 3) := dk_180 0 124 (dk_at dksX4_isFriend_0 6 rfl rfl)
theorem dX4_isFriend_9 : decode cX4_isFriend 9 = .ok (.ifCond .eq 18, 3) := dk_153 0 18 (dk_at dksX4_isFriend_0 9 rfl rfl)
theorem dX4_isFriend_12 : decode cX4_isFriend 12 = .ok (.aload_n 2, 1) := dk_44 (dk_at dksX4_isFriend_0 12 rfl rfl)
theorem dX4_isFriend_13 : decode cX4_isFriend 13 = .ok (.getfield 128, 3) := dk_180 0 128 (dk_at dksX4_isFriend_0 13 rfl rfl)
theorem dX4_isFriend_16 : decode cX4_isFriend 16 = .ok (.aload_n 1, 1) := dk_43 (dk_at dksX4_isFriend_0 16 rfl rfl)
theorem dX4_isFriend_17 : decode cX4_isFriend 17 = .ok (.getfield 128, 3) := dk_180 0 128 (dk_at dksX4_isFriend_0 17 rfl rfl)
theorem dX4_isFriend_20 : decode cX4_isFriend 20 = .ok (.if_icmp .ne 7, 3) := dk_160 0 7 (dk_at dksX4_isFriend_0 20 rfl rfl)
theorem dX4_isFriend_23 : decode cX4_isFriend 23 = .ok (.iconst 1, 1) := dk_4 (dk_at dksX4_isFriend_0 23 rfl rfl)
theorem dX4_isFriend_24 : decode cX4_isFriend 24 = .ok (.goto 4, 3) := dk_167 0 4 (dk_at dksX4_isFriend_1 0 rfl rfl)
theorem dX4_isFriend_27 : decode cX4_isFriend 27 = .ok (.iconst 0, 1) := dk_3 (dk_at dksX4_isFriend_1 3 rfl rfl)
theorem dX4_isFriend_28 : decode cX4_isFriend 28 = .ok (.ireturn, 1) := dk_172 (dk_at dksX4_isFriend_1 4 rfl rfl)
abbrev cX4_goes : ByteArray := prog_12_method_11_code
def yX4_goes : MethodName := ⟨RX4, "goes", "()V"⟩
def dkwX4_goes_2 : List UInt8 := [177]
abbrev dktX4_goes_2 : List UInt8 := dkwX4_goes_2 ++ []
def dkwX4_goes_1 : List UInt8 := [27, 50, 180, 0, 124, 153, 0, 13, 42, 42, 180, 0, 23, 27, 50, 182, 0, 200, 132, 1, 1, 167, 255, 223]
abbrev dktX4_goes_1 : List UInt8 := dkwX4_goes_1 ++ dktX4_goes_2
def dkwX4_goes_0 : List UInt8 := [42, 89, 180, 0, 115, 4, 96, 181, 0, 115, 3, 60, 27, 42, 180, 0, 91, 162, 0, 31, 42, 180, 0, 23]
abbrev dktX4_goes_0 : List UInt8 := dkwX4_goes_0 ++ dktX4_goes_1
theorem dksX4_goes_0 : cX4_goes.data.toList.drop 0 = dktX4_goes_0 := by decide +kernel
theorem dksX4_goes_1 : cX4_goes.data.toList.drop 24 = dktX4_goes_1 := dk_seg dksX4_goes_0 24 rfl rfl
theorem dksX4_goes_2 : cX4_goes.data.toList.drop 48 = dktX4_goes_2 := dk_seg dksX4_goes_1 24 rfl rfl
theorem dX4_goes_0 : decode cX4_goes 0 = .ok (.aload_n 0, 1) := dk_42 (dk_at dksX4_goes_0 0 rfl rfl)
theorem dX4_goes_1 : decode cX4_goes 1 = .ok (.dup, 1) := dk_89 (dk_at dksX4_goes_0 1 rfl rfl)
theorem dX4_goes_2 : decode cX4_goes 2 = .ok (.getfield 115, 3) := dk_180 0 115 (dk_at dksX4_goes_0 2 rfl rfl)
theorem dX4_goes_5 : decode cX4_goes 5 = .ok (.iconst 1, 1) := dk_4 (dk_at dksX4_goes_0 5 rfl rfl)
theorem dX4_goes_6 : decode cX4_goes 6 = .ok (.iadd, 1) := dk_96 (dk_at dksX4_goes_0 6 rfl rfl)
theorem dX4_goes_7 : decode cX4_goes 7 = .ok (.putfield 115, 3) := dk_181 0 115 (dk_at dksX4_goes_0 7 rfl rfl)
theorem dX4_goes_10 : decode cX4_goes 10 = .ok (.iconst 0, 1) := dk_3 (dk_at dksX4_goes_0 10 rfl rfl)
theorem dX4_goes_11 : decode cX4_goes 11 = .ok (.istore_n 1, 1) := dk_60 (dk_at dksX4_goes_0 11 rfl rfl)
theorem dX4_goes_12 : decode cX4_goes 12 = .ok (.iload_n 1, 1) := dk_27 (dk_at dksX4_goes_0 12 rfl rfl)
theorem dX4_goes_13 : decode cX4_goes 13 = .ok (.aload_n 0, 1) := dk_42 (dk_at dksX4_goes_0 13 rfl rfl)
theorem dX4_goes_14 : decode cX4_goes 14 = .ok (.getfield 91, 3) := dk_180 0 91 (dk_at dksX4_goes_0 14 rfl rfl)
theorem dX4_goes_17 : decode cX4_goes 17 = .ok (.if_icmp .ge 31, 3) := dk_162 0 31 (dk_at dksX4_goes_0 17 rfl rfl)
theorem dX4_goes_20 : decode cX4_goes 20 = .ok (.aload_n 0, 1) := dk_42 (dk_at dksX4_goes_0 20 rfl rfl)
theorem dX4_goes_21 : decode cX4_goes 21 = .ok (.getfield 23, 3) := dk_180 0 23 (dk_at dksX4_goes_0 21 rfl rfl)
theorem dX4_goes_24 : decode cX4_goes 24 = .ok (.iload_n 1, 1) := dk_27 (dk_at dksX4_goes_1 0 rfl rfl)
theorem dX4_goes_25 : decode cX4_goes 25 = .ok (.aaload, 1) := dk_50 (dk_at dksX4_goes_1 1 rfl rfl)
theorem dX4_goes_26 : decode cX4_goes 26 = .ok (.getfield 124, 3) := dk_180 0 124 (dk_at dksX4_goes_1 2 rfl rfl)
theorem dX4_goes_29 : decode cX4_goes 29 = .ok (.ifCond .eq 13, 3) := dk_153 0 13 (dk_at dksX4_goes_1 5 rfl rfl)
theorem dX4_goes_32 : decode cX4_goes 32 = .ok (.aload_n 0, 1) := dk_42 (dk_at dksX4_goes_1 8 rfl rfl)
theorem dX4_goes_33 : decode cX4_goes 33 = .ok (.aload_n 0, 1) := dk_42 (dk_at dksX4_goes_1 9 rfl rfl)
theorem dX4_goes_34 : decode cX4_goes 34 = .ok (.getfield 23, 3) := dk_180 0 23 (dk_at dksX4_goes_1 10 rfl rfl)
theorem dX4_goes_37 : decode cX4_goes 37 = .ok (.iload_n 1, 1) := dk_27 (dk_at dksX4_goes_1 13 rfl rfl)
theorem dX4_goes_38 : decode cX4_goes 38 = .ok (.aaload, 1) := dk_50 (dk_at dksX4_goes_1 14 rfl rfl)
theorem dX4_goes_39 : decode cX4_goes 39 = .ok (.invokevirtual 200, 3) := dk_182 0 200 (dk_at dksX4_goes_1 15 rfl rfl)
theorem dX4_goes_42 : decode cX4_goes 42 = .ok (.iinc 1 1, 3) := dk_132 1 1 (dk_at dksX4_goes_1 18 rfl rfl)
theorem dX4_goes_45 : decode cX4_goes 45 = .ok (.goto (-33), 3) := dk_167 255 223 (dk_at dksX4_goes_1 21 rfl rfl)
theorem dX4_goes_48 : decode cX4_goes 48 = .ok (.return_, 1) := dk_177 (dk_at dksX4_goes_2 0 rfl rfl)
abbrev cX4_turn : ByteArray := prog_12_method_10_code
def yX4_turn : MethodName := ⟨RX4, "turn", "(LGrassField$Person;)V"⟩
def dkwX4_turn_11 : List UInt8 := [182, 0, 194, 177]
abbrev dktX4_turn_11 : List UInt8 := dkwX4_turn_11 ++ []
def dkwX4_turn_10 : List UInt8 := [199, 0, 20, 43, 3, 43, 180, 0, 172, 4, 100, 184, 0, 180, 181, 0, 172, 167, 0, 10, 25, 6, 42, 43]
abbrev dktX4_turn_10 : List UInt8 := dkwX4_turn_10 ++ dktX4_turn_11
def dkwX4_turn_9 : List UInt8 := [167, 0, 19, 42, 180, 0, 29, 43, 180, 0, 187, 50, 42, 180, 0, 57, 182, 0, 190, 58, 6, 25, 6]
abbrev dktX4_turn_9 : List UInt8 := dkwX4_turn_9 ++ dktX4_turn_10
def dkwX4_turn_8 : List UInt8 := [180, 0, 57, 16, 15, 29, 154, 0, 7, 4, 167, 0, 4, 3, 79, 43, 180, 0, 187, 2, 160, 0, 7, 1]
abbrev dktX4_turn_8 : List UInt8 := dkwX4_turn_8 ++ dktX4_turn_9
def dkwX4_turn_7 : List UInt8 := [184, 0, 139, 79, 42, 180, 0, 57, 16, 14, 21, 5, 158, 0, 7, 4, 167, 0, 4, 3, 79, 42]
abbrev dktX4_turn_7 : List UInt8 := dkwX4_turn_7 ++ dktX4_turn_8
def dkwX4_turn_6 : List UInt8 := [160, 0, 8, 16, 99, 167, 0, 20, 43, 180, 0, 136, 42, 180, 0, 23, 21, 4, 50, 180, 0, 136]
abbrev dktX4_turn_6 : List UInt8 := dkwX4_turn_6 ++ dktX4_turn_7
def dkwX4_turn_5 : List UInt8 := [180, 0, 136, 46, 79, 42, 180, 0, 57, 8, 21, 5, 79, 42, 180, 0, 57, 16, 6, 21, 4, 2]
abbrev dktX4_turn_5 : List UInt8 := dkwX4_turn_5 ++ dktX4_turn_6
def dkwX4_turn_4 : List UInt8 := [180, 0, 172, 79, 42, 180, 0, 57, 6, 42, 180, 0, 115, 79, 42, 180, 0, 57, 7, 42, 180, 0, 9, 43]
abbrev dktX4_turn_4 : List UInt8 := dkwX4_turn_4 ++ dktX4_turn_5
def dkwX4_turn_3 : List UInt8 := [54, 5, 42, 180, 0, 57, 3, 28, 79, 42, 180, 0, 57, 4, 29, 79, 42, 180, 0, 57, 5, 43]
abbrev dktX4_turn_3 : List UInt8 := dkwX4_turn_3 ++ dktX4_turn_4
def dkwX4_turn_2 : List UInt8 := [180, 0, 143, 2, 160, 0, 7, 3, 167, 0, 15, 42, 180, 0, 17, 43, 180, 0, 143, 50, 180, 0, 85]
abbrev dktX4_turn_2 : List UInt8 := dkwX4_turn_2 ++ dktX4_turn_3
def dkwX4_turn_1 : List UInt8 := [29, 100, 184, 0, 175, 184, 0, 180, 181, 0, 172, 42, 43, 43, 180, 0, 136, 4, 182, 0, 183, 54, 4, 43]
abbrev dktX4_turn_1 : List UInt8 := dkwX4_turn_1 ++ dktX4_turn_2
def dkwX4_turn_0 : List UInt8 := [42, 43, 4, 182, 0, 168, 61, 42, 43, 3, 182, 0, 168, 62, 43, 3, 16, 9, 43, 180, 0, 172, 28, 96]
abbrev dktX4_turn_0 : List UInt8 := dkwX4_turn_0 ++ dktX4_turn_1
theorem dksX4_turn_0 : cX4_turn.data.toList.drop 0 = dktX4_turn_0 := by decide +kernel
theorem dksX4_turn_1 : cX4_turn.data.toList.drop 24 = dktX4_turn_1 := dk_seg dksX4_turn_0 24 rfl rfl
theorem dksX4_turn_2 : cX4_turn.data.toList.drop 48 = dktX4_turn_2 := dk_seg dksX4_turn_1 24 rfl rfl
theorem dksX4_turn_3 : cX4_turn.data.toList.drop 71 = dktX4_turn_3 := dk_seg dksX4_turn_2 23 rfl rfl
theorem dksX4_turn_4 : cX4_turn.data.toList.drop 93 = dktX4_turn_4 := dk_seg dksX4_turn_3 22 rfl rfl
theorem dksX4_turn_5 : cX4_turn.data.toList.drop 117 = dktX4_turn_5 := dk_seg dksX4_turn_4 24 rfl rfl
theorem dksX4_turn_6 : cX4_turn.data.toList.drop 139 = dktX4_turn_6 := dk_seg dksX4_turn_5 22 rfl rfl
theorem dksX4_turn_7 : cX4_turn.data.toList.drop 161 = dktX4_turn_7 := dk_seg dksX4_turn_6 22 rfl rfl
theorem dksX4_turn_8 : cX4_turn.data.toList.drop 183 = dktX4_turn_8 := dk_seg dksX4_turn_7 22 rfl rfl
theorem dksX4_turn_9 : cX4_turn.data.toList.drop 207 = dktX4_turn_9 := dk_seg dksX4_turn_8 24 rfl rfl
theorem dksX4_turn_10 : cX4_turn.data.toList.drop 230 = dktX4_turn_10 := dk_seg dksX4_turn_9 23 rfl rfl
theorem dksX4_turn_11 : cX4_turn.data.toList.drop 254 = dktX4_turn_11 := dk_seg dksX4_turn_10 24 rfl rfl
theorem dX4_turn_0 : decode cX4_turn 0 = .ok (.aload_n 0, 1) := dk_42 (dk_at dksX4_turn_0 0 rfl rfl)
theorem dX4_turn_1 : decode cX4_turn 1 = .ok (.aload_n 1, 1) := dk_43 (dk_at dksX4_turn_0 1 rfl rfl)
theorem dX4_turn_2 : decode cX4_turn 2 = .ok (.iconst 1, 1) := dk_4 (dk_at dksX4_turn_0 2 rfl rfl)
theorem dX4_turn_3 : decode cX4_turn 3 = .ok (.invokevirtual 168, 3) := dk_182 0 168 (dk_at dksX4_turn_0 3 rfl rfl)
theorem dX4_turn_6 : decode cX4_turn 6 = .ok (.istore_n 2, 1) := dk_61 (dk_at dksX4_turn_0 6 rfl rfl)
theorem dX4_turn_7 : decode cX4_turn 7 = .ok (.aload_n 0, 1) := dk_42 (dk_at dksX4_turn_0 7 rfl rfl)
theorem dX4_turn_8 : decode cX4_turn 8 = .ok (.aload_n 1, 1) := dk_43 (dk_at dksX4_turn_0 8 rfl rfl)
theorem dX4_turn_9 : decode cX4_turn 9 = .ok (.iconst 0, 1) := dk_3 (dk_at dksX4_turn_0 9 rfl rfl)
theorem dX4_turn_10 : decode cX4_turn 10 = .ok (.invokevirtual 168, 3) := dk_182 0 168 (dk_at dksX4_turn_0 10 rfl rfl)
theorem dX4_turn_13 : decode cX4_turn 13 = .ok (.istore_n 3, 1) := dk_62 (dk_at dksX4_turn_0 13 rfl rfl)
theorem dX4_turn_14 : decode cX4_turn 14 = .ok (.aload_n 1, 1) := dk_43 (dk_at dksX4_turn_0 14 rfl rfl)
theorem dX4_turn_15 : decode cX4_turn 15 = .ok (.iconst 0, 1) := dk_3 (dk_at dksX4_turn_0 15 rfl rfl)
theorem dX4_turn_16 : decode cX4_turn 16 = .ok (.bipush 9, 2) := dk_16 9 (dk_at dksX4_turn_0 16 rfl rfl)
theorem dX4_turn_18 : decode cX4_turn 18 = .ok (.aload_n 1, 1) := dk_43 (dk_at dksX4_turn_0 18 rfl rfl)
theorem dX4_turn_19 : decode cX4_turn 19 = .ok (.getfield 172, 3) := dk_180 0 172 (dk_at dksX4_turn_0 19 rfl rfl)
theorem dX4_turn_22 : decode cX4_turn 22 = .ok (.iload_n 2, 1) := dk_28 (dk_at dksX4_turn_0 22 rfl rfl)
theorem dX4_turn_23 : decode cX4_turn 23 = .ok (.iadd, 1) := dk_96 (dk_at dksX4_turn_0 23 rfl rfl)
theorem dX4_turn_24 : decode cX4_turn 24 = .ok (.iload_n 3, 1) := dk_29 (dk_at dksX4_turn_1 0 rfl rfl)
theorem dX4_turn_25 : decode cX4_turn 25 = .ok (.isub, 1) := dk_100 (dk_at dksX4_turn_1 1 rfl rfl)
theorem dX4_turn_26 : decode cX4_turn 26 = .ok (.invokestatic 175, 3) := dk_184 0 175 (dk_at dksX4_turn_1 2 rfl rfl)
theorem dX4_turn_29 : decode cX4_turn 29 = .ok (.invokestatic 180, 3) := dk_184 0 180 (dk_at dksX4_turn_1 5 rfl rfl)
theorem dX4_turn_32 : decode cX4_turn 32 = .ok (.putfield 172, 3) := dk_181 0 172 (dk_at dksX4_turn_1 8 rfl rfl)
theorem dX4_turn_35 : decode cX4_turn 35 = .ok (.aload_n 0, 1) := dk_42 (dk_at dksX4_turn_1 11 rfl rfl)
theorem dX4_turn_36 : decode cX4_turn 36 = .ok (.aload_n 1, 1) := dk_43 (dk_at dksX4_turn_1 12 rfl rfl)
theorem dX4_turn_37 : decode cX4_turn 37 = .ok (.aload_n 1, 1) := dk_43 (dk_at dksX4_turn_1 13 rfl rfl)
theorem dX4_turn_38 : decode cX4_turn 38 = .ok (.getfield 136, 3) := dk_180 0 136 (dk_at dksX4_turn_1 14 rfl rfl)
theorem dX4_turn_41 : decode cX4_turn 41 = .ok (.iconst 1, 1) := dk_4 (dk_at dksX4_turn_1 17 rfl rfl)
theorem dX4_turn_42 : decode cX4_turn 42 = .ok (.invokevirtual 183, 3) := dk_182 0 183 (dk_at dksX4_turn_1 18 rfl rfl)
theorem dX4_turn_45 : decode cX4_turn 45 = .ok (.istore 4, 2) := dk_54 4 (dk_at dksX4_turn_1 21 rfl rfl)
theorem dX4_turn_47 : decode cX4_turn 47 = .ok (.aload_n 1, 1) := dk_43 (dk_at dksX4_turn_1 23 rfl rfl)
theorem dX4_turn_48 : decode cX4_turn 48 = .ok (.getfield 143, 3) := dk_180 0 143 (dk_at dksX4_turn_2 0 rfl rfl)
theorem dX4_turn_51 : decode cX4_turn 51 = .ok (.iconst (-1), 1) := dk_2 (dk_at dksX4_turn_2 3 rfl rfl)
theorem dX4_turn_52 : decode cX4_turn 52 = .ok (.if_icmp .ne 7, 3) := dk_160 0 7 (dk_at dksX4_turn_2 4 rfl rfl)
theorem dX4_turn_55 : decode cX4_turn 55 = .ok (.iconst 0, 1) := dk_3 (dk_at dksX4_turn_2 7 rfl rfl)
theorem dX4_turn_56 : decode cX4_turn 56 = .ok (.goto 15, 3) := dk_167 0 15 (dk_at dksX4_turn_2 8 rfl rfl)
theorem dX4_turn_59 : decode cX4_turn 59 = .ok (.aload_n 0, 1) := dk_42 (dk_at dksX4_turn_2 11 rfl rfl)
theorem dX4_turn_60 : decode cX4_turn 60 = .ok (.getfield 17, 3) := dk_180 0 17 (dk_at dksX4_turn_2 12 rfl rfl)
theorem dX4_turn_63 : decode cX4_turn 63 = .ok (.aload_n 1, 1) := dk_43 (dk_at dksX4_turn_2 15 rfl rfl)
theorem dX4_turn_64 : decode cX4_turn 64 = .ok (.getfield 143, 3) := dk_180 0 143 (dk_at dksX4_turn_2 16 rfl rfl)
theorem dX4_turn_67 : decode cX4_turn 67 = .ok (.aaload, 1) := dk_50 (dk_at dksX4_turn_2 19 rfl rfl)
theorem dX4_turn_68 : decode cX4_turn 68 = .ok (.getfield 85, 3) := dk_180 0 85 (dk_at dksX4_turn_2 20 rfl rfl)
theorem dX4_turn_71 : decode cX4_turn 71 = .ok (.istore 5, 2) := dk_54 5 (dk_at dksX4_turn_3 0 rfl rfl)
theorem dX4_turn_73 : decode cX4_turn 73 = .ok (.aload_n 0, 1) := dk_42 (dk_at dksX4_turn_3 2 rfl rfl)
theorem dX4_turn_74 : decode cX4_turn 74 = .ok (.getfield 57, 3) := dk_180 0 57 (dk_at dksX4_turn_3 3 rfl rfl)
theorem dX4_turn_77 : decode cX4_turn 77 = .ok (.iconst 0, 1) := dk_3 (dk_at dksX4_turn_3 6 rfl rfl)
theorem dX4_turn_78 : decode cX4_turn 78 = .ok (.iload_n 2, 1) := dk_28 (dk_at dksX4_turn_3 7 rfl rfl)
theorem dX4_turn_79 : decode cX4_turn 79 = .ok (.iastore, 1) := dk_79 (dk_at dksX4_turn_3 8 rfl rfl)
theorem dX4_turn_80 : decode cX4_turn 80 = .ok (.aload_n 0, 1) := dk_42 (dk_at dksX4_turn_3 9 rfl rfl)
theorem dX4_turn_81 : decode cX4_turn 81 = .ok (.getfield 57, 3) := dk_180 0 57 (dk_at dksX4_turn_3 10 rfl rfl)
theorem dX4_turn_84 : decode cX4_turn 84 = .ok (.iconst 1, 1) := dk_4 (dk_at dksX4_turn_3 13 rfl rfl)
theorem dX4_turn_85 : decode cX4_turn 85 = .ok (.iload_n 3, 1) := dk_29 (dk_at dksX4_turn_3 14 rfl rfl)
theorem dX4_turn_86 : decode cX4_turn 86 = .ok (.iastore, 1) := dk_79 (dk_at dksX4_turn_3 15 rfl rfl)
theorem dX4_turn_87 : decode cX4_turn 87 = .ok (.aload_n 0, 1) := dk_42 (dk_at dksX4_turn_3 16 rfl rfl)
theorem dX4_turn_88 : decode cX4_turn 88 = .ok (.getfield 57, 3) := dk_180 0 57 (dk_at dksX4_turn_3 17 rfl rfl)
theorem dX4_turn_91 : decode cX4_turn 91 = .ok (.iconst 2, 1) := dk_5 (dk_at dksX4_turn_3 20 rfl rfl)
theorem dX4_turn_92 : decode cX4_turn 92 = .ok (.aload_n 1, 1) := dk_43 (dk_at dksX4_turn_3 21 rfl rfl)
theorem dX4_turn_93 : decode cX4_turn 93 = .ok (.getfield 172, 3) := dk_180 0 172 (dk_at dksX4_turn_4 0 rfl rfl)
theorem dX4_turn_96 : decode cX4_turn 96 = .ok (.iastore, 1) := dk_79 (dk_at dksX4_turn_4 3 rfl rfl)
theorem dX4_turn_97 : decode cX4_turn 97 = .ok (.aload_n 0, 1) := dk_42 (dk_at dksX4_turn_4 4 rfl rfl)
theorem dX4_turn_98 : decode cX4_turn 98 = .ok (.getfield 57, 3) := dk_180 0 57 (dk_at dksX4_turn_4 5 rfl rfl)
theorem dX4_turn_101 : decode cX4_turn 101 = .ok (.iconst 3, 1) := dk_6 (dk_at dksX4_turn_4 8 rfl rfl)
theorem dX4_turn_102 : decode cX4_turn 102 = .ok (.aload_n 0, 1) := dk_42 (dk_at dksX4_turn_4 9 rfl rfl)
theorem dX4_turn_103 : decode cX4_turn 103 = .ok (.getfield 115, 3) := dk_180 0 115 (dk_at dksX4_turn_4 10 rfl rfl)
theorem dX4_turn_106 : decode cX4_turn 106 = .ok (.iastore, 1) := dk_79 (dk_at dksX4_turn_4 13 rfl rfl)
theorem dX4_turn_107 : decode cX4_turn 107 = .ok (.aload_n 0, 1) := dk_42 (dk_at dksX4_turn_4 14 rfl rfl)
theorem dX4_turn_108 : decode cX4_turn 108 = .ok (.getfield 57, 3) := dk_180 0 57 (dk_at dksX4_turn_4 15 rfl rfl)
theorem dX4_turn_111 : decode cX4_turn 111 = .ok (.iconst 4, 1) := dk_7 (dk_at dksX4_turn_4 18 rfl rfl)
theorem dX4_turn_112 : decode cX4_turn 112 = .ok (.aload_n 0, 1) := dk_42 (dk_at dksX4_turn_4 19 rfl rfl)
theorem dX4_turn_113 : decode cX4_turn 113 = .ok (.getfield 9, 3) := dk_180 0 9 (dk_at dksX4_turn_4 20 rfl rfl)
theorem dX4_turn_116 : decode cX4_turn 116 = .ok (.aload_n 1, 1) := dk_43 (dk_at dksX4_turn_4 23 rfl rfl)
theorem dX4_turn_117 : decode cX4_turn 117 = .ok (.getfield 136, 3) := dk_180 0 136 (dk_at dksX4_turn_5 0 rfl rfl)
theorem dX4_turn_120 : decode cX4_turn 120 = .ok (.iaload, 1) := dk_46 (dk_at dksX4_turn_5 3 rfl rfl)
theorem dX4_turn_121 : decode cX4_turn 121 = .ok (.iastore, 1) := dk_79 (dk_at dksX4_turn_5 4 rfl rfl)
theorem dX4_turn_122 : decode cX4_turn 122 = .ok (.aload_n 0, 1) := dk_42 (dk_at dksX4_turn_5 5 rfl rfl)
theorem dX4_turn_123 : decode cX4_turn 123 = .ok (.getfield 57, 3) := dk_180 0 57 (dk_at dksX4_turn_5 6 rfl rfl)
theorem dX4_turn_126 : decode cX4_turn 126 = .ok (.iconst 5, 1) := dk_8 (dk_at dksX4_turn_5 9 rfl rfl)
theorem dX4_turn_127 : decode cX4_turn 127 = .ok (.iload 5, 2) := dk_21 5 (dk_at dksX4_turn_5 10 rfl rfl)
theorem dX4_turn_129 : decode cX4_turn 129 = .ok (.iastore, 1) := dk_79 (dk_at dksX4_turn_5 12 rfl rfl)
theorem dX4_turn_130 : decode cX4_turn 130 = .ok (.aload_n 0, 1) := dk_42 (dk_at dksX4_turn_5 13 rfl rfl)
theorem dX4_turn_131 : decode cX4_turn 131 = .ok (.getfield 57, 3) := dk_180 0 57 (dk_at dksX4_turn_5 14 rfl rfl)
theorem dX4_turn_134 : decode cX4_turn 134 = .ok (.bipush 6, 2) := dk_16 6 (dk_at dksX4_turn_5 17 rfl rfl)
theorem dX4_turn_136 : decode cX4_turn 136 = .ok (.iload 4, 2) := dk_21 4 (dk_at dksX4_turn_5 19 rfl rfl)
theorem dX4_turn_138 : decode cX4_turn 138 = .ok (.iconst (-1), 1) := dk_2 (dk_at dksX4_turn_5 21 rfl rfl)
theorem dX4_turn_139 : decode cX4_turn 139 = .ok (.if_icmp .ne 8, 3) := dk_160 0 8 (dk_at dksX4_turn_6 0 rfl rfl)
theorem dX4_turn_142 : decode cX4_turn 142 = .ok (.bipush 99, 2) := dk_16 99 (dk_at dksX4_turn_6 3 rfl rfl)
theorem dX4_turn_144 : decode cX4_turn 144 = .ok (.goto 20, 3) := dk_167 0 20 (dk_at dksX4_turn_6 5 rfl rfl)
theorem dX4_turn_147 : decode cX4_turn 147 = .ok (.aload_n 1, 1) := dk_43 (dk_at dksX4_turn_6 8 rfl rfl)
theorem dX4_turn_148 : decode cX4_turn 148 = .ok (.getfield 136, 3) := dk_180 0 136 (dk_at dksX4_turn_6 9 rfl rfl)
theorem dX4_turn_151 : decode cX4_turn 151 = .ok (.aload_n 0, 1) := dk_42 (dk_at dksX4_turn_6 12 rfl rfl)
theorem dX4_turn_152 : decode cX4_turn 152 = .ok (.getfield 23, 3) := dk_180 0 23 (dk_at dksX4_turn_6 13 rfl rfl)
theorem dX4_turn_155 : decode cX4_turn 155 = .ok (.iload 4, 2) := dk_21 4 (dk_at dksX4_turn_6 16 rfl rfl)
theorem dX4_turn_157 : decode cX4_turn 157 = .ok (.aaload, 1) := dk_50 (dk_at dksX4_turn_6 18 rfl rfl)
theorem dX4_turn_158 : decode cX4_turn 158 = .ok (.getfield 136, 3) := dk_180 0 136 (dk_at dksX4_turn_6 19 rfl rfl)
theorem dX4_turn_161 : decode cX4_turn 161 = .ok (.invokestatic 139, 3) := dk_184 0 139 (dk_at dksX4_turn_7 0 rfl rfl)
theorem dX4_turn_164 : decode cX4_turn 164 = .ok (.iastore, 1) := dk_79 (dk_at dksX4_turn_7 3 rfl rfl)
theorem dX4_turn_165 : decode cX4_turn 165 = .ok (.aload_n 0, 1) := dk_42 (dk_at dksX4_turn_7 4 rfl rfl)
theorem dX4_turn_166 : decode cX4_turn 166 = .ok (.getfield 57, 3) := dk_180 0 57 (dk_at dksX4_turn_7 5 rfl rfl)
theorem dX4_turn_169 : decode cX4_turn 169 = .ok (.bipush 14, 2) := dk_16 14 (dk_at dksX4_turn_7 8 rfl rfl)
theorem dX4_turn_171 : decode cX4_turn 171 = .ok (.iload 5, 2) := dk_21 5 (dk_at dksX4_turn_7 10 rfl rfl)
theorem dX4_turn_173 : decode cX4_turn 173 = .ok (.ifCond .le 7, 3) := dk_158 0 7 (dk_at dksX4_turn_7 12 rfl rfl)
theorem dX4_turn_176 : decode cX4_turn 176 = .ok (.iconst 1, 1) := dk_4 (dk_at dksX4_turn_7 15 rfl rfl)
theorem dX4_turn_177 : decode cX4_turn 177 = .ok (.goto 4, 3) := dk_167 0 4 (dk_at dksX4_turn_7 16 rfl rfl)
theorem dX4_turn_180 : decode cX4_turn 180 = .ok (.iconst 0, 1) := dk_3 (dk_at dksX4_turn_7 19 rfl rfl)
theorem dX4_turn_181 : decode cX4_turn 181 = .ok (.iastore, 1) := dk_79 (dk_at dksX4_turn_7 20 rfl rfl)
theorem dX4_turn_182 : decode cX4_turn 182 = .ok (.aload_n 0, 1) := dk_42 (dk_at dksX4_turn_7 21 rfl rfl)
theorem dX4_turn_183 : decode cX4_turn 183 = .ok (.getfield 57, 3) := dk_180 0 57 (dk_at dksX4_turn_8 0 rfl rfl)
theorem dX4_turn_186 : decode cX4_turn 186 = .ok (.bipush 15, 2) := dk_16 15 (dk_at dksX4_turn_8 3 rfl rfl)
theorem dX4_turn_188 : decode cX4_turn 188 = .ok (.iload_n 3, 1) := dk_29 (dk_at dksX4_turn_8 5 rfl rfl)
theorem dX4_turn_189 : decode cX4_turn 189 = .ok (.ifCond .ne 7, 3) := dk_154 0 7 (dk_at dksX4_turn_8 6 rfl rfl)
theorem dX4_turn_192 : decode cX4_turn 192 = .ok (.iconst 1, 1) := dk_4 (dk_at dksX4_turn_8 9 rfl rfl)
theorem dX4_turn_193 : decode cX4_turn 193 = .ok (.goto 4, 3) := dk_167 0 4 (dk_at dksX4_turn_8 10 rfl rfl)
theorem dX4_turn_196 : decode cX4_turn 196 = .ok (.iconst 0, 1) := dk_3 (dk_at dksX4_turn_8 13 rfl rfl)
theorem dX4_turn_197 : decode cX4_turn 197 = .ok (.iastore, 1) := dk_79 (dk_at dksX4_turn_8 14 rfl rfl)
theorem dX4_turn_198 : decode cX4_turn 198 = .ok (.aload_n 1, 1) := dk_43 (dk_at dksX4_turn_8 15 rfl rfl)
theorem dX4_turn_199 : decode cX4_turn 199 = .ok (.getfield 187, 3) := dk_180 0 187 (dk_at dksX4_turn_8 16 rfl rfl)
theorem dX4_turn_202 : decode cX4_turn 202 = .ok (.iconst (-1), 1) := dk_2 (dk_at dksX4_turn_8 19 rfl rfl)
theorem dX4_turn_203 : decode cX4_turn 203 = .ok (.if_icmp .ne 7, 3) := dk_160 0 7 (dk_at dksX4_turn_8 20 rfl rfl)
theorem dX4_turn_206 : decode cX4_turn 206 = .ok (.aconst_null, 1) := dk_1 (dk_at dksX4_turn_8 23 rfl rfl)
theorem dX4_turn_207 : decode cX4_turn 207 = .ok (.goto 19, 3) := dk_167 0 19 (dk_at dksX4_turn_9 0 rfl rfl)
theorem dX4_turn_210 : decode cX4_turn 210 = .ok (.aload_n 0, 1) := dk_42 (dk_at dksX4_turn_9 3 rfl rfl)
theorem dX4_turn_211 : decode cX4_turn 211 = .ok (.getfield 29, 3) := dk_180 0 29 (dk_at dksX4_turn_9 4 rfl rfl)
theorem dX4_turn_214 : decode cX4_turn 214 = .ok (.aload_n 1, 1) := dk_43 (dk_at dksX4_turn_9 7 rfl rfl)
theorem dX4_turn_215 : decode cX4_turn 215 = .ok (.getfield 187, 3) := dk_180 0 187 (dk_at dksX4_turn_9 8 rfl rfl)
theorem dX4_turn_218 : decode cX4_turn 218 = .ok (.aaload, 1) := dk_50 (dk_at dksX4_turn_9 11 rfl rfl)
theorem dX4_turn_219 : decode cX4_turn 219 = .ok (.aload_n 0, 1) := dk_42 (dk_at dksX4_turn_9 12 rfl rfl)
theorem dX4_turn_220 : decode cX4_turn 220 = .ok (.getfield 57, 3) := dk_180 0 57 (dk_at dksX4_turn_9 13 rfl rfl)
theorem dX4_turn_223 : decode cX4_turn 223 = .ok (.invokevirtual 190, 3) := dk_182 0 190 (dk_at dksX4_turn_9 16 rfl rfl)
theorem dX4_turn_226 : decode cX4_turn 226 = .ok (.astore 6, 2) := dk_58 6 (dk_at dksX4_turn_9 19 rfl rfl)
theorem dX4_turn_228 : decode cX4_turn 228 = .ok (.aload 6, 2) := dk_25 6 (dk_at dksX4_turn_9 21 rfl rfl)
theorem dX4_turn_230 : decode cX4_turn 230 = .ok (.ifnonnull 20, 3) := dk_199 0 20 (dk_at dksX4_turn_10 0 rfl rfl)
theorem dX4_turn_233 : decode cX4_turn 233 = .ok (.aload_n 1, 1) := dk_43 (dk_at dksX4_turn_10 3 rfl rfl)
theorem dX4_turn_234 : decode cX4_turn 234 = .ok (.iconst 0, 1) := dk_3 (dk_at dksX4_turn_10 4 rfl rfl)
theorem dX4_turn_235 : decode cX4_turn 235 = .ok (.aload_n 1, 1) := dk_43 (dk_at dksX4_turn_10 5 rfl rfl)
theorem dX4_turn_236 : decode cX4_turn 236 = .ok (.getfield 172, 3) := dk_180 0 172 (dk_at dksX4_turn_10 6 rfl rfl)
theorem dX4_turn_239 : decode cX4_turn 239 = .ok (.iconst 1, 1) := dk_4 (dk_at dksX4_turn_10 9 rfl rfl)
theorem dX4_turn_240 : decode cX4_turn 240 = .ok (.isub, 1) := dk_100 (dk_at dksX4_turn_10 10 rfl rfl)
theorem dX4_turn_241 : decode cX4_turn 241 = .ok (.invokestatic 180, 3) := dk_184 0 180 (dk_at dksX4_turn_10 11 rfl rfl)
theorem dX4_turn_244 : decode cX4_turn 244 = .ok (.putfield 172, 3) := dk_181 0 172 (dk_at dksX4_turn_10 14 rfl rfl)
theorem dX4_turn_247 : decode cX4_turn 247 = .ok (.goto 10, 3) := dk_167 0 10 (dk_at dksX4_turn_10 17 rfl rfl)
theorem dX4_turn_250 : decode cX4_turn 250 = .ok (.aload 6, 2) := dk_25 6 (dk_at dksX4_turn_10 20 rfl rfl)
theorem dX4_turn_252 : decode cX4_turn 252 = .ok (.aload_n 0, 1) := dk_42 (dk_at dksX4_turn_10 22 rfl rfl)
theorem dX4_turn_253 : decode cX4_turn 253 = .ok (.aload_n 1, 1) := dk_43 (dk_at dksX4_turn_10 23 rfl rfl)
theorem dX4_turn_254 : decode cX4_turn 254 = .ok (.invokevirtual 194, 3) := dk_182 0 194 (dk_at dksX4_turn_11 0 rfl rfl)
theorem dX4_turn_257 : decode cX4_turn 257 = .ok (.return_, 1) := dk_177 (dk_at dksX4_turn_11 3 rfl rfl)
abbrev cX4_nearest : ByteArray := prog_12_method_5_code
def yX4_nearest : MethodName := ⟨RX4, "nearest", "(LGrassField$Person;IZ)I"⟩
def dkwX4_nearest_4 : List UInt8 := [167, 255, 169, 21, 4, 172]
abbrev dktX4_nearest_4 : List UInt8 := dkwX4_nearest_4 ++ []
def dkwX4_nearest_3 : List UInt8 := [180, 0, 23, 21, 4, 50, 180, 0, 136, 28, 184, 0, 139, 162, 0, 7, 21, 5, 54, 4, 132, 5, 1]
abbrev dktX4_nearest_3 : List UInt8 := dkwX4_nearest_3 ++ dktX4_nearest_4
def dkwX4_nearest_2 : List UInt8 := [154, 0, 6, 167, 0, 39, 21, 4, 2, 159, 0, 29, 25, 6, 180, 0, 136, 28, 184, 0, 139, 42]
abbrev dktX4_nearest_2 : List UInt8 := dkwX4_nearest_2 ++ dktX4_nearest_3
def dkwX4_nearest_1 : List UInt8 := [29, 153, 0, 16, 42, 43, 25, 6, 182, 0, 129, 153, 0, 55, 167, 0, 16, 42, 43, 25, 6, 182, 0, 133]
abbrev dktX4_nearest_1 : List UInt8 := dkwX4_nearest_1 ++ dktX4_nearest_2
def dkwX4_nearest_0 : List UInt8 := [2, 54, 4, 3, 54, 5, 21, 5, 42, 180, 0, 91, 162, 0, 84, 42, 180, 0, 23, 21, 5, 50, 58, 6]
abbrev dktX4_nearest_0 : List UInt8 := dkwX4_nearest_0 ++ dktX4_nearest_1
theorem dksX4_nearest_0 : cX4_nearest.data.toList.drop 0 = dktX4_nearest_0 := by decide +kernel
theorem dksX4_nearest_1 : cX4_nearest.data.toList.drop 24 = dktX4_nearest_1 := dk_seg dksX4_nearest_0 24 rfl rfl
theorem dksX4_nearest_2 : cX4_nearest.data.toList.drop 48 = dktX4_nearest_2 := dk_seg dksX4_nearest_1 24 rfl rfl
theorem dksX4_nearest_3 : cX4_nearest.data.toList.drop 70 = dktX4_nearest_3 := dk_seg dksX4_nearest_2 22 rfl rfl
theorem dksX4_nearest_4 : cX4_nearest.data.toList.drop 93 = dktX4_nearest_4 := dk_seg dksX4_nearest_3 23 rfl rfl
theorem dX4_nearest_0 : decode cX4_nearest 0 = .ok (.iconst (-1), 1) := dk_2 (dk_at dksX4_nearest_0 0 rfl rfl)
theorem dX4_nearest_1 : decode cX4_nearest 1 = .ok (.istore 4, 2) := dk_54 4 (dk_at dksX4_nearest_0 1 rfl rfl)
theorem dX4_nearest_3 : decode cX4_nearest 3 = .ok (.iconst 0, 1) := dk_3 (dk_at dksX4_nearest_0 3 rfl rfl)
theorem dX4_nearest_4 : decode cX4_nearest 4 = .ok (.istore 5, 2) := dk_54 5 (dk_at dksX4_nearest_0 4 rfl rfl)
theorem dX4_nearest_6 : decode cX4_nearest 6 = .ok (.iload 5, 2) := dk_21 5 (dk_at dksX4_nearest_0 6 rfl rfl)
theorem dX4_nearest_8 : decode cX4_nearest 8 = .ok (.aload_n 0, 1) := dk_42 (dk_at dksX4_nearest_0 8 rfl rfl)
theorem dX4_nearest_9 : decode cX4_nearest 9 = .ok (.getfield 91, 3) := dk_180 0 91 (dk_at dksX4_nearest_0 9 rfl rfl)
theorem dX4_nearest_12 : decode cX4_nearest 12 = .ok (.if_icmp .ge 84, 3) := dk_162 0 84 (dk_at dksX4_nearest_0 12 rfl rfl)
theorem dX4_nearest_15 : decode cX4_nearest 15 = .ok (.aload_n 0, 1) := dk_42 (dk_at dksX4_nearest_0 15 rfl rfl)
theorem dX4_nearest_16 : decode cX4_nearest 16 = .ok (.getfield 23, 3) := dk_180 0 23 (dk_at dksX4_nearest_0 16 rfl rfl)
theorem dX4_nearest_19 : decode cX4_nearest 19 = .ok (.iload 5, 2) := dk_21 5 (dk_at dksX4_nearest_0 19 rfl rfl)
theorem dX4_nearest_21 : decode cX4_nearest 21 = .ok (.aaload, 1) := dk_50 (dk_at dksX4_nearest_0 21 rfl rfl)
theorem dX4_nearest_22 : decode cX4_nearest 22 = .ok (.astore 6, 2) := dk_58 6 (dk_at dksX4_nearest_0 22 rfl rfl)
theorem dX4_nearest_24 : decode cX4_nearest 24 = .ok (.iload_n 3, 1) := dk_29 (dk_at dksX4_nearest_1 0 rfl rfl)
theorem dX4_nearest_25 : decode cX4_nearest 25 = .ok (.ifCond .eq 16, 3) := dk_153 0 16 (dk_at dksX4_nearest_1 1 rfl rfl)
theorem dX4_nearest_28 : decode cX4_nearest 28 = .ok (.aload_n 0, 1) := dk_42 (dk_at dksX4_nearest_1 4 rfl rfl)
theorem dX4_nearest_29 : decode cX4_nearest 29 = .ok (.aload_n 1, 1) := dk_43 (dk_at dksX4_nearest_1 5 rfl rfl)
theorem dX4_nearest_30 : decode cX4_nearest 30 = .ok (.aload 6, 2) := dk_25 6 (dk_at dksX4_nearest_1 6 rfl rfl)
theorem dX4_nearest_32 : decode cX4_nearest 32 = .ok (.invokevirtual 129, 3) := dk_182 0 129 (dk_at dksX4_nearest_1 8 rfl rfl)
theorem dX4_nearest_35 : decode cX4_nearest 35 = .ok (.ifCond .eq 55, 3) := dk_153 0 55 (dk_at dksX4_nearest_1 11 rfl rfl)
theorem dX4_nearest_38 : decode cX4_nearest 38 = .ok (.goto 16, 3) := dk_167 0 16 (dk_at dksX4_nearest_1 14 rfl rfl)
theorem dX4_nearest_41 : decode cX4_nearest 41 = .ok (.aload_n 0, 1) := dk_42 (dk_at dksX4_nearest_1 17 rfl rfl)
theorem dX4_nearest_42 : decode cX4_nearest 42 = .ok (.aload_n 1, 1) := dk_43 (dk_at dksX4_nearest_1 18 rfl rfl)
theorem dX4_nearest_43 : decode cX4_nearest 43 = .ok (.aload 6, 2) := dk_25 6 (dk_at dksX4_nearest_1 19 rfl rfl)
theorem dX4_nearest_45 : decode cX4_nearest 45 = .ok (.invokevirtual 133, 3) := dk_182 0 133 (dk_at dksX4_nearest_1 21 rfl rfl)
theorem dX4_nearest_48 : decode cX4_nearest 48 = .ok (.ifCond .ne 6, 3) := dk_154 0 6 (dk_at dksX4_nearest_2 0 rfl rfl)
theorem dX4_nearest_51 : decode cX4_nearest 51 = .ok (.goto 39, 3) := dk_167 0 39 (dk_at dksX4_nearest_2 3 rfl rfl)
theorem dX4_nearest_54 : decode cX4_nearest 54 = .ok (.iload 4, 2) := dk_21 4 (dk_at dksX4_nearest_2 6 rfl rfl)
theorem dX4_nearest_56 : decode cX4_nearest 56 = .ok (.iconst (-1), 1) := dk_2 (dk_at dksX4_nearest_2 8 rfl rfl)
theorem dX4_nearest_57 : decode cX4_nearest 57 = .ok (.if_icmp .eq 29, 3) := dk_159 0 29 (dk_at dksX4_nearest_2 9 rfl rfl)
theorem dX4_nearest_60 : decode cX4_nearest 60 = .ok (.aload 6, 2) := dk_25 6 (dk_at dksX4_nearest_2 12 rfl rfl)
theorem dX4_nearest_62 : decode cX4_nearest 62 = .ok (.getfield 136, 3) := dk_180 0 136 (dk_at dksX4_nearest_2 14 rfl rfl)
theorem dX4_nearest_65 : decode cX4_nearest 65 = .ok (.iload_n 2, 1) := dk_28 (dk_at dksX4_nearest_2 17 rfl rfl)
theorem dX4_nearest_66 : decode cX4_nearest 66 = .ok (.invokestatic 139, 3) := dk_184 0 139 (dk_at dksX4_nearest_2 18 rfl rfl)
theorem dX4_nearest_69 : decode cX4_nearest 69 = .ok (.aload_n 0, 1) := dk_42 (dk_at dksX4_nearest_2 21 rfl rfl)
theorem dX4_nearest_70 : decode cX4_nearest 70 = .ok (.getfield 23, 3) := dk_180 0 23 (dk_at dksX4_nearest_3 0 rfl rfl)
theorem dX4_nearest_73 : decode cX4_nearest 73 = .ok (.iload 4, 2) := dk_21 4 (dk_at dksX4_nearest_3 3 rfl rfl)
theorem dX4_nearest_75 : decode cX4_nearest 75 = .ok (.aaload, 1) := dk_50 (dk_at dksX4_nearest_3 5 rfl rfl)
theorem dX4_nearest_76 : decode cX4_nearest 76 = .ok (.getfield 136, 3) := dk_180 0 136 (dk_at dksX4_nearest_3 6 rfl rfl)
theorem dX4_nearest_79 : decode cX4_nearest 79 = .ok (.iload_n 2, 1) := dk_28 (dk_at dksX4_nearest_3 9 rfl rfl)
theorem dX4_nearest_80 : decode cX4_nearest 80 = .ok (.invokestatic 139, 3) := dk_184 0 139 (dk_at dksX4_nearest_3 10 rfl rfl)
theorem dX4_nearest_83 : decode cX4_nearest 83 = .ok (.if_icmp .ge 7, 3) := dk_162 0 7 (dk_at dksX4_nearest_3 13 rfl rfl)
theorem dX4_nearest_86 : decode cX4_nearest 86 = .ok (.iload 5, 2) := dk_21 5 (dk_at dksX4_nearest_3 16 rfl rfl)
theorem dX4_nearest_88 : decode cX4_nearest 88 = .ok (.istore 4, 2) := dk_54 4 (dk_at dksX4_nearest_3 18 rfl rfl)
theorem dX4_nearest_90 : decode cX4_nearest 90 = .ok (.iinc 5 1, 3) := dk_132 5 1 (dk_at dksX4_nearest_3 20 rfl rfl)
theorem dX4_nearest_93 : decode cX4_nearest 93 = .ok (.goto (-87), 3) := dk_167 255 169 (dk_at dksX4_nearest_4 0 rfl rfl)
theorem dX4_nearest_96 : decode cX4_nearest 96 = .ok (.iload 4, 2) := dk_21 4 (dk_at dksX4_nearest_4 3 rfl rfl)
theorem dX4_nearest_98 : decode cX4_nearest 98 = .ok (.ireturn, 1) := dk_172 (dk_at dksX4_nearest_4 5 rfl rfl)
abbrev cX4_shoots : ByteArray := prog_12_method_8_code
def yX4_shoots : MethodName := ⟨RX4, "shoots", "(LGrassField$Person;LGrassField$Person;)V"⟩
def dkwX4_shoots_6 : List UInt8 := [21, 4, 4, 42, 44, 182, 0, 163, 120, 183, 0, 167, 182, 0, 151, 177]
abbrev dktX4_shoots_6 : List UInt8 := dkwX4_shoots_6 ++ []
def dkwX4_shoots_5 : List UInt8 := [112, 16, 10, 21, 5, 100, 161, 0, 4, 177, 44, 3, 181, 0, 124, 42, 187, 0, 161, 89, 44, 180, 0, 136]
abbrev dktX4_shoots_5 : List UInt8 := dkwX4_shoots_5 ++ dktX4_shoots_6
def dkwX4_shoots_4 : List UInt8 := [180, 0, 112, 104, 17, 48, 57, 96, 181, 0, 112, 42, 180, 0, 112, 16, 16, 124, 17, 127, 255, 126, 16, 12]
abbrev dktX4_shoots_4 : List UInt8 := dkwX4_shoots_4 ++ dktX4_shoots_5
def dkwX4_shoots_3 : List UInt8 := [187, 0, 155, 89, 44, 180, 0, 136, 21, 4, 43, 180, 0, 128, 183, 0, 157, 182, 0, 151, 42, 18, 160, 42]
abbrev dktX4_shoots_3 : List UInt8 := dkwX4_shoots_3 ++ dktX4_shoots_4
def dkwX4_shoots_2 : List UInt8 := [180, 0, 136, 21, 4, 4, 45, 180, 0, 79, 120, 3, 17, 0, 239, 183, 0, 148, 182, 0, 151, 42]
abbrev dktX4_shoots_2 : List UInt8 := dkwX4_shoots_2 ++ dktX4_shoots_3
def dkwX4_shoots_1 : List UInt8 := [180, 0, 136, 184, 0, 139, 54, 5, 45, 89, 180, 0, 85, 4, 100, 181, 0, 85, 42, 187, 0, 146, 89, 43]
abbrev dktX4_shoots_1 : List UInt8 := dkwX4_shoots_1 ++ dktX4_shoots_2
def dkwX4_shoots_0 : List UInt8 := [42, 180, 0, 17, 43, 180, 0, 143, 50, 78, 42, 180, 0, 115, 16, 10, 112, 54, 4, 43, 180, 0, 136, 44]
abbrev dktX4_shoots_0 : List UInt8 := dkwX4_shoots_0 ++ dktX4_shoots_1
theorem dksX4_shoots_0 : cX4_shoots.data.toList.drop 0 = dktX4_shoots_0 := by decide +kernel
theorem dksX4_shoots_1 : cX4_shoots.data.toList.drop 24 = dktX4_shoots_1 := dk_seg dksX4_shoots_0 24 rfl rfl
theorem dksX4_shoots_2 : cX4_shoots.data.toList.drop 48 = dktX4_shoots_2 := dk_seg dksX4_shoots_1 24 rfl rfl
theorem dksX4_shoots_3 : cX4_shoots.data.toList.drop 70 = dktX4_shoots_3 := dk_seg dksX4_shoots_2 22 rfl rfl
theorem dksX4_shoots_4 : cX4_shoots.data.toList.drop 94 = dktX4_shoots_4 := dk_seg dksX4_shoots_3 24 rfl rfl
theorem dksX4_shoots_5 : cX4_shoots.data.toList.drop 118 = dktX4_shoots_5 := dk_seg dksX4_shoots_4 24 rfl rfl
theorem dksX4_shoots_6 : cX4_shoots.data.toList.drop 142 = dktX4_shoots_6 := dk_seg dksX4_shoots_5 24 rfl rfl
theorem dX4_shoots_0 : decode cX4_shoots 0 = .ok (.aload_n 0, 1) := dk_42 (dk_at dksX4_shoots_0 0 rfl rfl)
theorem dX4_shoots_1 : decode cX4_shoots 1 = .ok (.getfield 17, 3) := dk_180 0 17 (dk_at dksX4_shoots_0 1 rfl rfl)
theorem dX4_shoots_4 : decode cX4_shoots 4 = .ok (.aload_n 1, 1) := dk_43 (dk_at dksX4_shoots_0 4 rfl rfl)
theorem dX4_shoots_5 : decode cX4_shoots 5 = .ok (.getfield 143, 3) := dk_180 0 143 (dk_at dksX4_shoots_0 5 rfl rfl)
theorem dX4_shoots_8 : decode cX4_shoots 8 = .ok (.aaload, 1) := dk_50 (dk_at dksX4_shoots_0 8 rfl rfl)
theorem dX4_shoots_9 : decode cX4_shoots 9 = .ok (.astore_n 3, 1) := dk_78 (dk_at dksX4_shoots_0 9 rfl rfl)
theorem dX4_shoots_10 : decode cX4_shoots 10 = .ok (.aload_n 0, 1) := dk_42 (dk_at dksX4_shoots_0 10 rfl rfl)
theorem dX4_shoots_11 : decode cX4_shoots 11 = .ok (.getfield 115, 3) := dk_180 0 115 (dk_at dksX4_shoots_0 11 rfl rfl)
theorem dX4_shoots_14 : decode cX4_shoots 14 = .ok (.bipush 10, 2) := dk_16 10 (dk_at dksX4_shoots_0 14 rfl rfl)
theorem dX4_shoots_16 : decode cX4_shoots 16 = .ok (.irem, 1) := dk_112 (dk_at dksX4_shoots_0 16 rfl rfl)
theorem dX4_shoots_17 : decode cX4_shoots 17 = .ok (.istore 4, 2) := dk_54 4 (dk_at dksX4_shoots_0 17 rfl rfl)
theorem dX4_shoots_19 : decode cX4_shoots 19 = .ok (.aload_n 1, 1) := dk_43 (dk_at dksX4_shoots_0 19 rfl rfl)
theorem dX4_shoots_20 : decode cX4_shoots 20 = .ok (.getfield 136, 3) := dk_180 0 136 (dk_at dksX4_shoots_0 20 rfl rfl)
theorem dX4_shoots_23 : decode cX4_shoots 23 = .ok (.aload_n 2, 1) := dk_44 (dk_at dksX4_shoots_0 23 rfl rfl)
theorem dX4_shoots_24 : decode cX4_shoots 24 = .ok (.getfield 136, 3) := dk_180 0 136 (dk_at dksX4_shoots_1 0 rfl rfl)
theorem dX4_shoots_27 : decode cX4_shoots 27 = .ok (.invokestatic 139, 3) := dk_184 0 139 (dk_at dksX4_shoots_1 3 rfl rfl)
theorem dX4_shoots_30 : decode cX4_shoots 30 = .ok (.istore 5, 2) := dk_54 5 (dk_at dksX4_shoots_1 6 rfl rfl)
theorem dX4_shoots_32 : decode cX4_shoots 32 = .ok (.aload_n 3, 1) := dk_45 (dk_at dksX4_shoots_1 8 rfl rfl)
theorem dX4_shoots_33 : decode cX4_shoots 33 = .ok (.dup, 1) := dk_89 (dk_at dksX4_shoots_1 9 rfl rfl)
theorem dX4_shoots_34 : decode cX4_shoots 34 = .ok (.getfield 85, 3) := dk_180 0 85 (dk_at dksX4_shoots_1 10 rfl rfl)
theorem dX4_shoots_37 : decode cX4_shoots 37 = .ok (.iconst 1, 1) := dk_4 (dk_at dksX4_shoots_1 13 rfl rfl)
theorem dX4_shoots_38 : decode cX4_shoots 38 = .ok (.isub, 1) := dk_100 (dk_at dksX4_shoots_1 14 rfl rfl)
theorem dX4_shoots_39 : decode cX4_shoots 39 = .ok (.putfield 85, 3) := dk_181 0 85 (dk_at dksX4_shoots_1 15 rfl rfl)
theorem dX4_shoots_42 : decode cX4_shoots 42 = .ok (.aload_n 0, 1) := dk_42 (dk_at dksX4_shoots_1 18 rfl rfl)
theorem dX4_shoots_43 : decode cX4_shoots 43 = .ok (.new 146, 3) := dk_187 0 146 (dk_at dksX4_shoots_1 19 rfl rfl)
theorem dX4_shoots_46 : decode cX4_shoots 46 = .ok (.dup, 1) := dk_89 (dk_at dksX4_shoots_1 22 rfl rfl)
theorem dX4_shoots_47 : decode cX4_shoots 47 = .ok (.aload_n 1, 1) := dk_43 (dk_at dksX4_shoots_1 23 rfl rfl)
theorem dX4_shoots_48 : decode cX4_shoots 48 = .ok (.getfield 136, 3) := dk_180 0 136 (dk_at dksX4_shoots_2 0 rfl rfl)
theorem dX4_shoots_51 : decode cX4_shoots 51 = .ok (.iload 4, 2) := dk_21 4 (dk_at dksX4_shoots_2 3 rfl rfl)
theorem dX4_shoots_53 : decode cX4_shoots 53 = .ok (.iconst 1, 1) := dk_4 (dk_at dksX4_shoots_2 5 rfl rfl)
theorem dX4_shoots_54 : decode cX4_shoots 54 = .ok (.aload_n 3, 1) := dk_45 (dk_at dksX4_shoots_2 6 rfl rfl)
theorem dX4_shoots_55 : decode cX4_shoots 55 = .ok (.getfield 79, 3) := dk_180 0 79 (dk_at dksX4_shoots_2 7 rfl rfl)
theorem dX4_shoots_58 : decode cX4_shoots 58 = .ok (.ishl, 1) := dk_120 (dk_at dksX4_shoots_2 10 rfl rfl)
theorem dX4_shoots_59 : decode cX4_shoots 59 = .ok (.iconst 0, 1) := dk_3 (dk_at dksX4_shoots_2 11 rfl rfl)
theorem dX4_shoots_60 : decode cX4_shoots 60 = .ok (.sipush 239, 3) := dk_17 0 239 (dk_at dksX4_shoots_2 12 rfl rfl)
theorem dX4_shoots_63 : decode cX4_shoots 63 = .ok (.invokespecial 148, 3) := dk_183 0 148 (dk_at dksX4_shoots_2 15 rfl rfl)
theorem dX4_shoots_66 : decode cX4_shoots 66 = .ok (.invokevirtual 151, 3) := dk_182 0 151 (dk_at dksX4_shoots_2 18 rfl rfl)
theorem dX4_shoots_69 : decode cX4_shoots 69 = .ok (.aload_n 0, 1) := dk_42 (dk_at dksX4_shoots_2 21 rfl rfl)
theorem dX4_shoots_70 : decode cX4_shoots 70 = .ok (.new 155, 3) := dk_187 0 155 (dk_at dksX4_shoots_3 0 rfl rfl)
theorem dX4_shoots_73 : decode cX4_shoots 73 = .ok (.dup, 1) := dk_89 (dk_at dksX4_shoots_3 3 rfl rfl)
theorem dX4_shoots_74 : decode cX4_shoots 74 = .ok (.aload_n 2, 1) := dk_44 (dk_at dksX4_shoots_3 4 rfl rfl)
theorem dX4_shoots_75 : decode cX4_shoots 75 = .ok (.getfield 136, 3) := dk_180 0 136 (dk_at dksX4_shoots_3 5 rfl rfl)
theorem dX4_shoots_78 : decode cX4_shoots 78 = .ok (.iload 4, 2) := dk_21 4 (dk_at dksX4_shoots_3 8 rfl rfl)
theorem dX4_shoots_80 : decode cX4_shoots 80 = .ok (.aload_n 1, 1) := dk_43 (dk_at dksX4_shoots_3 10 rfl rfl)
theorem dX4_shoots_81 : decode cX4_shoots 81 = .ok (.getfield 128, 3) := dk_180 0 128 (dk_at dksX4_shoots_3 11 rfl rfl)
theorem dX4_shoots_84 : decode cX4_shoots 84 = .ok (.invokespecial 157, 3) := dk_183 0 157 (dk_at dksX4_shoots_3 14 rfl rfl)
theorem dX4_shoots_87 : decode cX4_shoots 87 = .ok (.invokevirtual 151, 3) := dk_182 0 151 (dk_at dksX4_shoots_3 17 rfl rfl)
theorem dX4_shoots_90 : decode cX4_shoots 90 = .ok (.aload_n 0, 1) := dk_42 (dk_at dksX4_shoots_3 20 rfl rfl)
theorem dX4_shoots_91 : decode cX4_shoots 91 = .ok (.ldc 160, 2) := dk_18 160 (dk_at dksX4_shoots_3 21 rfl rfl)
theorem dX4_shoots_93 : decode cX4_shoots 93 = .ok (.aload_n 0, 1) := dk_42 (dk_at dksX4_shoots_3 23 rfl rfl)
theorem dX4_shoots_94 : decode cX4_shoots 94 = .ok (.getfield 112, 3) := dk_180 0 112 (dk_at dksX4_shoots_4 0 rfl rfl)
theorem dX4_shoots_97 : decode cX4_shoots 97 = .ok (.imul, 1) := dk_104 (dk_at dksX4_shoots_4 3 rfl rfl)
theorem dX4_shoots_98 : decode cX4_shoots 98 = .ok (.sipush 12345, 3) := dk_17 48 57 (dk_at dksX4_shoots_4 4 rfl rfl)
theorem dX4_shoots_101 : decode cX4_shoots 101 = .ok (.iadd, 1) := dk_96 (dk_at dksX4_shoots_4 7 rfl rfl)
theorem dX4_shoots_102 : decode cX4_shoots 102 = .ok (.putfield 112, 3) := dk_181 0 112 (dk_at dksX4_shoots_4 8 rfl rfl)
theorem dX4_shoots_105 : decode cX4_shoots 105 = .ok (.aload_n 0, 1) := dk_42 (dk_at dksX4_shoots_4 11 rfl rfl)
theorem dX4_shoots_106 : decode cX4_shoots 106 = .ok (.getfield 112, 3) := dk_180 0 112 (dk_at dksX4_shoots_4 12 rfl rfl)
theorem dX4_shoots_109 : decode cX4_shoots 109 = .ok (.bipush 16, 2) := dk_16 16 (dk_at dksX4_shoots_4 15 rfl rfl)
theorem dX4_shoots_111 : decode cX4_shoots 111 = .ok (.iushr, 1) := dk_124 (dk_at dksX4_shoots_4 17 rfl rfl)
theorem dX4_shoots_112 : decode cX4_shoots 112 = .ok (.sipush 32767, 3) := dk_17 127 255 (dk_at dksX4_shoots_4 18 rfl rfl)
theorem dX4_shoots_115 : decode cX4_shoots 115 = .ok (.iand, 1) := dk_126 (dk_at dksX4_shoots_4 21 rfl rfl)
theorem dX4_shoots_116 : decode cX4_shoots 116 = .ok (.bipush 12, 2) := dk_16 12 (dk_at dksX4_shoots_4 22 rfl rfl)
theorem dX4_shoots_118 : decode cX4_shoots 118 = .ok (.irem, 1) := dk_112 (dk_at dksX4_shoots_5 0 rfl rfl)
theorem dX4_shoots_119 : decode cX4_shoots 119 = .ok (.bipush 10, 2) := dk_16 10 (dk_at dksX4_shoots_5 1 rfl rfl)
theorem dX4_shoots_121 : decode cX4_shoots 121 = .ok (.iload 5, 2) := dk_21 5 (dk_at dksX4_shoots_5 3 rfl rfl)
theorem dX4_shoots_123 : decode cX4_shoots 123 = .ok (.isub, 1) := dk_100 (dk_at dksX4_shoots_5 5 rfl rfl)
theorem dX4_shoots_124 : decode cX4_shoots 124 = .ok (.if_icmp .lt 4, 3) := dk_161 0 4 (dk_at dksX4_shoots_5 6 rfl rfl)
theorem dX4_shoots_127 : decode cX4_shoots 127 = .ok (.return_, 1) := dk_177 (dk_at dksX4_shoots_5 9 rfl rfl)
theorem dX4_shoots_128 : decode cX4_shoots 128 = .ok (.aload_n 2, 1) := dk_44 (dk_at dksX4_shoots_5 10 rfl rfl)
theorem dX4_shoots_129 : decode cX4_shoots 129 = .ok (.iconst 0, 1) := dk_3 (dk_at dksX4_shoots_5 11 rfl rfl)
theorem dX4_shoots_130 : decode cX4_shoots 130 = .ok (.putfield 124, 3) := dk_181 0 124 (dk_at dksX4_shoots_5 12 rfl rfl)
theorem dX4_shoots_133 : decode cX4_shoots 133 = .ok (.aload_n 0, 1) := dk_42 (dk_at dksX4_shoots_5 15 rfl rfl)
theorem dX4_shoots_134 : decode cX4_shoots 134 = .ok (.new 161, 3) := dk_187 0 161 (dk_at dksX4_shoots_5 16 rfl rfl)
theorem dX4_shoots_137 : decode cX4_shoots 137 = .ok (.dup, 1) := dk_89 (dk_at dksX4_shoots_5 19 rfl rfl)
theorem dX4_shoots_138 : decode cX4_shoots 138 = .ok (.aload_n 2, 1) := dk_44 (dk_at dksX4_shoots_5 20 rfl rfl)
theorem dX4_shoots_139 : decode cX4_shoots 139 = .ok (.getfield 136, 3) := dk_180 0 136 (dk_at dksX4_shoots_5 21 rfl rfl)
theorem dX4_shoots_142 : decode cX4_shoots 142 = .ok (.iload 4, 2) := dk_21 4 (dk_at dksX4_shoots_6 0 rfl rfl)
theorem dX4_shoots_144 : decode cX4_shoots 144 = .ok (.iconst 1, 1) := dk_4 (dk_at dksX4_shoots_6 2 rfl rfl)
theorem dX4_shoots_145 : decode cX4_shoots 145 = .ok (.aload_n 0, 1) := dk_42 (dk_at dksX4_shoots_6 3 rfl rfl)
theorem dX4_shoots_146 : decode cX4_shoots 146 = .ok (.aload_n 2, 1) := dk_44 (dk_at dksX4_shoots_6 4 rfl rfl)
theorem dX4_shoots_147 : decode cX4_shoots 147 = .ok (.invokevirtual 163, 3) := dk_182 0 163 (dk_at dksX4_shoots_6 5 rfl rfl)
theorem dX4_shoots_150 : decode cX4_shoots 150 = .ok (.ishl, 1) := dk_120 (dk_at dksX4_shoots_6 8 rfl rfl)
theorem dX4_shoots_151 : decode cX4_shoots 151 = .ok (.invokespecial 167, 3) := dk_183 0 167 (dk_at dksX4_shoots_6 9 rfl rfl)
theorem dX4_shoots_154 : decode cX4_shoots 154 = .ok (.invokevirtual 151, 3) := dk_182 0 151 (dk_at dksX4_shoots_6 12 rfl rfl)
theorem dX4_shoots_157 : decode cX4_shoots 157 = .ok (.return_, 1) := dk_177 (dk_at dksX4_shoots_6 15 rfl rfl)
abbrev cX4_comes : ByteArray := prog_12_method_7_code
def yX4_comes : MethodName := ⟨RX4, "comes", "(LGrassField$Find;)V"⟩
def dkwX4_comes_1 : List UInt8 := [180, 0, 100, 4, 96, 181, 0, 100, 177]
abbrev dktX4_comes_1 : List UInt8 := dkwX4_comes_1 ++ []
def dkwX4_comes_0 : List UInt8 := [42, 180, 0, 100, 16, 120, 160, 0, 4, 177, 42, 180, 0, 35, 42, 180, 0, 100, 43, 83, 42, 89]
abbrev dktX4_comes_0 : List UInt8 := dkwX4_comes_0 ++ dktX4_comes_1
theorem dksX4_comes_0 : cX4_comes.data.toList.drop 0 = dktX4_comes_0 := by decide +kernel
theorem dksX4_comes_1 : cX4_comes.data.toList.drop 22 = dktX4_comes_1 := dk_seg dksX4_comes_0 22 rfl rfl
theorem dX4_comes_0 : decode cX4_comes 0 = .ok (.aload_n 0, 1) := dk_42 (dk_at dksX4_comes_0 0 rfl rfl)
theorem dX4_comes_1 : decode cX4_comes 1 = .ok (.getfield 100, 3) := dk_180 0 100 (dk_at dksX4_comes_0 1 rfl rfl)
theorem dX4_comes_4 : decode cX4_comes 4 = .ok (.bipush 120, 2) := dk_16 120 (dk_at dksX4_comes_0 4 rfl rfl)
theorem dX4_comes_6 : decode cX4_comes 6 = .ok (.if_icmp .ne 4, 3) := dk_160 0 4 (dk_at dksX4_comes_0 6 rfl rfl)
theorem dX4_comes_9 : decode cX4_comes 9 = .ok (.return_, 1) := dk_177 (dk_at dksX4_comes_0 9 rfl rfl)
theorem dX4_comes_10 : decode cX4_comes 10 = .ok (.aload_n 0, 1) := dk_42 (dk_at dksX4_comes_0 10 rfl rfl)
theorem dX4_comes_11 : decode cX4_comes 11 = .ok (.getfield 35, 3) := dk_180 0 35 (dk_at dksX4_comes_0 11 rfl rfl)
theorem dX4_comes_14 : decode cX4_comes 14 = .ok (.aload_n 0, 1) := dk_42 (dk_at dksX4_comes_0 14 rfl rfl)
theorem dX4_comes_15 : decode cX4_comes 15 = .ok (.getfield 100, 3) := dk_180 0 100 (dk_at dksX4_comes_0 15 rfl rfl)
theorem dX4_comes_18 : decode cX4_comes 18 = .ok (.aload_n 1, 1) := dk_43 (dk_at dksX4_comes_0 18 rfl rfl)
theorem dX4_comes_19 : decode cX4_comes 19 = .ok (.aastore, 1) := dk_83 (dk_at dksX4_comes_0 19 rfl rfl)
theorem dX4_comes_20 : decode cX4_comes 20 = .ok (.aload_n 0, 1) := dk_42 (dk_at dksX4_comes_0 20 rfl rfl)
theorem dX4_comes_21 : decode cX4_comes 21 = .ok (.dup, 1) := dk_89 (dk_at dksX4_comes_0 21 rfl rfl)
theorem dX4_comes_22 : decode cX4_comes 22 = .ok (.getfield 100, 3) := dk_180 0 100 (dk_at dksX4_comes_1 0 rfl rfl)
theorem dX4_comes_25 : decode cX4_comes 25 = .ok (.iconst 1, 1) := dk_4 (dk_at dksX4_comes_1 3 rfl rfl)
theorem dX4_comes_26 : decode cX4_comes 26 = .ok (.iadd, 1) := dk_96 (dk_at dksX4_comes_1 4 rfl rfl)
theorem dX4_comes_27 : decode cX4_comes 27 = .ok (.putfield 100, 3) := dk_181 0 100 (dk_at dksX4_comes_1 5 rfl rfl)
theorem dX4_comes_30 : decode cX4_comes 30 = .ok (.return_, 1) := dk_177 (dk_at dksX4_comes_1 8 rfl rfl)
abbrev cX4_numberOf : ByteArray := prog_12_method_9_code
def yX4_numberOf : MethodName := ⟨RX4, "numberOf", "(LGrassField$Person;)I"⟩
def dkwX4_numberOf_0 : List UInt8 := [3, 61, 42, 180, 0, 23, 28, 50, 43, 165, 0, 9, 132, 2, 1, 167, 255, 243, 28, 172]
abbrev dktX4_numberOf_0 : List UInt8 := dkwX4_numberOf_0 ++ []
theorem dksX4_numberOf_0 : cX4_numberOf.data.toList.drop 0 = dktX4_numberOf_0 := by decide +kernel
theorem dX4_numberOf_0 : decode cX4_numberOf 0 = .ok (.iconst 0, 1) := dk_3 (dk_at dksX4_numberOf_0 0 rfl rfl)
theorem dX4_numberOf_1 : decode cX4_numberOf 1 = .ok (.istore_n 2, 1) := dk_61 (dk_at dksX4_numberOf_0 1 rfl rfl)
theorem dX4_numberOf_2 : decode cX4_numberOf 2 = .ok (.aload_n 0, 1) := dk_42 (dk_at dksX4_numberOf_0 2 rfl rfl)
theorem dX4_numberOf_3 : decode cX4_numberOf 3 = .ok (.getfield 23, 3) := dk_180 0 23 (dk_at dksX4_numberOf_0 3 rfl rfl)
theorem dX4_numberOf_6 : decode cX4_numberOf 6 = .ok (.iload_n 2, 1) := dk_28 (dk_at dksX4_numberOf_0 6 rfl rfl)
theorem dX4_numberOf_7 : decode cX4_numberOf 7 = .ok (.aaload, 1) := dk_50 (dk_at dksX4_numberOf_0 7 rfl rfl)
theorem dX4_numberOf_8 : decode cX4_numberOf 8 = .ok (.aload_n 1, 1) := dk_43 (dk_at dksX4_numberOf_0 8 rfl rfl)
theorem dX4_numberOf_9 : decode cX4_numberOf 9 = .ok (.if_acmp .eq 9, 3) := dk_165 0 9 (dk_at dksX4_numberOf_0 9 rfl rfl)
theorem dX4_numberOf_12 : decode cX4_numberOf 12 = .ok (.iinc 2 1, 3) := dk_132 2 1 (dk_at dksX4_numberOf_0 12 rfl rfl)
theorem dX4_numberOf_15 : decode cX4_numberOf 15 = .ok (.goto (-13), 3) := dk_167 255 243 (dk_at dksX4_numberOf_0 15 rfl rfl)
theorem dX4_numberOf_18 : decode cX4_numberOf 18 = .ok (.iload_n 2, 1) := dk_28 (dk_at dksX4_numberOf_0 18 rfl rfl)
theorem dX4_numberOf_19 : decode cX4_numberOf 19 = .ok (.ireturn, 1) := dk_172 (dk_at dksX4_numberOf_0 19 rfl rfl)
abbrev cX4_mayBe : ByteArray := prog_12_method_16_code
def yX4_mayBe : MethodName := ⟨RX4, "mayBe", "(LGrassField$Find;)I"⟩
def dkwX4_mayBe_2 : List UInt8 := [167, 0, 4, 3, 128, 61, 132, 3, 1, 167, 255, 215, 28, 172]
abbrev dktX4_mayBe_2 : List UInt8 := dkwX4_mayBe_2 ++ []
def dkwX4_mayBe_1 : List UInt8 := [182, 0, 224, 42, 180, 0, 17, 29, 50, 180, 0, 79, 122, 4, 126, 4, 160, 0, 9, 4, 29, 120]
abbrev dktX4_mayBe_1 : List UInt8 := dkwX4_mayBe_1 ++ dktX4_mayBe_2
def dkwX4_mayBe_0 : List UInt8 := [43, 182, 0, 221, 153, 0, 5, 3, 172, 3, 61, 3, 62, 29, 42, 180, 0, 73, 162, 0, 39, 28, 43]
abbrev dktX4_mayBe_0 : List UInt8 := dkwX4_mayBe_0 ++ dktX4_mayBe_1
theorem dksX4_mayBe_0 : cX4_mayBe.data.toList.drop 0 = dktX4_mayBe_0 := by decide +kernel
theorem dksX4_mayBe_1 : cX4_mayBe.data.toList.drop 23 = dktX4_mayBe_1 := dk_seg dksX4_mayBe_0 23 rfl rfl
theorem dksX4_mayBe_2 : cX4_mayBe.data.toList.drop 45 = dktX4_mayBe_2 := dk_seg dksX4_mayBe_1 22 rfl rfl
theorem dX4_mayBe_0 : decode cX4_mayBe 0 = .ok (.aload_n 1, 1) := dk_43 (dk_at dksX4_mayBe_0 0 rfl rfl)
theorem dX4_mayBe_1 : decode cX4_mayBe 1 = .ok (.invokevirtual 221, 3) := dk_182 0 221 (dk_at dksX4_mayBe_0 1 rfl rfl)
theorem dX4_mayBe_4 : decode cX4_mayBe 4 = .ok (.ifCond .eq 5, 3) := dk_153 0 5 (dk_at dksX4_mayBe_0 4 rfl rfl)
theorem dX4_mayBe_7 : decode cX4_mayBe 7 = .ok (.iconst 0, 1) := dk_3 (dk_at dksX4_mayBe_0 7 rfl rfl)
theorem dX4_mayBe_8 : decode cX4_mayBe 8 = .ok (.ireturn, 1) := dk_172 (dk_at dksX4_mayBe_0 8 rfl rfl)
theorem dX4_mayBe_9 : decode cX4_mayBe 9 = .ok (.iconst 0, 1) := dk_3 (dk_at dksX4_mayBe_0 9 rfl rfl)
theorem dX4_mayBe_10 : decode cX4_mayBe 10 = .ok (.istore_n 2, 1) := dk_61 (dk_at dksX4_mayBe_0 10 rfl rfl)
theorem dX4_mayBe_11 : decode cX4_mayBe 11 = .ok (.iconst 0, 1) := dk_3 (dk_at dksX4_mayBe_0 11 rfl rfl)
theorem dX4_mayBe_12 : decode cX4_mayBe 12 = .ok (.istore_n 3, 1) := dk_62 (dk_at dksX4_mayBe_0 12 rfl rfl)
theorem dX4_mayBe_13 : decode cX4_mayBe 13 = .ok (.iload_n 3, 1) := dk_29 (dk_at dksX4_mayBe_0 13 rfl rfl)
theorem dX4_mayBe_14 : decode cX4_mayBe 14 = .ok (.aload_n 0, 1) := dk_42 (dk_at dksX4_mayBe_0 14 rfl rfl)
theorem dX4_mayBe_15 : decode cX4_mayBe 15 = .ok (.getfield 73, 3) := dk_180 0 73 (dk_at dksX4_mayBe_0 15 rfl rfl)
theorem dX4_mayBe_18 : decode cX4_mayBe 18 = .ok (.if_icmp .ge 39, 3) := dk_162 0 39 (dk_at dksX4_mayBe_0 18 rfl rfl)
theorem dX4_mayBe_21 : decode cX4_mayBe 21 = .ok (.iload_n 2, 1) := dk_28 (dk_at dksX4_mayBe_0 21 rfl rfl)
theorem dX4_mayBe_22 : decode cX4_mayBe 22 = .ok (.aload_n 1, 1) := dk_43 (dk_at dksX4_mayBe_0 22 rfl rfl)
theorem dX4_mayBe_23 : decode cX4_mayBe 23 = .ok (.invokevirtual 224, 3) := dk_182 0 224 (dk_at dksX4_mayBe_1 0 rfl rfl)
theorem dX4_mayBe_26 : decode cX4_mayBe 26 = .ok (.aload_n 0, 1) := dk_42 (dk_at dksX4_mayBe_1 3 rfl rfl)
theorem dX4_mayBe_27 : decode cX4_mayBe 27 = .ok (.getfield 17, 3) := dk_180 0 17 (dk_at dksX4_mayBe_1 4 rfl rfl)
theorem dX4_mayBe_30 : decode cX4_mayBe 30 = .ok (.iload_n 3, 1) := dk_29 (dk_at dksX4_mayBe_1 7 rfl rfl)
theorem dX4_mayBe_31 : decode cX4_mayBe 31 = .ok (.aaload, 1) := dk_50 (dk_at dksX4_mayBe_1 8 rfl rfl)
theorem dX4_mayBe_32 : decode cX4_mayBe 32 = .ok (.getfield 79, 3) := dk_180 0 79 (dk_at dksX4_mayBe_1 9 rfl rfl)
theorem dX4_mayBe_35 : decode cX4_mayBe 35 = .ok (.ishr, 1) := dk_122 (dk_at dksX4_mayBe_1 12 rfl rfl)
theorem dX4_mayBe_36 : decode cX4_mayBe 36 = .ok (.iconst 1, 1) := dk_4 (dk_at dksX4_mayBe_1 13 rfl rfl)
theorem dX4_mayBe_37 : decode cX4_mayBe 37 = .ok (.iand, 1) := dk_126 (dk_at dksX4_mayBe_1 14 rfl rfl)
theorem dX4_mayBe_38 : decode cX4_mayBe 38 = .ok (.iconst 1, 1) := dk_4 (dk_at dksX4_mayBe_1 15 rfl rfl)
theorem dX4_mayBe_39 : decode cX4_mayBe 39 = .ok (.if_icmp .ne 9, 3) := dk_160 0 9 (dk_at dksX4_mayBe_1 16 rfl rfl)
theorem dX4_mayBe_42 : decode cX4_mayBe 42 = .ok (.iconst 1, 1) := dk_4 (dk_at dksX4_mayBe_1 19 rfl rfl)
theorem dX4_mayBe_43 : decode cX4_mayBe 43 = .ok (.iload_n 3, 1) := dk_29 (dk_at dksX4_mayBe_1 20 rfl rfl)
theorem dX4_mayBe_44 : decode cX4_mayBe 44 = .ok (.ishl, 1) := dk_120 (dk_at dksX4_mayBe_1 21 rfl rfl)
theorem dX4_mayBe_45 : decode cX4_mayBe 45 = .ok (.goto 4, 3) := dk_167 0 4 (dk_at dksX4_mayBe_2 0 rfl rfl)
theorem dX4_mayBe_48 : decode cX4_mayBe 48 = .ok (.iconst 0, 1) := dk_3 (dk_at dksX4_mayBe_2 3 rfl rfl)
theorem dX4_mayBe_49 : decode cX4_mayBe 49 = .ok (.ior, 1) := dk_128 (dk_at dksX4_mayBe_2 4 rfl rfl)
theorem dX4_mayBe_50 : decode cX4_mayBe 50 = .ok (.istore_n 2, 1) := dk_61 (dk_at dksX4_mayBe_2 5 rfl rfl)
theorem dX4_mayBe_51 : decode cX4_mayBe 51 = .ok (.iinc 3 1, 3) := dk_132 3 1 (dk_at dksX4_mayBe_2 6 rfl rfl)
theorem dX4_mayBe_54 : decode cX4_mayBe 54 = .ok (.goto (-41), 3) := dk_167 255 215 (dk_at dksX4_mayBe_2 9 rfl rfl)
theorem dX4_mayBe_57 : decode cX4_mayBe 57 = .ok (.iload_n 2, 1) := dk_28 (dk_at dksX4_mayBe_2 12 rfl rfl)
theorem dX4_mayBe_58 : decode cX4_mayBe 58 = .ok (.ireturn, 1) := dk_172 (dk_at dksX4_mayBe_2 13 rfl rfl)
abbrev cX4_needed : ByteArray := prog_12_method_19_code
def yX4_needed : MethodName := ⟨RX4, "needed", "(II)I"⟩
def dkwX4_needed_5 : List UInt8 := [54, 5, 132, 6, 1, 167, 255, 176, 21, 5, 153, 0, 6, 21, 4, 62, 132, 4, 1, 167, 255, 125, 29, 172]
abbrev dktX4_needed_5 : List UInt8 := dkwX4_needed_5 ++ []
def dkwX4_needed_4 : List UInt8 := [50, 182, 0, 227, 54, 7, 21, 7, 153, 0, 11, 21, 7, 21, 4, 126, 153, 0, 7, 4, 167, 0, 4, 3]
abbrev dktX4_needed_4 : List UInt8 := dkwX4_needed_4 ++ dktX4_needed_5
def dkwX4_needed_3 : List UInt8 := [21, 6, 50, 182, 0, 242, 27, 28, 184, 0, 244, 154, 0, 6, 167, 0, 36, 42, 42, 180, 0, 35, 21, 6]
abbrev dktX4_needed_3 : List UInt8 := dkwX4_needed_3 ++ dktX4_needed_4
def dkwX4_needed_2 : List UInt8 := [180, 0, 100, 162, 0, 77, 21, 5, 153, 0, 72, 42, 21, 6, 182, 0, 231, 153, 0, 57, 42, 180, 0, 35]
abbrev dktX4_needed_2 : List UInt8 := dkwX4_needed_2 ++ dktX4_needed_3
def dkwX4_needed_1 : List UInt8 := [184, 0, 234, 29, 184, 0, 234, 161, 0, 6, 167, 0, 100, 4, 54, 5, 3, 54, 6, 21, 6, 42]
abbrev dktX4_needed_1 : List UInt8 := dkwX4_needed_1 ++ dktX4_needed_2
def dkwX4_needed_0 : List UInt8 := [2, 62, 3, 54, 4, 21, 4, 4, 42, 180, 0, 73, 120, 162, 0, 126, 29, 2, 159, 0, 18, 21, 4]
abbrev dktX4_needed_0 : List UInt8 := dkwX4_needed_0 ++ dktX4_needed_1
theorem dksX4_needed_0 : cX4_needed.data.toList.drop 0 = dktX4_needed_0 := by decide +kernel
theorem dksX4_needed_1 : cX4_needed.data.toList.drop 23 = dktX4_needed_1 := dk_seg dksX4_needed_0 23 rfl rfl
theorem dksX4_needed_2 : cX4_needed.data.toList.drop 45 = dktX4_needed_2 := dk_seg dksX4_needed_1 22 rfl rfl
theorem dksX4_needed_3 : cX4_needed.data.toList.drop 69 = dktX4_needed_3 := dk_seg dksX4_needed_2 24 rfl rfl
theorem dksX4_needed_4 : cX4_needed.data.toList.drop 93 = dktX4_needed_4 := dk_seg dksX4_needed_3 24 rfl rfl
theorem dksX4_needed_5 : cX4_needed.data.toList.drop 117 = dktX4_needed_5 := dk_seg dksX4_needed_4 24 rfl rfl
theorem dX4_needed_0 : decode cX4_needed 0 = .ok (.iconst (-1), 1) := dk_2 (dk_at dksX4_needed_0 0 rfl rfl)
theorem dX4_needed_1 : decode cX4_needed 1 = .ok (.istore_n 3, 1) := dk_62 (dk_at dksX4_needed_0 1 rfl rfl)
theorem dX4_needed_2 : decode cX4_needed 2 = .ok (.iconst 0, 1) := dk_3 (dk_at dksX4_needed_0 2 rfl rfl)
theorem dX4_needed_3 : decode cX4_needed 3 = .ok (.istore 4, 2) := dk_54 4 (dk_at dksX4_needed_0 3 rfl rfl)
theorem dX4_needed_5 : decode cX4_needed 5 = .ok (.iload 4, 2) := dk_21 4 (dk_at dksX4_needed_0 5 rfl rfl)
theorem dX4_needed_7 : decode cX4_needed 7 = .ok (.iconst 1, 1) := dk_4 (dk_at dksX4_needed_0 7 rfl rfl)
theorem dX4_needed_8 : decode cX4_needed 8 = .ok (.aload_n 0, 1) := dk_42 (dk_at dksX4_needed_0 8 rfl rfl)
theorem dX4_needed_9 : decode cX4_needed 9 = .ok (.getfield 73, 3) := dk_180 0 73 (dk_at dksX4_needed_0 9 rfl rfl)
theorem dX4_needed_12 : decode cX4_needed 12 = .ok (.ishl, 1) := dk_120 (dk_at dksX4_needed_0 12 rfl rfl)
theorem dX4_needed_13 : decode cX4_needed 13 = .ok (.if_icmp .ge 126, 3) := dk_162 0 126 (dk_at dksX4_needed_0 13 rfl rfl)
theorem dX4_needed_16 : decode cX4_needed 16 = .ok (.iload_n 3, 1) := dk_29 (dk_at dksX4_needed_0 16 rfl rfl)
theorem dX4_needed_17 : decode cX4_needed 17 = .ok (.iconst (-1), 1) := dk_2 (dk_at dksX4_needed_0 17 rfl rfl)
theorem dX4_needed_18 : decode cX4_needed 18 = .ok (.if_icmp .eq 18, 3) := dk_159 0 18 (dk_at dksX4_needed_0 18 rfl rfl)
theorem dX4_needed_21 : decode cX4_needed 21 = .ok (.iload 4, 2) := dk_21 4 (dk_at dksX4_needed_0 21 rfl rfl)
theorem dX4_needed_23 : decode cX4_needed 23 = .ok (.invokestatic 234, 3) := dk_184 0 234 (dk_at dksX4_needed_1 0 rfl rfl)
theorem dX4_needed_26 : decode cX4_needed 26 = .ok (.iload_n 3, 1) := dk_29 (dk_at dksX4_needed_1 3 rfl rfl)
theorem dX4_needed_27 : decode cX4_needed 27 = .ok (.invokestatic 234, 3) := dk_184 0 234 (dk_at dksX4_needed_1 4 rfl rfl)
theorem dX4_needed_30 : decode cX4_needed 30 = .ok (.if_icmp .lt 6, 3) := dk_161 0 6 (dk_at dksX4_needed_1 7 rfl rfl)
theorem dX4_needed_33 : decode cX4_needed 33 = .ok (.goto 100, 3) := dk_167 0 100 (dk_at dksX4_needed_1 10 rfl rfl)
theorem dX4_needed_36 : decode cX4_needed 36 = .ok (.iconst 1, 1) := dk_4 (dk_at dksX4_needed_1 13 rfl rfl)
theorem dX4_needed_37 : decode cX4_needed 37 = .ok (.istore 5, 2) := dk_54 5 (dk_at dksX4_needed_1 14 rfl rfl)
theorem dX4_needed_39 : decode cX4_needed 39 = .ok (.iconst 0, 1) := dk_3 (dk_at dksX4_needed_1 16 rfl rfl)
theorem dX4_needed_40 : decode cX4_needed 40 = .ok (.istore 6, 2) := dk_54 6 (dk_at dksX4_needed_1 17 rfl rfl)
theorem dX4_needed_42 : decode cX4_needed 42 = .ok (.iload 6, 2) := dk_21 6 (dk_at dksX4_needed_1 19 rfl rfl)
theorem dX4_needed_44 : decode cX4_needed 44 = .ok (.aload_n 0, 1) := dk_42 (dk_at dksX4_needed_1 21 rfl rfl)
theorem dX4_needed_45 : decode cX4_needed 45 = .ok (.getfield 100, 3) := dk_180 0 100 (dk_at dksX4_needed_2 0 rfl rfl)
theorem dX4_needed_48 : decode cX4_needed 48 = .ok (.if_icmp .ge 77, 3) := dk_162 0 77 (dk_at dksX4_needed_2 3 rfl rfl)
theorem dX4_needed_51 : decode cX4_needed 51 = .ok (.iload 5, 2) := dk_21 5 (dk_at dksX4_needed_2 6 rfl rfl)
theorem dX4_needed_53 : decode cX4_needed 53 = .ok (.ifCond .eq 72, 3) := dk_153 0 72 (dk_at dksX4_needed_2 8 rfl rfl)
theorem dX4_needed_56 : decode cX4_needed 56 = .ok (.aload_n 0, 1) := dk_42 (dk_at dksX4_needed_2 11 rfl rfl)
theorem dX4_needed_57 : decode cX4_needed 57 = .ok (.iload 6, 2) := dk_21 6 (dk_at dksX4_needed_2 12 rfl rfl)
theorem dX4_needed_59 : decode cX4_needed 59 = .ok (.invokevirtual 231, 3) := dk_182 0 231 (dk_at dksX4_needed_2 14 rfl rfl)
theorem dX4_needed_62 : decode cX4_needed 62 = .ok (.ifCond .eq 57, 3) := dk_153 0 57 (dk_at dksX4_needed_2 17 rfl rfl)
theorem dX4_needed_65 : decode cX4_needed 65 = .ok (.aload_n 0, 1) := dk_42 (dk_at dksX4_needed_2 20 rfl rfl)
theorem dX4_needed_66 : decode cX4_needed 66 = .ok (.getfield 35, 3) := dk_180 0 35 (dk_at dksX4_needed_2 21 rfl rfl)
theorem dX4_needed_69 : decode cX4_needed 69 = .ok (.iload 6, 2) := dk_21 6 (dk_at dksX4_needed_3 0 rfl rfl)
theorem dX4_needed_71 : decode cX4_needed 71 = .ok (.aaload, 1) := dk_50 (dk_at dksX4_needed_3 2 rfl rfl)
theorem dX4_needed_72 : decode cX4_needed 72 = .ok (.invokevirtual 242, 3) := dk_182 0 242 (dk_at dksX4_needed_3 3 rfl rfl)
theorem dX4_needed_75 : decode cX4_needed 75 = .ok (.iload_n 1, 1) := dk_27 (dk_at dksX4_needed_3 6 rfl rfl)
theorem dX4_needed_76 : decode cX4_needed 76 = .ok (.iload_n 2, 1) := dk_28 (dk_at dksX4_needed_3 7 rfl rfl)
theorem dX4_needed_77 : decode cX4_needed 77 = .ok (.invokestatic 244, 3) := dk_184 0 244 (dk_at dksX4_needed_3 8 rfl rfl)
theorem dX4_needed_80 : decode cX4_needed 80 = .ok (.ifCond .ne 6, 3) := dk_154 0 6 (dk_at dksX4_needed_3 11 rfl rfl)
theorem dX4_needed_83 : decode cX4_needed 83 = .ok (.goto 36, 3) := dk_167 0 36 (dk_at dksX4_needed_3 14 rfl rfl)
theorem dX4_needed_86 : decode cX4_needed 86 = .ok (.aload_n 0, 1) := dk_42 (dk_at dksX4_needed_3 17 rfl rfl)
theorem dX4_needed_87 : decode cX4_needed 87 = .ok (.aload_n 0, 1) := dk_42 (dk_at dksX4_needed_3 18 rfl rfl)
theorem dX4_needed_88 : decode cX4_needed 88 = .ok (.getfield 35, 3) := dk_180 0 35 (dk_at dksX4_needed_3 19 rfl rfl)
theorem dX4_needed_91 : decode cX4_needed 91 = .ok (.iload 6, 2) := dk_21 6 (dk_at dksX4_needed_3 22 rfl rfl)
theorem dX4_needed_93 : decode cX4_needed 93 = .ok (.aaload, 1) := dk_50 (dk_at dksX4_needed_4 0 rfl rfl)
theorem dX4_needed_94 : decode cX4_needed 94 = .ok (.invokevirtual 227, 3) := dk_182 0 227 (dk_at dksX4_needed_4 1 rfl rfl)
theorem dX4_needed_97 : decode cX4_needed 97 = .ok (.istore 7, 2) := dk_54 7 (dk_at dksX4_needed_4 4 rfl rfl)
theorem dX4_needed_99 : decode cX4_needed 99 = .ok (.iload 7, 2) := dk_21 7 (dk_at dksX4_needed_4 6 rfl rfl)
theorem dX4_needed_101 : decode cX4_needed 101 = .ok (.ifCond .eq 11, 3) := dk_153 0 11 (dk_at dksX4_needed_4 8 rfl rfl)
theorem dX4_needed_104 : decode cX4_needed 104 = .ok (.iload 7, 2) := dk_21 7 (dk_at dksX4_needed_4 11 rfl rfl)
theorem dX4_needed_106 : decode cX4_needed 106 = .ok (.iload 4, 2) := dk_21 4 (dk_at dksX4_needed_4 13 rfl rfl)
theorem dX4_needed_108 : decode cX4_needed 108 = .ok (.iand, 1) := dk_126 (dk_at dksX4_needed_4 15 rfl rfl)
theorem dX4_needed_109 : decode cX4_needed 109 = .ok (.ifCond .eq 7, 3) := dk_153 0 7 (dk_at dksX4_needed_4 16 rfl rfl)
theorem dX4_needed_112 : decode cX4_needed 112 = .ok (.iconst 1, 1) := dk_4 (dk_at dksX4_needed_4 19 rfl rfl)
theorem dX4_needed_113 : decode cX4_needed 113 = .ok (.goto 4, 3) := dk_167 0 4 (dk_at dksX4_needed_4 20 rfl rfl)
theorem dX4_needed_116 : decode cX4_needed 116 = .ok (.iconst 0, 1) := dk_3 (dk_at dksX4_needed_4 23 rfl rfl)
theorem dX4_needed_117 : decode cX4_needed 117 = .ok (.istore 5, 2) := dk_54 5 (dk_at dksX4_needed_5 0 rfl rfl)
theorem dX4_needed_119 : decode cX4_needed 119 = .ok (.iinc 6 1, 3) := dk_132 6 1 (dk_at dksX4_needed_5 2 rfl rfl)
theorem dX4_needed_122 : decode cX4_needed 122 = .ok (.goto (-80), 3) := dk_167 255 176 (dk_at dksX4_needed_5 5 rfl rfl)
theorem dX4_needed_125 : decode cX4_needed 125 = .ok (.iload 5, 2) := dk_21 5 (dk_at dksX4_needed_5 8 rfl rfl)
theorem dX4_needed_127 : decode cX4_needed 127 = .ok (.ifCond .eq 6, 3) := dk_153 0 6 (dk_at dksX4_needed_5 10 rfl rfl)
theorem dX4_needed_130 : decode cX4_needed 130 = .ok (.iload 4, 2) := dk_21 4 (dk_at dksX4_needed_5 13 rfl rfl)
theorem dX4_needed_132 : decode cX4_needed 132 = .ok (.istore_n 3, 1) := dk_62 (dk_at dksX4_needed_5 15 rfl rfl)
theorem dX4_needed_133 : decode cX4_needed 133 = .ok (.iinc 4 1, 3) := dk_132 4 1 (dk_at dksX4_needed_5 16 rfl rfl)
theorem dX4_needed_136 : decode cX4_needed 136 = .ok (.goto (-131), 3) := dk_167 255 125 (dk_at dksX4_needed_5 19 rfl rfl)
theorem dX4_needed_139 : decode cX4_needed 139 = .ok (.iload_n 3, 1) := dk_29 (dk_at dksX4_needed_5 22 rfl rfl)
theorem dX4_needed_140 : decode cX4_needed 140 = .ok (.ireturn, 1) := dk_172 (dk_at dksX4_needed_5 23 rfl rfl)
abbrev cX4_isCase : ByteArray := prog_12_method_15_code
def yX4_isCase : MethodName := ⟨RX4, "isCase", "(I)Z"⟩
def dkwX4_isCase_1 : List UInt8 := [3, 172]
abbrev dktX4_isCase_1 : List UInt8 := dkwX4_isCase_1 ++ []
def dkwX4_isCase_0 : List UInt8 := [42, 180, 0, 35, 27, 50, 182, 0, 221, 154, 0, 15, 42, 27, 182, 0, 218, 153, 0, 7, 4, 167, 0, 4]
abbrev dktX4_isCase_0 : List UInt8 := dkwX4_isCase_0 ++ dktX4_isCase_1
theorem dksX4_isCase_0 : cX4_isCase.data.toList.drop 0 = dktX4_isCase_0 := by decide +kernel
theorem dksX4_isCase_1 : cX4_isCase.data.toList.drop 24 = dktX4_isCase_1 := dk_seg dksX4_isCase_0 24 rfl rfl
theorem dX4_isCase_0 : decode cX4_isCase 0 = .ok (.aload_n 0, 1) := dk_42 (dk_at dksX4_isCase_0 0 rfl rfl)
theorem dX4_isCase_1 : decode cX4_isCase 1 = .ok (.getfield 35, 3) := dk_180 0 35 (dk_at dksX4_isCase_0 1 rfl rfl)
theorem dX4_isCase_4 : decode cX4_isCase 4 = .ok (.iload_n 1, 1) := dk_27 (dk_at dksX4_isCase_0 4 rfl rfl)
theorem dX4_isCase_5 : decode cX4_isCase 5 = .ok (.aaload, 1) := dk_50 (dk_at dksX4_isCase_0 5 rfl rfl)
theorem dX4_isCase_6 : decode cX4_isCase 6 = .ok (.invokevirtual 221, 3) := dk_182 0 221 (dk_at dksX4_isCase_0 6 rfl rfl)
theorem dX4_isCase_9 : decode cX4_isCase 9 = .ok (.ifCond .ne 15, 3) := dk_154 0 15 (dk_at dksX4_isCase_0 9 rfl rfl)
theorem dX4_isCase_12 : decode cX4_isCase 12 = .ok (.aload_n 0, 1) := dk_42 (dk_at dksX4_isCase_0 12 rfl rfl)
theorem dX4_isCase_13 : decode cX4_isCase 13 = .ok (.iload_n 1, 1) := dk_27 (dk_at dksX4_isCase_0 13 rfl rfl)
theorem dX4_isCase_14 : decode cX4_isCase 14 = .ok (.invokevirtual 218, 3) := dk_182 0 218 (dk_at dksX4_isCase_0 14 rfl rfl)
theorem dX4_isCase_17 : decode cX4_isCase 17 = .ok (.ifCond .eq 7, 3) := dk_153 0 7 (dk_at dksX4_isCase_0 17 rfl rfl)
theorem dX4_isCase_20 : decode cX4_isCase 20 = .ok (.iconst 1, 1) := dk_4 (dk_at dksX4_isCase_0 20 rfl rfl)
theorem dX4_isCase_21 : decode cX4_isCase 21 = .ok (.goto 4, 3) := dk_167 0 4 (dk_at dksX4_isCase_0 21 rfl rfl)
theorem dX4_isCase_24 : decode cX4_isCase 24 = .ok (.iconst 0, 1) := dk_3 (dk_at dksX4_isCase_1 0 rfl rfl)
theorem dX4_isCase_25 : decode cX4_isCase 25 = .ok (.ireturn, 1) := dk_172 (dk_at dksX4_isCase_1 1 rfl rfl)
abbrev cX4_sure : ByteArray := prog_12_method_17_code
def yX4_sure : MethodName := ⟨RX4, "sure", "(I)I"⟩
def dkwX4_sure_1 : List UInt8 := [160, 0, 10, 28, 184, 0, 239, 167, 0, 4, 2, 172]
abbrev dktX4_sure_1 : List UInt8 := dkwX4_sure_1 ++ []
def dkwX4_sure_0 : List UInt8 := [42, 42, 180, 0, 35, 27, 50, 182, 0, 227, 61, 42, 27, 182, 0, 231, 153, 0, 18, 28, 184, 0, 234, 4]
abbrev dktX4_sure_0 : List UInt8 := dkwX4_sure_0 ++ dktX4_sure_1
theorem dksX4_sure_0 : cX4_sure.data.toList.drop 0 = dktX4_sure_0 := by decide +kernel
theorem dksX4_sure_1 : cX4_sure.data.toList.drop 24 = dktX4_sure_1 := dk_seg dksX4_sure_0 24 rfl rfl
theorem dX4_sure_0 : decode cX4_sure 0 = .ok (.aload_n 0, 1) := dk_42 (dk_at dksX4_sure_0 0 rfl rfl)
theorem dX4_sure_1 : decode cX4_sure 1 = .ok (.aload_n 0, 1) := dk_42 (dk_at dksX4_sure_0 1 rfl rfl)
theorem dX4_sure_2 : decode cX4_sure 2 = .ok (.getfield 35, 3) := dk_180 0 35 (dk_at dksX4_sure_0 2 rfl rfl)
theorem dX4_sure_5 : decode cX4_sure 5 = .ok (.iload_n 1, 1) := dk_27 (dk_at dksX4_sure_0 5 rfl rfl)
theorem dX4_sure_6 : decode cX4_sure 6 = .ok (.aaload, 1) := dk_50 (dk_at dksX4_sure_0 6 rfl rfl)
theorem dX4_sure_7 : decode cX4_sure 7 = .ok (.invokevirtual 227, 3) := dk_182 0 227 (dk_at dksX4_sure_0 7 rfl rfl)
theorem dX4_sure_10 : decode cX4_sure 10 = .ok (.istore_n 2, 1) := dk_61 (dk_at dksX4_sure_0 10 rfl rfl)
theorem dX4_sure_11 : decode cX4_sure 11 = .ok (.aload_n 0, 1) := dk_42 (dk_at dksX4_sure_0 11 rfl rfl)
theorem dX4_sure_12 : decode cX4_sure 12 = .ok (.iload_n 1, 1) := dk_27 (dk_at dksX4_sure_0 12 rfl rfl)
theorem dX4_sure_13 : decode cX4_sure 13 = .ok (.invokevirtual 231, 3) := dk_182 0 231 (dk_at dksX4_sure_0 13 rfl rfl)
theorem dX4_sure_16 : decode cX4_sure 16 = .ok (.ifCond .eq 18, 3) := dk_153 0 18 (dk_at dksX4_sure_0 16 rfl rfl)
theorem dX4_sure_19 : decode cX4_sure 19 = .ok (.iload_n 2, 1) := dk_28 (dk_at dksX4_sure_0 19 rfl rfl)
theorem dX4_sure_20 : decode cX4_sure 20 = .ok (.invokestatic 234, 3) := dk_184 0 234 (dk_at dksX4_sure_0 20 rfl rfl)
theorem dX4_sure_23 : decode cX4_sure 23 = .ok (.iconst 1, 1) := dk_4 (dk_at dksX4_sure_0 23 rfl rfl)
theorem dX4_sure_24 : decode cX4_sure 24 = .ok (.if_icmp .ne 10, 3) := dk_160 0 10 (dk_at dksX4_sure_1 0 rfl rfl)
theorem dX4_sure_27 : decode cX4_sure 27 = .ok (.iload_n 2, 1) := dk_28 (dk_at dksX4_sure_1 3 rfl rfl)
theorem dX4_sure_28 : decode cX4_sure 28 = .ok (.invokestatic 239, 3) := dk_184 0 239 (dk_at dksX4_sure_1 4 rfl rfl)
theorem dX4_sure_31 : decode cX4_sure 31 = .ok (.goto 4, 3) := dk_167 0 4 (dk_at dksX4_sure_1 7 rfl rfl)
theorem dX4_sure_34 : decode cX4_sure 34 = .ok (.iconst (-1), 1) := dk_2 (dk_at dksX4_sure_1 10 rfl rfl)
theorem dX4_sure_35 : decode cX4_sure 35 = .ok (.ireturn, 1) := dk_172 (dk_at dksX4_sure_1 11 rfl rfl)
abbrev cX4_heap : ByteArray := prog_12_method_20_code
def yX4_heap : MethodName := ⟨RX4, "heap", "(I)I"⟩
def dkwX4_heap_2 : List UInt8 := [167, 255, 216, 28, 172]
abbrev dktX4_heap_2 : List UInt8 := dkwX4_heap_2 ++ []
def dkwX4_heap_1 : List UInt8 := [180, 0, 35, 29, 50, 182, 0, 242, 27, 160, 0, 7, 4, 167, 0, 4, 3, 96, 61, 132, 3, 1]
abbrev dktX4_heap_1 : List UInt8 := dkwX4_heap_1 ++ dktX4_heap_2
def dkwX4_heap_0 : List UInt8 := [3, 61, 3, 62, 29, 42, 180, 0, 100, 162, 0, 38, 28, 42, 29, 182, 0, 231, 153, 0, 20, 42]
abbrev dktX4_heap_0 : List UInt8 := dkwX4_heap_0 ++ dktX4_heap_1
theorem dksX4_heap_0 : cX4_heap.data.toList.drop 0 = dktX4_heap_0 := by decide +kernel
theorem dksX4_heap_1 : cX4_heap.data.toList.drop 22 = dktX4_heap_1 := dk_seg dksX4_heap_0 22 rfl rfl
theorem dksX4_heap_2 : cX4_heap.data.toList.drop 44 = dktX4_heap_2 := dk_seg dksX4_heap_1 22 rfl rfl
theorem dX4_heap_0 : decode cX4_heap 0 = .ok (.iconst 0, 1) := dk_3 (dk_at dksX4_heap_0 0 rfl rfl)
theorem dX4_heap_1 : decode cX4_heap 1 = .ok (.istore_n 2, 1) := dk_61 (dk_at dksX4_heap_0 1 rfl rfl)
theorem dX4_heap_2 : decode cX4_heap 2 = .ok (.iconst 0, 1) := dk_3 (dk_at dksX4_heap_0 2 rfl rfl)
theorem dX4_heap_3 : decode cX4_heap 3 = .ok (.istore_n 3, 1) := dk_62 (dk_at dksX4_heap_0 3 rfl rfl)
theorem dX4_heap_4 : decode cX4_heap 4 = .ok (.iload_n 3, 1) := dk_29 (dk_at dksX4_heap_0 4 rfl rfl)
theorem dX4_heap_5 : decode cX4_heap 5 = .ok (.aload_n 0, 1) := dk_42 (dk_at dksX4_heap_0 5 rfl rfl)
theorem dX4_heap_6 : decode cX4_heap 6 = .ok (.getfield 100, 3) := dk_180 0 100 (dk_at dksX4_heap_0 6 rfl rfl)
theorem dX4_heap_9 : decode cX4_heap 9 = .ok (.if_icmp .ge 38, 3) := dk_162 0 38 (dk_at dksX4_heap_0 9 rfl rfl)
theorem dX4_heap_12 : decode cX4_heap 12 = .ok (.iload_n 2, 1) := dk_28 (dk_at dksX4_heap_0 12 rfl rfl)
theorem dX4_heap_13 : decode cX4_heap 13 = .ok (.aload_n 0, 1) := dk_42 (dk_at dksX4_heap_0 13 rfl rfl)
theorem dX4_heap_14 : decode cX4_heap 14 = .ok (.iload_n 3, 1) := dk_29 (dk_at dksX4_heap_0 14 rfl rfl)
theorem dX4_heap_15 : decode cX4_heap 15 = .ok (.invokevirtual 231, 3) := dk_182 0 231 (dk_at dksX4_heap_0 15 rfl rfl)
theorem dX4_heap_18 : decode cX4_heap 18 = .ok (.ifCond .eq 20, 3) := dk_153 0 20 (dk_at dksX4_heap_0 18 rfl rfl)
theorem dX4_heap_21 : decode cX4_heap 21 = .ok (.aload_n 0, 1) := dk_42 (dk_at dksX4_heap_0 21 rfl rfl)
theorem dX4_heap_22 : decode cX4_heap 22 = .ok (.getfield 35, 3) := dk_180 0 35 (dk_at dksX4_heap_1 0 rfl rfl)
theorem dX4_heap_25 : decode cX4_heap 25 = .ok (.iload_n 3, 1) := dk_29 (dk_at dksX4_heap_1 3 rfl rfl)
theorem dX4_heap_26 : decode cX4_heap 26 = .ok (.aaload, 1) := dk_50 (dk_at dksX4_heap_1 4 rfl rfl)
theorem dX4_heap_27 : decode cX4_heap 27 = .ok (.invokevirtual 242, 3) := dk_182 0 242 (dk_at dksX4_heap_1 5 rfl rfl)
theorem dX4_heap_30 : decode cX4_heap 30 = .ok (.iload_n 1, 1) := dk_27 (dk_at dksX4_heap_1 8 rfl rfl)
theorem dX4_heap_31 : decode cX4_heap 31 = .ok (.if_icmp .ne 7, 3) := dk_160 0 7 (dk_at dksX4_heap_1 9 rfl rfl)
theorem dX4_heap_34 : decode cX4_heap 34 = .ok (.iconst 1, 1) := dk_4 (dk_at dksX4_heap_1 12 rfl rfl)
theorem dX4_heap_35 : decode cX4_heap 35 = .ok (.goto 4, 3) := dk_167 0 4 (dk_at dksX4_heap_1 13 rfl rfl)
theorem dX4_heap_38 : decode cX4_heap 38 = .ok (.iconst 0, 1) := dk_3 (dk_at dksX4_heap_1 16 rfl rfl)
theorem dX4_heap_39 : decode cX4_heap 39 = .ok (.iadd, 1) := dk_96 (dk_at dksX4_heap_1 17 rfl rfl)
theorem dX4_heap_40 : decode cX4_heap 40 = .ok (.istore_n 2, 1) := dk_61 (dk_at dksX4_heap_1 18 rfl rfl)
theorem dX4_heap_41 : decode cX4_heap 41 = .ok (.iinc 3 1, 3) := dk_132 3 1 (dk_at dksX4_heap_1 19 rfl rfl)
theorem dX4_heap_44 : decode cX4_heap 44 = .ok (.goto (-40), 3) := dk_167 255 216 (dk_at dksX4_heap_2 0 rfl rfl)
theorem dX4_heap_47 : decode cX4_heap 47 = .ok (.iload_n 2, 1) := dk_28 (dk_at dksX4_heap_2 3 rfl rfl)
theorem dX4_heap_48 : decode cX4_heap 48 = .ok (.ireturn, 1) := dk_172 (dk_at dksX4_heap_2 4 rfl rfl)
abbrev cX5_init : ByteArray := prog_27_method_1_code
def yX5_init : MethodName := ⟨RX5, "<init>", "(LGrassField$House;)V"⟩
def dkwX5_init_1 : List UInt8 := [17, 1, 0, 16, 8, 197, 0, 18, 2, 181, 0, 20, 42, 43, 181, 0, 23, 177]
abbrev dktX5_init_1 : List UInt8 := dkwX5_init_1 ++ []
def dkwX5_init_0 : List UInt8 := [42, 183, 0, 3, 42, 16, 8, 188, 10, 181, 0, 9, 42, 17, 1, 0, 188, 10, 181, 0, 15, 42]
abbrev dktX5_init_0 : List UInt8 := dkwX5_init_0 ++ dktX5_init_1
theorem dksX5_init_0 : cX5_init.data.toList.drop 0 = dktX5_init_0 := by decide +kernel
theorem dksX5_init_1 : cX5_init.data.toList.drop 22 = dktX5_init_1 := dk_seg dksX5_init_0 22 rfl rfl
theorem dX5_init_0 : decode cX5_init 0 = .ok (.aload_n 0, 1) := dk_42 (dk_at dksX5_init_0 0 rfl rfl)
theorem dX5_init_1 : decode cX5_init 1 = .ok (.invokespecial 3, 3) := dk_183 0 3 (dk_at dksX5_init_0 1 rfl rfl)
theorem dX5_init_4 : decode cX5_init 4 = .ok (.aload_n 0, 1) := dk_42 (dk_at dksX5_init_0 4 rfl rfl)
theorem dX5_init_5 : decode cX5_init 5 = .ok (.bipush 8, 2) := dk_16 8 (dk_at dksX5_init_0 5 rfl rfl)
theorem dX5_init_7 : decode cX5_init 7 = .ok (.newarray .int, 2) := dk_188_10 (dk_at dksX5_init_0 7 rfl rfl)
theorem dX5_init_9 : decode cX5_init 9 = .ok (.putfield 9, 3) := dk_181 0 9 (dk_at dksX5_init_0 9 rfl rfl)
theorem dX5_init_12 : decode cX5_init 12 = .ok (.aload_n 0, 1) := dk_42 (dk_at dksX5_init_0 12 rfl rfl)
theorem dX5_init_13 : decode cX5_init 13 = .ok (.sipush 256, 3) := dk_17 1 0 (dk_at dksX5_init_0 13 rfl rfl)
theorem dX5_init_16 : decode cX5_init 16 = .ok (.newarray .int, 2) := dk_188_10 (dk_at dksX5_init_0 16 rfl rfl)
theorem dX5_init_18 : decode cX5_init 18 = .ok (.putfield 15, 3) := dk_181 0 15 (dk_at dksX5_init_0 18 rfl rfl)
theorem dX5_init_21 : decode cX5_init 21 = .ok (.aload_n 0, 1) := dk_42 (dk_at dksX5_init_0 21 rfl rfl)
theorem dX5_init_22 : decode cX5_init 22 = .ok (.sipush 256, 3) := dk_17 1 0 (dk_at dksX5_init_1 0 rfl rfl)
theorem dX5_init_25 : decode cX5_init 25 = .ok (.bipush 8, 2) := dk_16 8 (dk_at dksX5_init_1 3 rfl rfl)
theorem dX5_init_27 : decode cX5_init 27 = .ok (.multianewarray 18 2, 4) := by decide +kernel
theorem dX5_init_31 : decode cX5_init 31 = .ok (.putfield 20, 3) := dk_181 0 20 (dk_at dksX5_init_1 9 rfl rfl)
theorem dX5_init_34 : decode cX5_init 34 = .ok (.aload_n 0, 1) := dk_42 (dk_at dksX5_init_1 12 rfl rfl)
theorem dX5_init_35 : decode cX5_init 35 = .ok (.aload_n 1, 1) := dk_43 (dk_at dksX5_init_1 13 rfl rfl)
theorem dX5_init_36 : decode cX5_init 36 = .ok (.putfield 23, 3) := dk_181 0 23 (dk_at dksX5_init_1 14 rfl rfl)
theorem dX5_init_39 : decode cX5_init 39 = .ok (.return_, 1) := dk_177 (dk_at dksX5_init_1 17 rfl rfl)
abbrev cX5_gather : ByteArray := prog_27_method_2_code
def yX5_gather : MethodName := ⟨RX5, "gather", "(I)V"⟩
def dkwX5_gather_2 : List UInt8 := [180, 0, 27, 28, 79, 42, 89, 180, 0, 27, 4, 96, 181, 0, 27, 132, 2, 1, 167, 255, 198, 177]
abbrev dktX5_gather_2 : List UInt8 := dkwX5_gather_2 ++ []
def dkwX5_gather_1 : List UInt8 := [162, 0, 44, 42, 180, 0, 23, 28, 182, 0, 36, 27, 159, 0, 6, 167, 0, 23, 42, 180, 0, 9, 42]
abbrev dktX5_gather_1 : List UInt8 := dkwX5_gather_1 ++ dktX5_gather_2
def dkwX5_gather_0 : List UInt8 := [42, 3, 181, 0, 27, 3, 61, 28, 42, 180, 0, 23, 180, 0, 31, 162, 0, 53, 42, 180, 0, 27, 16, 8]
abbrev dktX5_gather_0 : List UInt8 := dkwX5_gather_0 ++ dktX5_gather_1
theorem dksX5_gather_0 : cX5_gather.data.toList.drop 0 = dktX5_gather_0 := by decide +kernel
theorem dksX5_gather_1 : cX5_gather.data.toList.drop 24 = dktX5_gather_1 := dk_seg dksX5_gather_0 24 rfl rfl
theorem dksX5_gather_2 : cX5_gather.data.toList.drop 47 = dktX5_gather_2 := dk_seg dksX5_gather_1 23 rfl rfl
theorem dX5_gather_0 : decode cX5_gather 0 = .ok (.aload_n 0, 1) := dk_42 (dk_at dksX5_gather_0 0 rfl rfl)
theorem dX5_gather_1 : decode cX5_gather 1 = .ok (.iconst 0, 1) := dk_3 (dk_at dksX5_gather_0 1 rfl rfl)
theorem dX5_gather_2 : decode cX5_gather 2 = .ok (.putfield 27, 3) := dk_181 0 27 (dk_at dksX5_gather_0 2 rfl rfl)
theorem dX5_gather_5 : decode cX5_gather 5 = .ok (.iconst 0, 1) := dk_3 (dk_at dksX5_gather_0 5 rfl rfl)
theorem dX5_gather_6 : decode cX5_gather 6 = .ok (.istore_n 2, 1) := dk_61 (dk_at dksX5_gather_0 6 rfl rfl)
theorem dX5_gather_7 : decode cX5_gather 7 = .ok (.iload_n 2, 1) := dk_28 (dk_at dksX5_gather_0 7 rfl rfl)
theorem dX5_gather_8 : decode cX5_gather 8 = .ok (.aload_n 0, 1) := dk_42 (dk_at dksX5_gather_0 8 rfl rfl)
theorem dX5_gather_9 : decode cX5_gather 9 = .ok (.getfield 23, 3) := dk_180 0 23 (dk_at dksX5_gather_0 9 rfl rfl)
theorem dX5_gather_12 : decode cX5_gather 12 = .ok (.getfield 31, 3) := dk_180 0 31 (dk_at dksX5_gather_0 12 rfl rfl)
theorem dX5_gather_15 : decode cX5_gather 15 = .ok (.if_icmp .ge 53, 3) := dk_162 0 53 (dk_at dksX5_gather_0 15 rfl rfl)
theorem dX5_gather_18 : decode cX5_gather 18 = .ok (.aload_n 0, 1) := dk_42 (dk_at dksX5_gather_0 18 rfl rfl)
theorem dX5_gather_19 : decode cX5_gather 19 = .ok (.getfield 27, 3) := dk_180 0 27 (dk_at dksX5_gather_0 19 rfl rfl)
theorem dX5_gather_22 : decode cX5_gather 22 = .ok (.bipush 8, 2) := dk_16 8 (dk_at dksX5_gather_0 22 rfl rfl)
theorem dX5_gather_24 : decode cX5_gather 24 = .ok (.if_icmp .ge 44, 3) := dk_162 0 44 (dk_at dksX5_gather_1 0 rfl rfl)
theorem dX5_gather_27 : decode cX5_gather 27 = .ok (.aload_n 0, 1) := dk_42 (dk_at dksX5_gather_1 3 rfl rfl)
theorem dX5_gather_28 : decode cX5_gather 28 = .ok (.getfield 23, 3) := dk_180 0 23 (dk_at dksX5_gather_1 4 rfl rfl)
theorem dX5_gather_31 : decode cX5_gather 31 = .ok (.iload_n 2, 1) := dk_28 (dk_at dksX5_gather_1 7 rfl rfl)
theorem dX5_gather_32 : decode cX5_gather 32 = .ok (.invokevirtual 36, 3) := dk_182 0 36 (dk_at dksX5_gather_1 8 rfl rfl)
theorem dX5_gather_35 : decode cX5_gather 35 = .ok (.iload_n 1, 1) := dk_27 (dk_at dksX5_gather_1 11 rfl rfl)
theorem dX5_gather_36 : decode cX5_gather 36 = .ok (.if_icmp .eq 6, 3) := dk_159 0 6 (dk_at dksX5_gather_1 12 rfl rfl)
theorem dX5_gather_39 : decode cX5_gather 39 = .ok (.goto 23, 3) := dk_167 0 23 (dk_at dksX5_gather_1 15 rfl rfl)
theorem dX5_gather_42 : decode cX5_gather 42 = .ok (.aload_n 0, 1) := dk_42 (dk_at dksX5_gather_1 18 rfl rfl)
theorem dX5_gather_43 : decode cX5_gather 43 = .ok (.getfield 9, 3) := dk_180 0 9 (dk_at dksX5_gather_1 19 rfl rfl)
theorem dX5_gather_46 : decode cX5_gather 46 = .ok (.aload_n 0, 1) := dk_42 (dk_at dksX5_gather_1 22 rfl rfl)
theorem dX5_gather_47 : decode cX5_gather 47 = .ok (.getfield 27, 3) := dk_180 0 27 (dk_at dksX5_gather_2 0 rfl rfl)
theorem dX5_gather_50 : decode cX5_gather 50 = .ok (.iload_n 2, 1) := dk_28 (dk_at dksX5_gather_2 3 rfl rfl)
theorem dX5_gather_51 : decode cX5_gather 51 = .ok (.iastore, 1) := dk_79 (dk_at dksX5_gather_2 4 rfl rfl)
theorem dX5_gather_52 : decode cX5_gather 52 = .ok (.aload_n 0, 1) := dk_42 (dk_at dksX5_gather_2 5 rfl rfl)
theorem dX5_gather_53 : decode cX5_gather 53 = .ok (.dup, 1) := dk_89 (dk_at dksX5_gather_2 6 rfl rfl)
theorem dX5_gather_54 : decode cX5_gather 54 = .ok (.getfield 27, 3) := dk_180 0 27 (dk_at dksX5_gather_2 7 rfl rfl)
theorem dX5_gather_57 : decode cX5_gather 57 = .ok (.iconst 1, 1) := dk_4 (dk_at dksX5_gather_2 10 rfl rfl)
theorem dX5_gather_58 : decode cX5_gather 58 = .ok (.iadd, 1) := dk_96 (dk_at dksX5_gather_2 11 rfl rfl)
theorem dX5_gather_59 : decode cX5_gather 59 = .ok (.putfield 27, 3) := dk_181 0 27 (dk_at dksX5_gather_2 12 rfl rfl)
theorem dX5_gather_62 : decode cX5_gather 62 = .ok (.iinc 2 1, 3) := dk_132 2 1 (dk_at dksX5_gather_2 15 rfl rfl)
theorem dX5_gather_65 : decode cX5_gather 65 = .ok (.goto (-58), 3) := dk_167 255 198 (dk_at dksX5_gather_2 18 rfl rfl)
theorem dX5_gather_68 : decode cX5_gather 68 = .ok (.return_, 1) := dk_177 (dk_at dksX5_gather_2 21 rfl rfl)
abbrev cX5_hands : ByteArray := prog_27_method_7_code
def yX5_hands : MethodName := ⟨RX5, "hands", "()I"⟩
def dkwX5_hands_4 : List UInt8 := [42, 180, 0, 27, 120, 4, 100, 46, 172]
abbrev dktX5_hands_4 : List UInt8 := dkwX5_hands_4 ++ []
def dkwX5_hands_3 : List UInt8 := [184, 0, 76, 79, 28, 4, 100, 27, 126, 61, 167, 255, 209, 132, 1, 1, 167, 255, 183, 42, 180, 0, 15, 4]
abbrev dktX5_hands_3 : List UInt8 := dkwX5_hands_3 ++ dktX5_hands_4
def dkwX5_hands_2 : List UInt8 := [42, 180, 0, 15, 27, 42, 180, 0, 15, 27, 46, 42, 180, 0, 15, 27, 28, 2, 130, 126, 46, 4, 96]
abbrev dktX5_hands_2 : List UInt8 := dkwX5_hands_2 ++ dktX5_hands_3
def dkwX5_hands_1 : List UInt8 := [42, 180, 0, 15, 27, 18, 61, 79, 27, 61, 28, 158, 0, 49, 42, 28, 182, 0, 83, 18, 61, 162, 0, 30]
abbrev dktX5_hands_1 : List UInt8 := dkwX5_hands_1 ++ dktX5_hands_2
def dkwX5_hands_0 : List UInt8 := [42, 2, 182, 0, 79, 42, 180, 0, 15, 3, 3, 79, 4, 60, 27, 4, 42, 180, 0, 27, 120, 162, 0, 69]
abbrev dktX5_hands_0 : List UInt8 := dkwX5_hands_0 ++ dktX5_hands_1
theorem dksX5_hands_0 : cX5_hands.data.toList.drop 0 = dktX5_hands_0 := by decide +kernel
theorem dksX5_hands_1 : cX5_hands.data.toList.drop 24 = dktX5_hands_1 := dk_seg dksX5_hands_0 24 rfl rfl
theorem dksX5_hands_2 : cX5_hands.data.toList.drop 48 = dktX5_hands_2 := dk_seg dksX5_hands_1 24 rfl rfl
theorem dksX5_hands_3 : cX5_hands.data.toList.drop 71 = dktX5_hands_3 := dk_seg dksX5_hands_2 23 rfl rfl
theorem dksX5_hands_4 : cX5_hands.data.toList.drop 95 = dktX5_hands_4 := dk_seg dksX5_hands_3 24 rfl rfl
theorem dX5_hands_0 : decode cX5_hands 0 = .ok (.aload_n 0, 1) := dk_42 (dk_at dksX5_hands_0 0 rfl rfl)
theorem dX5_hands_1 : decode cX5_hands 1 = .ok (.iconst (-1), 1) := dk_2 (dk_at dksX5_hands_0 1 rfl rfl)
theorem dX5_hands_2 : decode cX5_hands 2 = .ok (.invokevirtual 79, 3) := dk_182 0 79 (dk_at dksX5_hands_0 2 rfl rfl)
theorem dX5_hands_5 : decode cX5_hands 5 = .ok (.aload_n 0, 1) := dk_42 (dk_at dksX5_hands_0 5 rfl rfl)
theorem dX5_hands_6 : decode cX5_hands 6 = .ok (.getfield 15, 3) := dk_180 0 15 (dk_at dksX5_hands_0 6 rfl rfl)
theorem dX5_hands_9 : decode cX5_hands 9 = .ok (.iconst 0, 1) := dk_3 (dk_at dksX5_hands_0 9 rfl rfl)
theorem dX5_hands_10 : decode cX5_hands 10 = .ok (.iconst 0, 1) := dk_3 (dk_at dksX5_hands_0 10 rfl rfl)
theorem dX5_hands_11 : decode cX5_hands 11 = .ok (.iastore, 1) := dk_79 (dk_at dksX5_hands_0 11 rfl rfl)
theorem dX5_hands_12 : decode cX5_hands 12 = .ok (.iconst 1, 1) := dk_4 (dk_at dksX5_hands_0 12 rfl rfl)
theorem dX5_hands_13 : decode cX5_hands 13 = .ok (.istore_n 1, 1) := dk_60 (dk_at dksX5_hands_0 13 rfl rfl)
theorem dX5_hands_14 : decode cX5_hands 14 = .ok (.iload_n 1, 1) := dk_27 (dk_at dksX5_hands_0 14 rfl rfl)
theorem dX5_hands_15 : decode cX5_hands 15 = .ok (.iconst 1, 1) := dk_4 (dk_at dksX5_hands_0 15 rfl rfl)
theorem dX5_hands_16 : decode cX5_hands 16 = .ok (.aload_n 0, 1) := dk_42 (dk_at dksX5_hands_0 16 rfl rfl)
theorem dX5_hands_17 : decode cX5_hands 17 = .ok (.getfield 27, 3) := dk_180 0 27 (dk_at dksX5_hands_0 17 rfl rfl)
theorem dX5_hands_20 : decode cX5_hands 20 = .ok (.ishl, 1) := dk_120 (dk_at dksX5_hands_0 20 rfl rfl)
theorem dX5_hands_21 : decode cX5_hands 21 = .ok (.if_icmp .ge 69, 3) := dk_162 0 69 (dk_at dksX5_hands_0 21 rfl rfl)
theorem dX5_hands_24 : decode cX5_hands 24 = .ok (.aload_n 0, 1) := dk_42 (dk_at dksX5_hands_1 0 rfl rfl)
theorem dX5_hands_25 : decode cX5_hands 25 = .ok (.getfield 15, 3) := dk_180 0 15 (dk_at dksX5_hands_1 1 rfl rfl)
theorem dX5_hands_28 : decode cX5_hands 28 = .ok (.iload_n 1, 1) := dk_27 (dk_at dksX5_hands_1 4 rfl rfl)
theorem dX5_hands_29 : decode cX5_hands 29 = .ok (.ldc 61, 2) := dk_18 61 (dk_at dksX5_hands_1 5 rfl rfl)
theorem dX5_hands_31 : decode cX5_hands 31 = .ok (.iastore, 1) := dk_79 (dk_at dksX5_hands_1 7 rfl rfl)
theorem dX5_hands_32 : decode cX5_hands 32 = .ok (.iload_n 1, 1) := dk_27 (dk_at dksX5_hands_1 8 rfl rfl)
theorem dX5_hands_33 : decode cX5_hands 33 = .ok (.istore_n 2, 1) := dk_61 (dk_at dksX5_hands_1 9 rfl rfl)
theorem dX5_hands_34 : decode cX5_hands 34 = .ok (.iload_n 2, 1) := dk_28 (dk_at dksX5_hands_1 10 rfl rfl)
theorem dX5_hands_35 : decode cX5_hands 35 = .ok (.ifCond .le 49, 3) := dk_158 0 49 (dk_at dksX5_hands_1 11 rfl rfl)
theorem dX5_hands_38 : decode cX5_hands 38 = .ok (.aload_n 0, 1) := dk_42 (dk_at dksX5_hands_1 14 rfl rfl)
theorem dX5_hands_39 : decode cX5_hands 39 = .ok (.iload_n 2, 1) := dk_28 (dk_at dksX5_hands_1 15 rfl rfl)
theorem dX5_hands_40 : decode cX5_hands 40 = .ok (.invokevirtual 83, 3) := dk_182 0 83 (dk_at dksX5_hands_1 16 rfl rfl)
theorem dX5_hands_43 : decode cX5_hands 43 = .ok (.ldc 61, 2) := dk_18 61 (dk_at dksX5_hands_1 19 rfl rfl)
theorem dX5_hands_45 : decode cX5_hands 45 = .ok (.if_icmp .ge 30, 3) := dk_162 0 30 (dk_at dksX5_hands_1 21 rfl rfl)
theorem dX5_hands_48 : decode cX5_hands 48 = .ok (.aload_n 0, 1) := dk_42 (dk_at dksX5_hands_2 0 rfl rfl)
theorem dX5_hands_49 : decode cX5_hands 49 = .ok (.getfield 15, 3) := dk_180 0 15 (dk_at dksX5_hands_2 1 rfl rfl)
theorem dX5_hands_52 : decode cX5_hands 52 = .ok (.iload_n 1, 1) := dk_27 (dk_at dksX5_hands_2 4 rfl rfl)
theorem dX5_hands_53 : decode cX5_hands 53 = .ok (.aload_n 0, 1) := dk_42 (dk_at dksX5_hands_2 5 rfl rfl)
theorem dX5_hands_54 : decode cX5_hands 54 = .ok (.getfield 15, 3) := dk_180 0 15 (dk_at dksX5_hands_2 6 rfl rfl)
theorem dX5_hands_57 : decode cX5_hands 57 = .ok (.iload_n 1, 1) := dk_27 (dk_at dksX5_hands_2 9 rfl rfl)
theorem dX5_hands_58 : decode cX5_hands 58 = .ok (.iaload, 1) := dk_46 (dk_at dksX5_hands_2 10 rfl rfl)
theorem dX5_hands_59 : decode cX5_hands 59 = .ok (.aload_n 0, 1) := dk_42 (dk_at dksX5_hands_2 11 rfl rfl)
theorem dX5_hands_60 : decode cX5_hands 60 = .ok (.getfield 15, 3) := dk_180 0 15 (dk_at dksX5_hands_2 12 rfl rfl)
theorem dX5_hands_63 : decode cX5_hands 63 = .ok (.iload_n 1, 1) := dk_27 (dk_at dksX5_hands_2 15 rfl rfl)
theorem dX5_hands_64 : decode cX5_hands 64 = .ok (.iload_n 2, 1) := dk_28 (dk_at dksX5_hands_2 16 rfl rfl)
theorem dX5_hands_65 : decode cX5_hands 65 = .ok (.iconst (-1), 1) := dk_2 (dk_at dksX5_hands_2 17 rfl rfl)
theorem dX5_hands_66 : decode cX5_hands 66 = .ok (.ixor, 1) := dk_130 (dk_at dksX5_hands_2 18 rfl rfl)
theorem dX5_hands_67 : decode cX5_hands 67 = .ok (.iand, 1) := dk_126 (dk_at dksX5_hands_2 19 rfl rfl)
theorem dX5_hands_68 : decode cX5_hands 68 = .ok (.iaload, 1) := dk_46 (dk_at dksX5_hands_2 20 rfl rfl)
theorem dX5_hands_69 : decode cX5_hands 69 = .ok (.iconst 1, 1) := dk_4 (dk_at dksX5_hands_2 21 rfl rfl)
theorem dX5_hands_70 : decode cX5_hands 70 = .ok (.iadd, 1) := dk_96 (dk_at dksX5_hands_2 22 rfl rfl)
theorem dX5_hands_71 : decode cX5_hands 71 = .ok (.invokestatic 76, 3) := dk_184 0 76 (dk_at dksX5_hands_3 0 rfl rfl)
theorem dX5_hands_74 : decode cX5_hands 74 = .ok (.iastore, 1) := dk_79 (dk_at dksX5_hands_3 3 rfl rfl)
theorem dX5_hands_75 : decode cX5_hands 75 = .ok (.iload_n 2, 1) := dk_28 (dk_at dksX5_hands_3 4 rfl rfl)
theorem dX5_hands_76 : decode cX5_hands 76 = .ok (.iconst 1, 1) := dk_4 (dk_at dksX5_hands_3 5 rfl rfl)
theorem dX5_hands_77 : decode cX5_hands 77 = .ok (.isub, 1) := dk_100 (dk_at dksX5_hands_3 6 rfl rfl)
theorem dX5_hands_78 : decode cX5_hands 78 = .ok (.iload_n 1, 1) := dk_27 (dk_at dksX5_hands_3 7 rfl rfl)
theorem dX5_hands_79 : decode cX5_hands 79 = .ok (.iand, 1) := dk_126 (dk_at dksX5_hands_3 8 rfl rfl)
theorem dX5_hands_80 : decode cX5_hands 80 = .ok (.istore_n 2, 1) := dk_61 (dk_at dksX5_hands_3 9 rfl rfl)
theorem dX5_hands_81 : decode cX5_hands 81 = .ok (.goto (-47), 3) := dk_167 255 209 (dk_at dksX5_hands_3 10 rfl rfl)
theorem dX5_hands_84 : decode cX5_hands 84 = .ok (.iinc 1 1, 3) := dk_132 1 1 (dk_at dksX5_hands_3 13 rfl rfl)
theorem dX5_hands_87 : decode cX5_hands 87 = .ok (.goto (-73), 3) := dk_167 255 183 (dk_at dksX5_hands_3 16 rfl rfl)
theorem dX5_hands_90 : decode cX5_hands 90 = .ok (.aload_n 0, 1) := dk_42 (dk_at dksX5_hands_3 19 rfl rfl)
theorem dX5_hands_91 : decode cX5_hands 91 = .ok (.getfield 15, 3) := dk_180 0 15 (dk_at dksX5_hands_3 20 rfl rfl)
theorem dX5_hands_94 : decode cX5_hands 94 = .ok (.iconst 1, 1) := dk_4 (dk_at dksX5_hands_3 23 rfl rfl)
theorem dX5_hands_95 : decode cX5_hands 95 = .ok (.aload_n 0, 1) := dk_42 (dk_at dksX5_hands_4 0 rfl rfl)
theorem dX5_hands_96 : decode cX5_hands 96 = .ok (.getfield 27, 3) := dk_180 0 27 (dk_at dksX5_hands_4 1 rfl rfl)
theorem dX5_hands_99 : decode cX5_hands 99 = .ok (.ishl, 1) := dk_120 (dk_at dksX5_hands_4 4 rfl rfl)
theorem dX5_hands_100 : decode cX5_hands 100 = .ok (.iconst 1, 1) := dk_4 (dk_at dksX5_hands_4 5 rfl rfl)
theorem dX5_hands_101 : decode cX5_hands 101 = .ok (.isub, 1) := dk_100 (dk_at dksX5_hands_4 6 rfl rfl)
theorem dX5_hands_102 : decode cX5_hands 102 = .ok (.iaload, 1) := dk_46 (dk_at dksX5_hands_4 7 rfl rfl)
theorem dX5_hands_103 : decode cX5_hands 103 = .ok (.ireturn, 1) := dk_172 (dk_at dksX5_hands_4 8 rfl rfl)
abbrev cX5_leads : ByteArray := prog_27_method_5_code
def yX5_leads : MethodName := ⟨RX5, "leads", "(I)V"⟩
def dkwX5_leads_10 : List UInt8 := [167, 255, 121, 132, 2, 1, 167, 255, 103, 177]
abbrev dktX5_leads_10 : List UInt8 := dkwX5_leads_10 ++ []
def dkwX5_leads_9 : List UInt8 := [4, 21, 4, 120, 128, 50, 21, 4, 46, 21, 5, 184, 0, 76, 79, 132, 4, 1, 167, 255, 154, 132, 3, 1]
abbrev dktX5_leads_9 : List UInt8 := dkwX5_leads_9 ++ dktX5_leads_10
def dkwX5_leads_8 : List UInt8 := [180, 0, 73, 163, 0, 36, 42, 180, 0, 20, 28, 4, 21, 4, 120, 128, 50, 21, 4, 42, 180, 0, 20, 28]
abbrev dktX5_leads_8 : List UInt8 := dkwX5_leads_8 ++ dktX5_leads_9
def dkwX5_leads_7 : List UInt8 := [50, 29, 46, 42, 29, 21, 4, 182, 0, 65, 96, 184, 0, 68, 54, 5, 21, 5, 42, 21, 4, 182, 0, 46]
abbrev dktX5_leads_7 : List UInt8 := dkwX5_leads_7 ++ dktX5_leads_8
def dkwX5_leads_6 : List UInt8 := [122, 4, 126, 4, 160, 0, 6, 167, 0, 80, 42, 21, 4, 182, 0, 46, 180, 0, 62, 42, 180, 0, 20, 28]
abbrev dktX5_leads_6 : List UInt8 := dkwX5_leads_6 ++ dktX5_leads_7
def dkwX5_leads_5 : List UInt8 := [46, 18, 61, 160, 0, 6, 167, 0, 111, 3, 54, 4, 21, 4, 42, 180, 0, 27, 162, 0, 99, 28, 21, 4]
abbrev dktX5_leads_5 : List UInt8 := dkwX5_leads_5 ++ dktX5_leads_6
def dkwX5_leads_4 : List UInt8 := [180, 0, 27, 120, 162, 0, 149, 3, 62, 29, 42, 180, 0, 27, 162, 0, 133, 42, 180, 0, 20, 28, 50, 29]
abbrev dktX5_leads_4 : List UInt8 := dkwX5_leads_4 ++ dktX5_leads_5
def dkwX5_leads_3 : List UInt8 := [50, 28, 42, 28, 182, 0, 46, 180, 0, 62, 79, 132, 2, 1, 167, 255, 217, 4, 61, 28, 4, 42]
abbrev dktX5_leads_3 : List UInt8 := dkwX5_leads_3 ++ dktX5_leads_4
def dkwX5_leads_2 : List UInt8 := [42, 180, 0, 27, 162, 0, 37, 27, 2, 159, 0, 8, 28, 27, 160, 0, 21, 42, 180, 0, 20, 4, 28, 120]
abbrev dktX5_leads_2 : List UInt8 := dkwX5_leads_2 ++ dktX5_leads_3
def dkwX5_leads_1 : List UInt8 := [180, 0, 20, 28, 50, 29, 18, 61, 79, 132, 3, 1, 167, 255, 235, 132, 2, 1, 167, 255, 217, 3, 61, 28]
abbrev dktX5_leads_1 : List UInt8 := dkwX5_leads_1 ++ dktX5_leads_2
def dkwX5_leads_0 : List UInt8 := [3, 61, 28, 4, 42, 180, 0, 27, 120, 162, 0, 35, 3, 62, 29, 42, 180, 0, 27, 162, 0, 19, 42]
abbrev dktX5_leads_0 : List UInt8 := dkwX5_leads_0 ++ dktX5_leads_1
theorem dksX5_leads_0 : cX5_leads.data.toList.drop 0 = dktX5_leads_0 := by decide +kernel
theorem dksX5_leads_1 : cX5_leads.data.toList.drop 23 = dktX5_leads_1 := dk_seg dksX5_leads_0 23 rfl rfl
theorem dksX5_leads_2 : cX5_leads.data.toList.drop 47 = dktX5_leads_2 := dk_seg dksX5_leads_1 24 rfl rfl
theorem dksX5_leads_3 : cX5_leads.data.toList.drop 71 = dktX5_leads_3 := dk_seg dksX5_leads_2 24 rfl rfl
theorem dksX5_leads_4 : cX5_leads.data.toList.drop 93 = dktX5_leads_4 := dk_seg dksX5_leads_3 22 rfl rfl
theorem dksX5_leads_5 : cX5_leads.data.toList.drop 117 = dktX5_leads_5 := dk_seg dksX5_leads_4 24 rfl rfl
theorem dksX5_leads_6 : cX5_leads.data.toList.drop 141 = dktX5_leads_6 := dk_seg dksX5_leads_5 24 rfl rfl
theorem dksX5_leads_7 : cX5_leads.data.toList.drop 165 = dktX5_leads_7 := dk_seg dksX5_leads_6 24 rfl rfl
theorem dksX5_leads_8 : cX5_leads.data.toList.drop 189 = dktX5_leads_8 := dk_seg dksX5_leads_7 24 rfl rfl
theorem dksX5_leads_9 : cX5_leads.data.toList.drop 213 = dktX5_leads_9 := dk_seg dksX5_leads_8 24 rfl rfl
theorem dksX5_leads_10 : cX5_leads.data.toList.drop 237 = dktX5_leads_10 := dk_seg dksX5_leads_9 24 rfl rfl
theorem dX5_leads_0 : decode cX5_leads 0 = .ok (.iconst 0, 1) := dk_3 (dk_at dksX5_leads_0 0 rfl rfl)
theorem dX5_leads_1 : decode cX5_leads 1 = .ok (.istore_n 2, 1) := dk_61 (dk_at dksX5_leads_0 1 rfl rfl)
theorem dX5_leads_2 : decode cX5_leads 2 = .ok (.iload_n 2, 1) := dk_28 (dk_at dksX5_leads_0 2 rfl rfl)
theorem dX5_leads_3 : decode cX5_leads 3 = .ok (.iconst 1, 1) := dk_4 (dk_at dksX5_leads_0 3 rfl rfl)
theorem dX5_leads_4 : decode cX5_leads 4 = .ok (.aload_n 0, 1) := dk_42 (dk_at dksX5_leads_0 4 rfl rfl)
theorem dX5_leads_5 : decode cX5_leads 5 = .ok (.getfield 27, 3) := dk_180 0 27 (dk_at dksX5_leads_0 5 rfl rfl)
theorem dX5_leads_8 : decode cX5_leads 8 = .ok (.ishl, 1) := dk_120 (dk_at dksX5_leads_0 8 rfl rfl)
theorem dX5_leads_9 : decode cX5_leads 9 = .ok (.if_icmp .ge 35, 3) := dk_162 0 35 (dk_at dksX5_leads_0 9 rfl rfl)
theorem dX5_leads_12 : decode cX5_leads 12 = .ok (.iconst 0, 1) := dk_3 (dk_at dksX5_leads_0 12 rfl rfl)
theorem dX5_leads_13 : decode cX5_leads 13 = .ok (.istore_n 3, 1) := dk_62 (dk_at dksX5_leads_0 13 rfl rfl)
theorem dX5_leads_14 : decode cX5_leads 14 = .ok (.iload_n 3, 1) := dk_29 (dk_at dksX5_leads_0 14 rfl rfl)
theorem dX5_leads_15 : decode cX5_leads 15 = .ok (.aload_n 0, 1) := dk_42 (dk_at dksX5_leads_0 15 rfl rfl)
theorem dX5_leads_16 : decode cX5_leads 16 = .ok (.getfield 27, 3) := dk_180 0 27 (dk_at dksX5_leads_0 16 rfl rfl)
theorem dX5_leads_19 : decode cX5_leads 19 = .ok (.if_icmp .ge 19, 3) := dk_162 0 19 (dk_at dksX5_leads_0 19 rfl rfl)
theorem dX5_leads_22 : decode cX5_leads 22 = .ok (.aload_n 0, 1) := dk_42 (dk_at dksX5_leads_0 22 rfl rfl)
theorem dX5_leads_23 : decode cX5_leads 23 = .ok (.getfield 20, 3) := dk_180 0 20 (dk_at dksX5_leads_1 0 rfl rfl)
theorem dX5_leads_26 : decode cX5_leads 26 = .ok (.iload_n 2, 1) := dk_28 (dk_at dksX5_leads_1 3 rfl rfl)
theorem dX5_leads_27 : decode cX5_leads 27 = .ok (.aaload, 1) := dk_50 (dk_at dksX5_leads_1 4 rfl rfl)
theorem dX5_leads_28 : decode cX5_leads 28 = .ok (.iload_n 3, 1) := dk_29 (dk_at dksX5_leads_1 5 rfl rfl)
theorem dX5_leads_29 : decode cX5_leads 29 = .ok (.ldc 61, 2) := dk_18 61 (dk_at dksX5_leads_1 6 rfl rfl)
theorem dX5_leads_31 : decode cX5_leads 31 = .ok (.iastore, 1) := dk_79 (dk_at dksX5_leads_1 8 rfl rfl)
theorem dX5_leads_32 : decode cX5_leads 32 = .ok (.iinc 3 1, 3) := dk_132 3 1 (dk_at dksX5_leads_1 9 rfl rfl)
theorem dX5_leads_35 : decode cX5_leads 35 = .ok (.goto (-21), 3) := dk_167 255 235 (dk_at dksX5_leads_1 12 rfl rfl)
theorem dX5_leads_38 : decode cX5_leads 38 = .ok (.iinc 2 1, 3) := dk_132 2 1 (dk_at dksX5_leads_1 15 rfl rfl)
theorem dX5_leads_41 : decode cX5_leads 41 = .ok (.goto (-39), 3) := dk_167 255 217 (dk_at dksX5_leads_1 18 rfl rfl)
theorem dX5_leads_44 : decode cX5_leads 44 = .ok (.iconst 0, 1) := dk_3 (dk_at dksX5_leads_1 21 rfl rfl)
theorem dX5_leads_45 : decode cX5_leads 45 = .ok (.istore_n 2, 1) := dk_61 (dk_at dksX5_leads_1 22 rfl rfl)
theorem dX5_leads_46 : decode cX5_leads 46 = .ok (.iload_n 2, 1) := dk_28 (dk_at dksX5_leads_1 23 rfl rfl)
theorem dX5_leads_47 : decode cX5_leads 47 = .ok (.aload_n 0, 1) := dk_42 (dk_at dksX5_leads_2 0 rfl rfl)
theorem dX5_leads_48 : decode cX5_leads 48 = .ok (.getfield 27, 3) := dk_180 0 27 (dk_at dksX5_leads_2 1 rfl rfl)
theorem dX5_leads_51 : decode cX5_leads 51 = .ok (.if_icmp .ge 37, 3) := dk_162 0 37 (dk_at dksX5_leads_2 4 rfl rfl)
theorem dX5_leads_54 : decode cX5_leads 54 = .ok (.iload_n 1, 1) := dk_27 (dk_at dksX5_leads_2 7 rfl rfl)
theorem dX5_leads_55 : decode cX5_leads 55 = .ok (.iconst (-1), 1) := dk_2 (dk_at dksX5_leads_2 8 rfl rfl)
theorem dX5_leads_56 : decode cX5_leads 56 = .ok (.if_icmp .eq 8, 3) := dk_159 0 8 (dk_at dksX5_leads_2 9 rfl rfl)
theorem dX5_leads_59 : decode cX5_leads 59 = .ok (.iload_n 2, 1) := dk_28 (dk_at dksX5_leads_2 12 rfl rfl)
theorem dX5_leads_60 : decode cX5_leads 60 = .ok (.iload_n 1, 1) := dk_27 (dk_at dksX5_leads_2 13 rfl rfl)
theorem dX5_leads_61 : decode cX5_leads 61 = .ok (.if_icmp .ne 21, 3) := dk_160 0 21 (dk_at dksX5_leads_2 14 rfl rfl)
theorem dX5_leads_64 : decode cX5_leads 64 = .ok (.aload_n 0, 1) := dk_42 (dk_at dksX5_leads_2 17 rfl rfl)
theorem dX5_leads_65 : decode cX5_leads 65 = .ok (.getfield 20, 3) := dk_180 0 20 (dk_at dksX5_leads_2 18 rfl rfl)
theorem dX5_leads_68 : decode cX5_leads 68 = .ok (.iconst 1, 1) := dk_4 (dk_at dksX5_leads_2 21 rfl rfl)
theorem dX5_leads_69 : decode cX5_leads 69 = .ok (.iload_n 2, 1) := dk_28 (dk_at dksX5_leads_2 22 rfl rfl)
theorem dX5_leads_70 : decode cX5_leads 70 = .ok (.ishl, 1) := dk_120 (dk_at dksX5_leads_2 23 rfl rfl)
theorem dX5_leads_71 : decode cX5_leads 71 = .ok (.aaload, 1) := dk_50 (dk_at dksX5_leads_3 0 rfl rfl)
theorem dX5_leads_72 : decode cX5_leads 72 = .ok (.iload_n 2, 1) := dk_28 (dk_at dksX5_leads_3 1 rfl rfl)
theorem dX5_leads_73 : decode cX5_leads 73 = .ok (.aload_n 0, 1) := dk_42 (dk_at dksX5_leads_3 2 rfl rfl)
theorem dX5_leads_74 : decode cX5_leads 74 = .ok (.iload_n 2, 1) := dk_28 (dk_at dksX5_leads_3 3 rfl rfl)
theorem dX5_leads_75 : decode cX5_leads 75 = .ok (.invokevirtual 46, 3) := dk_182 0 46 (dk_at dksX5_leads_3 4 rfl rfl)
theorem dX5_leads_78 : decode cX5_leads 78 = .ok (.getfield 62, 3) := dk_180 0 62 (dk_at dksX5_leads_3 7 rfl rfl)
theorem dX5_leads_81 : decode cX5_leads 81 = .ok (.iastore, 1) := dk_79 (dk_at dksX5_leads_3 10 rfl rfl)
theorem dX5_leads_82 : decode cX5_leads 82 = .ok (.iinc 2 1, 3) := dk_132 2 1 (dk_at dksX5_leads_3 11 rfl rfl)
theorem dX5_leads_85 : decode cX5_leads 85 = .ok (.goto (-39), 3) := dk_167 255 217 (dk_at dksX5_leads_3 14 rfl rfl)
theorem dX5_leads_88 : decode cX5_leads 88 = .ok (.iconst 1, 1) := dk_4 (dk_at dksX5_leads_3 17 rfl rfl)
theorem dX5_leads_89 : decode cX5_leads 89 = .ok (.istore_n 2, 1) := dk_61 (dk_at dksX5_leads_3 18 rfl rfl)
theorem dX5_leads_90 : decode cX5_leads 90 = .ok (.iload_n 2, 1) := dk_28 (dk_at dksX5_leads_3 19 rfl rfl)
theorem dX5_leads_91 : decode cX5_leads 91 = .ok (.iconst 1, 1) := dk_4 (dk_at dksX5_leads_3 20 rfl rfl)
theorem dX5_leads_92 : decode cX5_leads 92 = .ok (.aload_n 0, 1) := dk_42 (dk_at dksX5_leads_3 21 rfl rfl)
theorem dX5_leads_93 : decode cX5_leads 93 = .ok (.getfield 27, 3) := dk_180 0 27 (dk_at dksX5_leads_4 0 rfl rfl)
theorem dX5_leads_96 : decode cX5_leads 96 = .ok (.ishl, 1) := dk_120 (dk_at dksX5_leads_4 3 rfl rfl)
theorem dX5_leads_97 : decode cX5_leads 97 = .ok (.if_icmp .ge 149, 3) := dk_162 0 149 (dk_at dksX5_leads_4 4 rfl rfl)
theorem dX5_leads_100 : decode cX5_leads 100 = .ok (.iconst 0, 1) := dk_3 (dk_at dksX5_leads_4 7 rfl rfl)
theorem dX5_leads_101 : decode cX5_leads 101 = .ok (.istore_n 3, 1) := dk_62 (dk_at dksX5_leads_4 8 rfl rfl)
theorem dX5_leads_102 : decode cX5_leads 102 = .ok (.iload_n 3, 1) := dk_29 (dk_at dksX5_leads_4 9 rfl rfl)
theorem dX5_leads_103 : decode cX5_leads 103 = .ok (.aload_n 0, 1) := dk_42 (dk_at dksX5_leads_4 10 rfl rfl)
theorem dX5_leads_104 : decode cX5_leads 104 = .ok (.getfield 27, 3) := dk_180 0 27 (dk_at dksX5_leads_4 11 rfl rfl)
theorem dX5_leads_107 : decode cX5_leads 107 = .ok (.if_icmp .ge 133, 3) := dk_162 0 133 (dk_at dksX5_leads_4 14 rfl rfl)
theorem dX5_leads_110 : decode cX5_leads 110 = .ok (.aload_n 0, 1) := dk_42 (dk_at dksX5_leads_4 17 rfl rfl)
theorem dX5_leads_111 : decode cX5_leads 111 = .ok (.getfield 20, 3) := dk_180 0 20 (dk_at dksX5_leads_4 18 rfl rfl)
theorem dX5_leads_114 : decode cX5_leads 114 = .ok (.iload_n 2, 1) := dk_28 (dk_at dksX5_leads_4 21 rfl rfl)
theorem dX5_leads_115 : decode cX5_leads 115 = .ok (.aaload, 1) := dk_50 (dk_at dksX5_leads_4 22 rfl rfl)
theorem dX5_leads_116 : decode cX5_leads 116 = .ok (.iload_n 3, 1) := dk_29 (dk_at dksX5_leads_4 23 rfl rfl)
theorem dX5_leads_117 : decode cX5_leads 117 = .ok (.iaload, 1) := dk_46 (dk_at dksX5_leads_5 0 rfl rfl)
theorem dX5_leads_118 : decode cX5_leads 118 = .ok (.ldc 61, 2) := dk_18 61 (dk_at dksX5_leads_5 1 rfl rfl)
theorem dX5_leads_120 : decode cX5_leads 120 = .ok (.if_icmp .ne 6, 3) := dk_160 0 6 (dk_at dksX5_leads_5 3 rfl rfl)
theorem dX5_leads_123 : decode cX5_leads 123 = .ok (.goto 111, 3) := dk_167 0 111 (dk_at dksX5_leads_5 6 rfl rfl)
theorem dX5_leads_126 : decode cX5_leads 126 = .ok (.iconst 0, 1) := dk_3 (dk_at dksX5_leads_5 9 rfl rfl)
theorem dX5_leads_127 : decode cX5_leads 127 = .ok (.istore 4, 2) := dk_54 4 (dk_at dksX5_leads_5 10 rfl rfl)
theorem dX5_leads_129 : decode cX5_leads 129 = .ok (.iload 4, 2) := dk_21 4 (dk_at dksX5_leads_5 12 rfl rfl)
theorem dX5_leads_131 : decode cX5_leads 131 = .ok (.aload_n 0, 1) := dk_42 (dk_at dksX5_leads_5 14 rfl rfl)
theorem dX5_leads_132 : decode cX5_leads 132 = .ok (.getfield 27, 3) := dk_180 0 27 (dk_at dksX5_leads_5 15 rfl rfl)
theorem dX5_leads_135 : decode cX5_leads 135 = .ok (.if_icmp .ge 99, 3) := dk_162 0 99 (dk_at dksX5_leads_5 18 rfl rfl)
theorem dX5_leads_138 : decode cX5_leads 138 = .ok (.iload_n 2, 1) := dk_28 (dk_at dksX5_leads_5 21 rfl rfl)
theorem dX5_leads_139 : decode cX5_leads 139 = .ok (.iload 4, 2) := dk_21 4 (dk_at dksX5_leads_5 22 rfl rfl)
theorem dX5_leads_141 : decode cX5_leads 141 = .ok (.ishr, 1) := dk_122 (dk_at dksX5_leads_6 0 rfl rfl)
theorem dX5_leads_142 : decode cX5_leads 142 = .ok (.iconst 1, 1) := dk_4 (dk_at dksX5_leads_6 1 rfl rfl)
theorem dX5_leads_143 : decode cX5_leads 143 = .ok (.iand, 1) := dk_126 (dk_at dksX5_leads_6 2 rfl rfl)
theorem dX5_leads_144 : decode cX5_leads 144 = .ok (.iconst 1, 1) := dk_4 (dk_at dksX5_leads_6 3 rfl rfl)
theorem dX5_leads_145 : decode cX5_leads 145 = .ok (.if_icmp .ne 6, 3) := dk_160 0 6 (dk_at dksX5_leads_6 4 rfl rfl)
theorem dX5_leads_148 : decode cX5_leads 148 = .ok (.goto 80, 3) := dk_167 0 80 (dk_at dksX5_leads_6 7 rfl rfl)
theorem dX5_leads_151 : decode cX5_leads 151 = .ok (.aload_n 0, 1) := dk_42 (dk_at dksX5_leads_6 10 rfl rfl)
theorem dX5_leads_152 : decode cX5_leads 152 = .ok (.iload 4, 2) := dk_21 4 (dk_at dksX5_leads_6 11 rfl rfl)
theorem dX5_leads_154 : decode cX5_leads 154 = .ok (.invokevirtual 46, 3) := dk_182 0 46 (dk_at dksX5_leads_6 13 rfl rfl)
theorem dX5_leads_157 : decode cX5_leads 157 = .ok (.getfield 62, 3) := dk_180 0 62 (dk_at dksX5_leads_6 16 rfl rfl)
theorem dX5_leads_160 : decode cX5_leads 160 = .ok (.aload_n 0, 1) := dk_42 (dk_at dksX5_leads_6 19 rfl rfl)
theorem dX5_leads_161 : decode cX5_leads 161 = .ok (.getfield 20, 3) := dk_180 0 20 (dk_at dksX5_leads_6 20 rfl rfl)
theorem dX5_leads_164 : decode cX5_leads 164 = .ok (.iload_n 2, 1) := dk_28 (dk_at dksX5_leads_6 23 rfl rfl)
theorem dX5_leads_165 : decode cX5_leads 165 = .ok (.aaload, 1) := dk_50 (dk_at dksX5_leads_7 0 rfl rfl)
theorem dX5_leads_166 : decode cX5_leads 166 = .ok (.iload_n 3, 1) := dk_29 (dk_at dksX5_leads_7 1 rfl rfl)
theorem dX5_leads_167 : decode cX5_leads 167 = .ok (.iaload, 1) := dk_46 (dk_at dksX5_leads_7 2 rfl rfl)
theorem dX5_leads_168 : decode cX5_leads 168 = .ok (.aload_n 0, 1) := dk_42 (dk_at dksX5_leads_7 3 rfl rfl)
theorem dX5_leads_169 : decode cX5_leads 169 = .ok (.iload_n 3, 1) := dk_29 (dk_at dksX5_leads_7 4 rfl rfl)
theorem dX5_leads_170 : decode cX5_leads 170 = .ok (.iload 4, 2) := dk_21 4 (dk_at dksX5_leads_7 5 rfl rfl)
theorem dX5_leads_172 : decode cX5_leads 172 = .ok (.invokevirtual 65, 3) := dk_182 0 65 (dk_at dksX5_leads_7 7 rfl rfl)
theorem dX5_leads_175 : decode cX5_leads 175 = .ok (.iadd, 1) := dk_96 (dk_at dksX5_leads_7 10 rfl rfl)
theorem dX5_leads_176 : decode cX5_leads 176 = .ok (.invokestatic 68, 3) := dk_184 0 68 (dk_at dksX5_leads_7 11 rfl rfl)
theorem dX5_leads_179 : decode cX5_leads 179 = .ok (.istore 5, 2) := dk_54 5 (dk_at dksX5_leads_7 14 rfl rfl)
theorem dX5_leads_181 : decode cX5_leads 181 = .ok (.iload 5, 2) := dk_21 5 (dk_at dksX5_leads_7 16 rfl rfl)
theorem dX5_leads_183 : decode cX5_leads 183 = .ok (.aload_n 0, 1) := dk_42 (dk_at dksX5_leads_7 18 rfl rfl)
theorem dX5_leads_184 : decode cX5_leads 184 = .ok (.iload 4, 2) := dk_21 4 (dk_at dksX5_leads_7 19 rfl rfl)
theorem dX5_leads_186 : decode cX5_leads 186 = .ok (.invokevirtual 46, 3) := dk_182 0 46 (dk_at dksX5_leads_7 21 rfl rfl)
theorem dX5_leads_189 : decode cX5_leads 189 = .ok (.getfield 73, 3) := dk_180 0 73 (dk_at dksX5_leads_8 0 rfl rfl)
theorem dX5_leads_192 : decode cX5_leads 192 = .ok (.if_icmp .gt 36, 3) := dk_163 0 36 (dk_at dksX5_leads_8 3 rfl rfl)
theorem dX5_leads_195 : decode cX5_leads 195 = .ok (.aload_n 0, 1) := dk_42 (dk_at dksX5_leads_8 6 rfl rfl)
theorem dX5_leads_196 : decode cX5_leads 196 = .ok (.getfield 20, 3) := dk_180 0 20 (dk_at dksX5_leads_8 7 rfl rfl)
theorem dX5_leads_199 : decode cX5_leads 199 = .ok (.iload_n 2, 1) := dk_28 (dk_at dksX5_leads_8 10 rfl rfl)
theorem dX5_leads_200 : decode cX5_leads 200 = .ok (.iconst 1, 1) := dk_4 (dk_at dksX5_leads_8 11 rfl rfl)
theorem dX5_leads_201 : decode cX5_leads 201 = .ok (.iload 4, 2) := dk_21 4 (dk_at dksX5_leads_8 12 rfl rfl)
theorem dX5_leads_203 : decode cX5_leads 203 = .ok (.ishl, 1) := dk_120 (dk_at dksX5_leads_8 14 rfl rfl)
theorem dX5_leads_204 : decode cX5_leads 204 = .ok (.ior, 1) := dk_128 (dk_at dksX5_leads_8 15 rfl rfl)
theorem dX5_leads_205 : decode cX5_leads 205 = .ok (.aaload, 1) := dk_50 (dk_at dksX5_leads_8 16 rfl rfl)
theorem dX5_leads_206 : decode cX5_leads 206 = .ok (.iload 4, 2) := dk_21 4 (dk_at dksX5_leads_8 17 rfl rfl)
theorem dX5_leads_208 : decode cX5_leads 208 = .ok (.aload_n 0, 1) := dk_42 (dk_at dksX5_leads_8 19 rfl rfl)
theorem dX5_leads_209 : decode cX5_leads 209 = .ok (.getfield 20, 3) := dk_180 0 20 (dk_at dksX5_leads_8 20 rfl rfl)
theorem dX5_leads_212 : decode cX5_leads 212 = .ok (.iload_n 2, 1) := dk_28 (dk_at dksX5_leads_8 23 rfl rfl)
theorem dX5_leads_213 : decode cX5_leads 213 = .ok (.iconst 1, 1) := dk_4 (dk_at dksX5_leads_9 0 rfl rfl)
theorem dX5_leads_214 : decode cX5_leads 214 = .ok (.iload 4, 2) := dk_21 4 (dk_at dksX5_leads_9 1 rfl rfl)
theorem dX5_leads_216 : decode cX5_leads 216 = .ok (.ishl, 1) := dk_120 (dk_at dksX5_leads_9 3 rfl rfl)
theorem dX5_leads_217 : decode cX5_leads 217 = .ok (.ior, 1) := dk_128 (dk_at dksX5_leads_9 4 rfl rfl)
theorem dX5_leads_218 : decode cX5_leads 218 = .ok (.aaload, 1) := dk_50 (dk_at dksX5_leads_9 5 rfl rfl)
theorem dX5_leads_219 : decode cX5_leads 219 = .ok (.iload 4, 2) := dk_21 4 (dk_at dksX5_leads_9 6 rfl rfl)
theorem dX5_leads_221 : decode cX5_leads 221 = .ok (.iaload, 1) := dk_46 (dk_at dksX5_leads_9 8 rfl rfl)
theorem dX5_leads_222 : decode cX5_leads 222 = .ok (.iload 5, 2) := dk_21 5 (dk_at dksX5_leads_9 9 rfl rfl)
theorem dX5_leads_224 : decode cX5_leads 224 = .ok (.invokestatic 76, 3) := dk_184 0 76 (dk_at dksX5_leads_9 11 rfl rfl)
theorem dX5_leads_227 : decode cX5_leads 227 = .ok (.iastore, 1) := dk_79 (dk_at dksX5_leads_9 14 rfl rfl)
theorem dX5_leads_228 : decode cX5_leads 228 = .ok (.iinc 4 1, 3) := dk_132 4 1 (dk_at dksX5_leads_9 15 rfl rfl)
theorem dX5_leads_231 : decode cX5_leads 231 = .ok (.goto (-102), 3) := dk_167 255 154 (dk_at dksX5_leads_9 18 rfl rfl)
theorem dX5_leads_234 : decode cX5_leads 234 = .ok (.iinc 3 1, 3) := dk_132 3 1 (dk_at dksX5_leads_9 21 rfl rfl)
theorem dX5_leads_237 : decode cX5_leads 237 = .ok (.goto (-135), 3) := dk_167 255 121 (dk_at dksX5_leads_10 0 rfl rfl)
theorem dX5_leads_240 : decode cX5_leads 240 = .ok (.iinc 2 1, 3) := dk_132 2 1 (dk_at dksX5_leads_10 3 rfl rfl)
theorem dX5_leads_243 : decode cX5_leads 243 = .ok (.goto (-153), 3) := dk_167 255 103 (dk_at dksX5_leads_10 6 rfl rfl)
theorem dX5_leads_246 : decode cX5_leads 246 = .ok (.return_, 1) := dk_177 (dk_at dksX5_leads_10 9 rfl rfl)
abbrev cX5_at : ByteArray := prog_27_method_3_code
def yX5_at : MethodName := ⟨RX5, "at", "(I)LGrassField$Case;"⟩
def dkwX5_at_0 : List UInt8 := [42, 180, 0, 23, 180, 0, 40, 42, 180, 0, 9, 27, 46, 50, 192, 0, 44, 176]
abbrev dktX5_at_0 : List UInt8 := dkwX5_at_0 ++ []
theorem dksX5_at_0 : cX5_at.data.toList.drop 0 = dktX5_at_0 := by decide +kernel
theorem dX5_at_0 : decode cX5_at 0 = .ok (.aload_n 0, 1) := dk_42 (dk_at dksX5_at_0 0 rfl rfl)
theorem dX5_at_1 : decode cX5_at 1 = .ok (.getfield 23, 3) := dk_180 0 23 (dk_at dksX5_at_0 1 rfl rfl)
theorem dX5_at_4 : decode cX5_at 4 = .ok (.getfield 40, 3) := dk_180 0 40 (dk_at dksX5_at_0 4 rfl rfl)
theorem dX5_at_7 : decode cX5_at 7 = .ok (.aload_n 0, 1) := dk_42 (dk_at dksX5_at_0 7 rfl rfl)
theorem dX5_at_8 : decode cX5_at 8 = .ok (.getfield 9, 3) := dk_180 0 9 (dk_at dksX5_at_0 8 rfl rfl)
theorem dX5_at_11 : decode cX5_at 11 = .ok (.iload_n 1, 1) := dk_27 (dk_at dksX5_at_0 11 rfl rfl)
theorem dX5_at_12 : decode cX5_at 12 = .ok (.iaload, 1) := dk_46 (dk_at dksX5_at_0 12 rfl rfl)
theorem dX5_at_13 : decode cX5_at 13 = .ok (.aaload, 1) := dk_50 (dk_at dksX5_at_0 13 rfl rfl)
theorem dX5_at_14 : decode cX5_at 14 = .ok (.checkcast 44, 3) := dk_192 0 44 (dk_at dksX5_at_0 14 rfl rfl)
theorem dX5_at_17 : decode cX5_at 17 = .ok (.areturn, 1) := dk_176 (dk_at dksX5_at_0 17 rfl rfl)
abbrev cX5_minutes : ByteArray := prog_27_method_4_code
def yX5_minutes : MethodName := ⟨RX5, "minutes", "(II)I"⟩
def dkwX5_minutes_2 : List UInt8 := [164, 0, 7, 4, 167, 0, 4, 3, 96, 172]
abbrev dktX5_minutes_2 : List UInt8 := dkwX5_minutes_2 ++ []
def dkwX5_minutes_1 : List UInt8 := [184, 0, 54, 42, 180, 0, 23, 180, 0, 58, 21, 4, 46, 42, 180, 0, 23, 180, 0, 58, 29, 46]
abbrev dktX5_minutes_1 : List UInt8 := dkwX5_minutes_1 ++ dktX5_minutes_2
def dkwX5_minutes_0 : List UInt8 := [42, 27, 182, 0, 46, 182, 0, 50, 62, 42, 28, 182, 0, 46, 182, 0, 50, 54, 4, 29, 21, 4]
abbrev dktX5_minutes_0 : List UInt8 := dkwX5_minutes_0 ++ dktX5_minutes_1
theorem dksX5_minutes_0 : cX5_minutes.data.toList.drop 0 = dktX5_minutes_0 := by decide +kernel
theorem dksX5_minutes_1 : cX5_minutes.data.toList.drop 22 = dktX5_minutes_1 := dk_seg dksX5_minutes_0 22 rfl rfl
theorem dksX5_minutes_2 : cX5_minutes.data.toList.drop 44 = dktX5_minutes_2 := dk_seg dksX5_minutes_1 22 rfl rfl
theorem dX5_minutes_0 : decode cX5_minutes 0 = .ok (.aload_n 0, 1) := dk_42 (dk_at dksX5_minutes_0 0 rfl rfl)
theorem dX5_minutes_1 : decode cX5_minutes 1 = .ok (.iload_n 1, 1) := dk_27 (dk_at dksX5_minutes_0 1 rfl rfl)
theorem dX5_minutes_2 : decode cX5_minutes 2 = .ok (.invokevirtual 46, 3) := dk_182 0 46 (dk_at dksX5_minutes_0 2 rfl rfl)
theorem dX5_minutes_5 : decode cX5_minutes 5 = .ok (.invokevirtual 50, 3) := dk_182 0 50 (dk_at dksX5_minutes_0 5 rfl rfl)
theorem dX5_minutes_8 : decode cX5_minutes 8 = .ok (.istore_n 3, 1) := dk_62 (dk_at dksX5_minutes_0 8 rfl rfl)
theorem dX5_minutes_9 : decode cX5_minutes 9 = .ok (.aload_n 0, 1) := dk_42 (dk_at dksX5_minutes_0 9 rfl rfl)
theorem dX5_minutes_10 : decode cX5_minutes 10 = .ok (.iload_n 2, 1) := dk_28 (dk_at dksX5_minutes_0 10 rfl rfl)
theorem dX5_minutes_11 : decode cX5_minutes 11 = .ok (.invokevirtual 46, 3) := dk_182 0 46 (dk_at dksX5_minutes_0 11 rfl rfl)
theorem dX5_minutes_14 : decode cX5_minutes 14 = .ok (.invokevirtual 50, 3) := dk_182 0 50 (dk_at dksX5_minutes_0 14 rfl rfl)
theorem dX5_minutes_17 : decode cX5_minutes 17 = .ok (.istore 4, 2) := dk_54 4 (dk_at dksX5_minutes_0 17 rfl rfl)
theorem dX5_minutes_19 : decode cX5_minutes 19 = .ok (.iload_n 3, 1) := dk_29 (dk_at dksX5_minutes_0 19 rfl rfl)
theorem dX5_minutes_20 : decode cX5_minutes 20 = .ok (.iload 4, 2) := dk_21 4 (dk_at dksX5_minutes_0 20 rfl rfl)
theorem dX5_minutes_22 : decode cX5_minutes 22 = .ok (.invokestatic 54, 3) := dk_184 0 54 (dk_at dksX5_minutes_1 0 rfl rfl)
theorem dX5_minutes_25 : decode cX5_minutes 25 = .ok (.aload_n 0, 1) := dk_42 (dk_at dksX5_minutes_1 3 rfl rfl)
theorem dX5_minutes_26 : decode cX5_minutes 26 = .ok (.getfield 23, 3) := dk_180 0 23 (dk_at dksX5_minutes_1 4 rfl rfl)
theorem dX5_minutes_29 : decode cX5_minutes 29 = .ok (.getfield 58, 3) := dk_180 0 58 (dk_at dksX5_minutes_1 7 rfl rfl)
theorem dX5_minutes_32 : decode cX5_minutes 32 = .ok (.iload 4, 2) := dk_21 4 (dk_at dksX5_minutes_1 10 rfl rfl)
theorem dX5_minutes_34 : decode cX5_minutes 34 = .ok (.iaload, 1) := dk_46 (dk_at dksX5_minutes_1 12 rfl rfl)
theorem dX5_minutes_35 : decode cX5_minutes 35 = .ok (.aload_n 0, 1) := dk_42 (dk_at dksX5_minutes_1 13 rfl rfl)
theorem dX5_minutes_36 : decode cX5_minutes 36 = .ok (.getfield 23, 3) := dk_180 0 23 (dk_at dksX5_minutes_1 14 rfl rfl)
theorem dX5_minutes_39 : decode cX5_minutes 39 = .ok (.getfield 58, 3) := dk_180 0 58 (dk_at dksX5_minutes_1 17 rfl rfl)
theorem dX5_minutes_42 : decode cX5_minutes 42 = .ok (.iload_n 3, 1) := dk_29 (dk_at dksX5_minutes_1 20 rfl rfl)
theorem dX5_minutes_43 : decode cX5_minutes 43 = .ok (.iaload, 1) := dk_46 (dk_at dksX5_minutes_1 21 rfl rfl)
theorem dX5_minutes_44 : decode cX5_minutes 44 = .ok (.if_icmp .le 7, 3) := dk_164 0 7 (dk_at dksX5_minutes_2 0 rfl rfl)
theorem dX5_minutes_47 : decode cX5_minutes 47 = .ok (.iconst 1, 1) := dk_4 (dk_at dksX5_minutes_2 3 rfl rfl)
theorem dX5_minutes_48 : decode cX5_minutes 48 = .ok (.goto 4, 3) := dk_167 0 4 (dk_at dksX5_minutes_2 4 rfl rfl)
theorem dX5_minutes_51 : decode cX5_minutes 51 = .ok (.iconst 0, 1) := dk_3 (dk_at dksX5_minutes_2 7 rfl rfl)
theorem dX5_minutes_52 : decode cX5_minutes 52 = .ok (.iadd, 1) := dk_96 (dk_at dksX5_minutes_2 8 rfl rfl)
theorem dX5_minutes_53 : decode cX5_minutes 53 = .ok (.ireturn, 1) := dk_172 (dk_at dksX5_minutes_2 9 rfl rfl)
abbrev cX5_end : ByteArray := prog_27_method_6_code
def yX5_end : MethodName := ⟨RX5, "end", "(I)I"⟩
def dkwX5_end_1 : List UInt8 := [184, 0, 76, 61, 132, 3, 1, 167, 255, 232, 28, 172]
abbrev dktX5_end_1 : List UInt8 := dkwX5_end_1 ++ []
def dkwX5_end_0 : List UInt8 := [18, 61, 61, 3, 62, 29, 42, 180, 0, 27, 162, 0, 22, 28, 42, 180, 0, 20, 27, 50, 29, 46]
abbrev dktX5_end_0 : List UInt8 := dkwX5_end_0 ++ dktX5_end_1
theorem dksX5_end_0 : cX5_end.data.toList.drop 0 = dktX5_end_0 := by decide +kernel
theorem dksX5_end_1 : cX5_end.data.toList.drop 22 = dktX5_end_1 := dk_seg dksX5_end_0 22 rfl rfl
theorem dX5_end_0 : decode cX5_end 0 = .ok (.ldc 61, 2) := dk_18 61 (dk_at dksX5_end_0 0 rfl rfl)
theorem dX5_end_2 : decode cX5_end 2 = .ok (.istore_n 2, 1) := dk_61 (dk_at dksX5_end_0 2 rfl rfl)
theorem dX5_end_3 : decode cX5_end 3 = .ok (.iconst 0, 1) := dk_3 (dk_at dksX5_end_0 3 rfl rfl)
theorem dX5_end_4 : decode cX5_end 4 = .ok (.istore_n 3, 1) := dk_62 (dk_at dksX5_end_0 4 rfl rfl)
theorem dX5_end_5 : decode cX5_end 5 = .ok (.iload_n 3, 1) := dk_29 (dk_at dksX5_end_0 5 rfl rfl)
theorem dX5_end_6 : decode cX5_end 6 = .ok (.aload_n 0, 1) := dk_42 (dk_at dksX5_end_0 6 rfl rfl)
theorem dX5_end_7 : decode cX5_end 7 = .ok (.getfield 27, 3) := dk_180 0 27 (dk_at dksX5_end_0 7 rfl rfl)
theorem dX5_end_10 : decode cX5_end 10 = .ok (.if_icmp .ge 22, 3) := dk_162 0 22 (dk_at dksX5_end_0 10 rfl rfl)
theorem dX5_end_13 : decode cX5_end 13 = .ok (.iload_n 2, 1) := dk_28 (dk_at dksX5_end_0 13 rfl rfl)
theorem dX5_end_14 : decode cX5_end 14 = .ok (.aload_n 0, 1) := dk_42 (dk_at dksX5_end_0 14 rfl rfl)
theorem dX5_end_15 : decode cX5_end 15 = .ok (.getfield 20, 3) := dk_180 0 20 (dk_at dksX5_end_0 15 rfl rfl)
theorem dX5_end_18 : decode cX5_end 18 = .ok (.iload_n 1, 1) := dk_27 (dk_at dksX5_end_0 18 rfl rfl)
theorem dX5_end_19 : decode cX5_end 19 = .ok (.aaload, 1) := dk_50 (dk_at dksX5_end_0 19 rfl rfl)
theorem dX5_end_20 : decode cX5_end 20 = .ok (.iload_n 3, 1) := dk_29 (dk_at dksX5_end_0 20 rfl rfl)
theorem dX5_end_21 : decode cX5_end 21 = .ok (.iaload, 1) := dk_46 (dk_at dksX5_end_0 21 rfl rfl)
theorem dX5_end_22 : decode cX5_end 22 = .ok (.invokestatic 76, 3) := dk_184 0 76 (dk_at dksX5_end_1 0 rfl rfl)
theorem dX5_end_25 : decode cX5_end 25 = .ok (.istore_n 2, 1) := dk_61 (dk_at dksX5_end_1 3 rfl rfl)
theorem dX5_end_26 : decode cX5_end 26 = .ok (.iinc 3 1, 3) := dk_132 3 1 (dk_at dksX5_end_1 4 rfl rfl)
theorem dX5_end_29 : decode cX5_end 29 = .ok (.goto (-24), 3) := dk_167 255 232 (dk_at dksX5_end_1 7 rfl rfl)
theorem dX5_end_32 : decode cX5_end 32 = .ok (.iload_n 2, 1) := dk_28 (dk_at dksX5_end_1 10 rfl rfl)
theorem dX5_end_33 : decode cX5_end 33 = .ok (.ireturn, 1) := dk_172 (dk_at dksX5_end_1 11 rfl rfl)
abbrev cX5_last : ByteArray := prog_27_method_8_code
def yX5_last : MethodName := ⟨RX5, "last", "()I"⟩
def dkwX5_last_1 : List UInt8 := [182, 0, 83, 60, 27, 18, 61, 160, 0, 7, 2, 167, 0, 4, 27, 172]
abbrev dktX5_last_1 : List UInt8 := dkwX5_last_1 ++ []
def dkwX5_last_0 : List UInt8 := [42, 180, 0, 27, 154, 0, 5, 2, 172, 42, 2, 182, 0, 79, 42, 4, 42, 180, 0, 27, 120, 4, 100]
abbrev dktX5_last_0 : List UInt8 := dkwX5_last_0 ++ dktX5_last_1
theorem dksX5_last_0 : cX5_last.data.toList.drop 0 = dktX5_last_0 := by decide +kernel
theorem dksX5_last_1 : cX5_last.data.toList.drop 23 = dktX5_last_1 := dk_seg dksX5_last_0 23 rfl rfl
theorem dX5_last_0 : decode cX5_last 0 = .ok (.aload_n 0, 1) := dk_42 (dk_at dksX5_last_0 0 rfl rfl)
theorem dX5_last_1 : decode cX5_last 1 = .ok (.getfield 27, 3) := dk_180 0 27 (dk_at dksX5_last_0 1 rfl rfl)
theorem dX5_last_4 : decode cX5_last 4 = .ok (.ifCond .ne 5, 3) := dk_154 0 5 (dk_at dksX5_last_0 4 rfl rfl)
theorem dX5_last_7 : decode cX5_last 7 = .ok (.iconst (-1), 1) := dk_2 (dk_at dksX5_last_0 7 rfl rfl)
theorem dX5_last_8 : decode cX5_last 8 = .ok (.ireturn, 1) := dk_172 (dk_at dksX5_last_0 8 rfl rfl)
theorem dX5_last_9 : decode cX5_last 9 = .ok (.aload_n 0, 1) := dk_42 (dk_at dksX5_last_0 9 rfl rfl)
theorem dX5_last_10 : decode cX5_last 10 = .ok (.iconst (-1), 1) := dk_2 (dk_at dksX5_last_0 10 rfl rfl)
theorem dX5_last_11 : decode cX5_last 11 = .ok (.invokevirtual 79, 3) := dk_182 0 79 (dk_at dksX5_last_0 11 rfl rfl)
theorem dX5_last_14 : decode cX5_last 14 = .ok (.aload_n 0, 1) := dk_42 (dk_at dksX5_last_0 14 rfl rfl)
theorem dX5_last_15 : decode cX5_last 15 = .ok (.iconst 1, 1) := dk_4 (dk_at dksX5_last_0 15 rfl rfl)
theorem dX5_last_16 : decode cX5_last 16 = .ok (.aload_n 0, 1) := dk_42 (dk_at dksX5_last_0 16 rfl rfl)
theorem dX5_last_17 : decode cX5_last 17 = .ok (.getfield 27, 3) := dk_180 0 27 (dk_at dksX5_last_0 17 rfl rfl)
theorem dX5_last_20 : decode cX5_last 20 = .ok (.ishl, 1) := dk_120 (dk_at dksX5_last_0 20 rfl rfl)
theorem dX5_last_21 : decode cX5_last 21 = .ok (.iconst 1, 1) := dk_4 (dk_at dksX5_last_0 21 rfl rfl)
theorem dX5_last_22 : decode cX5_last 22 = .ok (.isub, 1) := dk_100 (dk_at dksX5_last_0 22 rfl rfl)
theorem dX5_last_23 : decode cX5_last 23 = .ok (.invokevirtual 83, 3) := dk_182 0 83 (dk_at dksX5_last_1 0 rfl rfl)
theorem dX5_last_26 : decode cX5_last 26 = .ok (.istore_n 1, 1) := dk_60 (dk_at dksX5_last_1 3 rfl rfl)
theorem dX5_last_27 : decode cX5_last 27 = .ok (.iload_n 1, 1) := dk_27 (dk_at dksX5_last_1 4 rfl rfl)
theorem dX5_last_28 : decode cX5_last 28 = .ok (.ldc 61, 2) := dk_18 61 (dk_at dksX5_last_1 5 rfl rfl)
theorem dX5_last_30 : decode cX5_last 30 = .ok (.if_icmp .ne 7, 3) := dk_160 0 7 (dk_at dksX5_last_1 7 rfl rfl)
theorem dX5_last_33 : decode cX5_last 33 = .ok (.iconst (-1), 1) := dk_2 (dk_at dksX5_last_1 10 rfl rfl)
theorem dX5_last_34 : decode cX5_last 34 = .ok (.goto 4, 3) := dk_167 0 4 (dk_at dksX5_last_1 11 rfl rfl)
theorem dX5_last_37 : decode cX5_last 37 = .ok (.iload_n 1, 1) := dk_27 (dk_at dksX5_last_1 14 rfl rfl)
theorem dX5_last_38 : decode cX5_last 38 = .ok (.ireturn, 1) := dk_172 (dk_at dksX5_last_1 15 rfl rfl)
abbrev cX5_first : ByteArray := prog_27_method_9_code
def yX5_first : MethodName := ⟨RX5, "first", "()I"⟩
def dkwX5_first_2 : List UInt8 := [46, 172, 132, 2, 1, 167, 255, 212, 2, 172]
abbrev dktX5_first_2 : List UInt8 := dkwX5_first_2 ++ []
def dkwX5_first_1 : List UInt8 := [182, 0, 79, 42, 4, 42, 180, 0, 27, 120, 4, 100, 182, 0, 83, 27, 160, 0, 10, 42, 180, 0, 9, 28]
abbrev dktX5_first_1 : List UInt8 := dkwX5_first_1 ++ dktX5_first_2
def dkwX5_first_0 : List UInt8 := [42, 182, 0, 86, 60, 3, 61, 28, 42, 180, 0, 27, 162, 0, 42, 27, 2, 159, 0, 37, 42, 28]
abbrev dktX5_first_0 : List UInt8 := dkwX5_first_0 ++ dktX5_first_1
theorem dksX5_first_0 : cX5_first.data.toList.drop 0 = dktX5_first_0 := by decide +kernel
theorem dksX5_first_1 : cX5_first.data.toList.drop 22 = dktX5_first_1 := dk_seg dksX5_first_0 22 rfl rfl
theorem dksX5_first_2 : cX5_first.data.toList.drop 46 = dktX5_first_2 := dk_seg dksX5_first_1 24 rfl rfl
theorem dX5_first_0 : decode cX5_first 0 = .ok (.aload_n 0, 1) := dk_42 (dk_at dksX5_first_0 0 rfl rfl)
theorem dX5_first_1 : decode cX5_first 1 = .ok (.invokevirtual 86, 3) := dk_182 0 86 (dk_at dksX5_first_0 1 rfl rfl)
theorem dX5_first_4 : decode cX5_first 4 = .ok (.istore_n 1, 1) := dk_60 (dk_at dksX5_first_0 4 rfl rfl)
theorem dX5_first_5 : decode cX5_first 5 = .ok (.iconst 0, 1) := dk_3 (dk_at dksX5_first_0 5 rfl rfl)
theorem dX5_first_6 : decode cX5_first 6 = .ok (.istore_n 2, 1) := dk_61 (dk_at dksX5_first_0 6 rfl rfl)
theorem dX5_first_7 : decode cX5_first 7 = .ok (.iload_n 2, 1) := dk_28 (dk_at dksX5_first_0 7 rfl rfl)
theorem dX5_first_8 : decode cX5_first 8 = .ok (.aload_n 0, 1) := dk_42 (dk_at dksX5_first_0 8 rfl rfl)
theorem dX5_first_9 : decode cX5_first 9 = .ok (.getfield 27, 3) := dk_180 0 27 (dk_at dksX5_first_0 9 rfl rfl)
theorem dX5_first_12 : decode cX5_first 12 = .ok (.if_icmp .ge 42, 3) := dk_162 0 42 (dk_at dksX5_first_0 12 rfl rfl)
theorem dX5_first_15 : decode cX5_first 15 = .ok (.iload_n 1, 1) := dk_27 (dk_at dksX5_first_0 15 rfl rfl)
theorem dX5_first_16 : decode cX5_first 16 = .ok (.iconst (-1), 1) := dk_2 (dk_at dksX5_first_0 16 rfl rfl)
theorem dX5_first_17 : decode cX5_first 17 = .ok (.if_icmp .eq 37, 3) := dk_159 0 37 (dk_at dksX5_first_0 17 rfl rfl)
theorem dX5_first_20 : decode cX5_first 20 = .ok (.aload_n 0, 1) := dk_42 (dk_at dksX5_first_0 20 rfl rfl)
theorem dX5_first_21 : decode cX5_first 21 = .ok (.iload_n 2, 1) := dk_28 (dk_at dksX5_first_0 21 rfl rfl)
theorem dX5_first_22 : decode cX5_first 22 = .ok (.invokevirtual 79, 3) := dk_182 0 79 (dk_at dksX5_first_1 0 rfl rfl)
theorem dX5_first_25 : decode cX5_first 25 = .ok (.aload_n 0, 1) := dk_42 (dk_at dksX5_first_1 3 rfl rfl)
theorem dX5_first_26 : decode cX5_first 26 = .ok (.iconst 1, 1) := dk_4 (dk_at dksX5_first_1 4 rfl rfl)
theorem dX5_first_27 : decode cX5_first 27 = .ok (.aload_n 0, 1) := dk_42 (dk_at dksX5_first_1 5 rfl rfl)
theorem dX5_first_28 : decode cX5_first 28 = .ok (.getfield 27, 3) := dk_180 0 27 (dk_at dksX5_first_1 6 rfl rfl)
theorem dX5_first_31 : decode cX5_first 31 = .ok (.ishl, 1) := dk_120 (dk_at dksX5_first_1 9 rfl rfl)
theorem dX5_first_32 : decode cX5_first 32 = .ok (.iconst 1, 1) := dk_4 (dk_at dksX5_first_1 10 rfl rfl)
theorem dX5_first_33 : decode cX5_first 33 = .ok (.isub, 1) := dk_100 (dk_at dksX5_first_1 11 rfl rfl)
theorem dX5_first_34 : decode cX5_first 34 = .ok (.invokevirtual 83, 3) := dk_182 0 83 (dk_at dksX5_first_1 12 rfl rfl)
theorem dX5_first_37 : decode cX5_first 37 = .ok (.iload_n 1, 1) := dk_27 (dk_at dksX5_first_1 15 rfl rfl)
theorem dX5_first_38 : decode cX5_first 38 = .ok (.if_icmp .ne 10, 3) := dk_160 0 10 (dk_at dksX5_first_1 16 rfl rfl)
theorem dX5_first_41 : decode cX5_first 41 = .ok (.aload_n 0, 1) := dk_42 (dk_at dksX5_first_1 19 rfl rfl)
theorem dX5_first_42 : decode cX5_first 42 = .ok (.getfield 9, 3) := dk_180 0 9 (dk_at dksX5_first_1 20 rfl rfl)
theorem dX5_first_45 : decode cX5_first 45 = .ok (.iload_n 2, 1) := dk_28 (dk_at dksX5_first_1 23 rfl rfl)
theorem dX5_first_46 : decode cX5_first 46 = .ok (.iaload, 1) := dk_46 (dk_at dksX5_first_2 0 rfl rfl)
theorem dX5_first_47 : decode cX5_first 47 = .ok (.ireturn, 1) := dk_172 (dk_at dksX5_first_2 1 rfl rfl)
theorem dX5_first_48 : decode cX5_first 48 = .ok (.iinc 2 1, 3) := dk_132 2 1 (dk_at dksX5_first_2 2 rfl rfl)
theorem dX5_first_51 : decode cX5_first 51 = .ok (.goto (-44), 3) := dk_167 255 212 (dk_at dksX5_first_2 5 rfl rfl)
theorem dX5_first_54 : decode cX5_first 54 = .ok (.iconst (-1), 1) := dk_2 (dk_at dksX5_first_2 8 rfl rfl)
theorem dX5_first_55 : decode cX5_first 55 = .ok (.ireturn, 1) := dk_172 (dk_at dksX5_first_2 9 rfl rfl)
abbrev cX7_init : ByteArray := prog_10_method_1_code
def yX7_init : MethodName := ⟨RX7, "<init>", "(IIII)V"⟩
def dkwX7_init_1 : List UInt8 := [181, 0, 19, 177]
abbrev dktX7_init_1 : List UInt8 := dkwX7_init_1 ++ []
def dkwX7_init_0 : List UInt8 := [42, 183, 0, 1, 42, 27, 181, 0, 7, 42, 28, 181, 0, 13, 42, 29, 181, 0, 16, 42, 21, 4]
abbrev dktX7_init_0 : List UInt8 := dkwX7_init_0 ++ dktX7_init_1
theorem dksX7_init_0 : cX7_init.data.toList.drop 0 = dktX7_init_0 := by decide +kernel
theorem dksX7_init_1 : cX7_init.data.toList.drop 22 = dktX7_init_1 := dk_seg dksX7_init_0 22 rfl rfl
theorem dX7_init_0 : decode cX7_init 0 = .ok (.aload_n 0, 1) := dk_42 (dk_at dksX7_init_0 0 rfl rfl)
theorem dX7_init_1 : decode cX7_init 1 = .ok (.invokespecial 1, 3) := dk_183 0 1 (dk_at dksX7_init_0 1 rfl rfl)
theorem dX7_init_4 : decode cX7_init 4 = .ok (.aload_n 0, 1) := dk_42 (dk_at dksX7_init_0 4 rfl rfl)
theorem dX7_init_5 : decode cX7_init 5 = .ok (.iload_n 1, 1) := dk_27 (dk_at dksX7_init_0 5 rfl rfl)
theorem dX7_init_6 : decode cX7_init 6 = .ok (.putfield 7, 3) := dk_181 0 7 (dk_at dksX7_init_0 6 rfl rfl)
theorem dX7_init_9 : decode cX7_init 9 = .ok (.aload_n 0, 1) := dk_42 (dk_at dksX7_init_0 9 rfl rfl)
theorem dX7_init_10 : decode cX7_init 10 = .ok (.iload_n 2, 1) := dk_28 (dk_at dksX7_init_0 10 rfl rfl)
theorem dX7_init_11 : decode cX7_init 11 = .ok (.putfield 13, 3) := dk_181 0 13 (dk_at dksX7_init_0 11 rfl rfl)
theorem dX7_init_14 : decode cX7_init 14 = .ok (.aload_n 0, 1) := dk_42 (dk_at dksX7_init_0 14 rfl rfl)
theorem dX7_init_15 : decode cX7_init 15 = .ok (.iload_n 3, 1) := dk_29 (dk_at dksX7_init_0 15 rfl rfl)
theorem dX7_init_16 : decode cX7_init 16 = .ok (.putfield 16, 3) := dk_181 0 16 (dk_at dksX7_init_0 16 rfl rfl)
theorem dX7_init_19 : decode cX7_init 19 = .ok (.aload_n 0, 1) := dk_42 (dk_at dksX7_init_0 19 rfl rfl)
theorem dX7_init_20 : decode cX7_init 20 = .ok (.iload 4, 2) := dk_21 4 (dk_at dksX7_init_0 20 rfl rfl)
theorem dX7_init_22 : decode cX7_init 22 = .ok (.putfield 19, 3) := dk_181 0 19 (dk_at dksX7_init_1 0 rfl rfl)
theorem dX7_init_25 : decode cX7_init 25 = .ok (.return_, 1) := dk_177 (dk_at dksX7_init_1 3 rfl rfl)
abbrev cX8_init : ByteArray := prog_5_method_1_code
def yX8_init : MethodName := ⟨RX8, "<init>", "(LGrassField$Cond;Z)V"⟩
def dkwX8_init_0 : List UInt8 := [42, 183, 0, 1, 42, 43, 181, 0, 7, 42, 28, 181, 0, 13, 177]
abbrev dktX8_init_0 : List UInt8 := dkwX8_init_0 ++ []
theorem dksX8_init_0 : cX8_init.data.toList.drop 0 = dktX8_init_0 := by decide +kernel
theorem dX8_init_0 : decode cX8_init 0 = .ok (.aload_n 0, 1) := dk_42 (dk_at dksX8_init_0 0 rfl rfl)
theorem dX8_init_1 : decode cX8_init 1 = .ok (.invokespecial 1, 3) := dk_183 0 1 (dk_at dksX8_init_0 1 rfl rfl)
theorem dX8_init_4 : decode cX8_init 4 = .ok (.aload_n 0, 1) := dk_42 (dk_at dksX8_init_0 4 rfl rfl)
theorem dX8_init_5 : decode cX8_init 5 = .ok (.aload_n 1, 1) := dk_43 (dk_at dksX8_init_0 5 rfl rfl)
theorem dX8_init_6 : decode cX8_init 6 = .ok (.putfield 7, 3) := dk_181 0 7 (dk_at dksX8_init_0 6 rfl rfl)
theorem dX8_init_9 : decode cX8_init 9 = .ok (.aload_n 0, 1) := dk_42 (dk_at dksX8_init_0 9 rfl rfl)
theorem dX8_init_10 : decode cX8_init 10 = .ok (.iload_n 2, 1) := dk_28 (dk_at dksX8_init_0 10 rfl rfl)
theorem dX8_init_11 : decode cX8_init 11 = .ok (.putfield 13, 3) := dk_181 0 13 (dk_at dksX8_init_0 11 rfl rfl)
theorem dX8_init_14 : decode cX8_init 14 = .ok (.return_, 1) := dk_177 (dk_at dksX8_init_0 14 rfl rfl)
abbrev cX8_holds : ByteArray := prog_5_method_2_code
def yX8_holds : MethodName := ⟨RX8, "holds", "([I)Z"⟩
def dkwX8_holds_2 : List UInt8 := [172]
abbrev dktX8_holds_2 : List UInt8 := dkwX8_holds_2 ++ []
def dkwX8_holds_1 : List UInt8 := [180, 0, 13, 154, 0, 7, 4, 167, 0, 4, 3, 172, 44, 180, 0, 23, 77, 167, 255, 217, 42, 180, 0, 13]
abbrev dktX8_holds_1 : List UInt8 := dkwX8_holds_1 ++ dktX8_holds_2
def dkwX8_holds_0 : List UInt8 := [42, 77, 44, 198, 0, 41, 44, 180, 0, 7, 43, 185, 0, 17, 2, 0, 42, 180, 0, 13, 159, 0, 16, 42]
abbrev dktX8_holds_0 : List UInt8 := dkwX8_holds_0 ++ dktX8_holds_1
theorem dksX8_holds_0 : cX8_holds.data.toList.drop 0 = dktX8_holds_0 := by decide +kernel
theorem dksX8_holds_1 : cX8_holds.data.toList.drop 24 = dktX8_holds_1 := dk_seg dksX8_holds_0 24 rfl rfl
theorem dksX8_holds_2 : cX8_holds.data.toList.drop 48 = dktX8_holds_2 := dk_seg dksX8_holds_1 24 rfl rfl
theorem dX8_holds_0 : decode cX8_holds 0 = .ok (.aload_n 0, 1) := dk_42 (dk_at dksX8_holds_0 0 rfl rfl)
theorem dX8_holds_1 : decode cX8_holds 1 = .ok (.astore_n 2, 1) := dk_77 (dk_at dksX8_holds_0 1 rfl rfl)
theorem dX8_holds_2 : decode cX8_holds 2 = .ok (.aload_n 2, 1) := dk_44 (dk_at dksX8_holds_0 2 rfl rfl)
theorem dX8_holds_3 : decode cX8_holds 3 = .ok (.ifnull 41, 3) := dk_198 0 41 (dk_at dksX8_holds_0 3 rfl rfl)
theorem dX8_holds_6 : decode cX8_holds 6 = .ok (.aload_n 2, 1) := dk_44 (dk_at dksX8_holds_0 6 rfl rfl)
theorem dX8_holds_7 : decode cX8_holds 7 = .ok (.getfield 7, 3) := dk_180 0 7 (dk_at dksX8_holds_0 7 rfl rfl)
theorem dX8_holds_10 : decode cX8_holds 10 = .ok (.aload_n 1, 1) := dk_43 (dk_at dksX8_holds_0 10 rfl rfl)
theorem dX8_holds_11 : decode cX8_holds 11 = .ok (.invokeinterface 17 2, 5) := by decide +kernel
theorem dX8_holds_16 : decode cX8_holds 16 = .ok (.aload_n 0, 1) := dk_42 (dk_at dksX8_holds_0 16 rfl rfl)
theorem dX8_holds_17 : decode cX8_holds 17 = .ok (.getfield 13, 3) := dk_180 0 13 (dk_at dksX8_holds_0 17 rfl rfl)
theorem dX8_holds_20 : decode cX8_holds 20 = .ok (.if_icmp .eq 16, 3) := dk_159 0 16 (dk_at dksX8_holds_0 20 rfl rfl)
theorem dX8_holds_23 : decode cX8_holds 23 = .ok (.aload_n 0, 1) := dk_42 (dk_at dksX8_holds_0 23 rfl rfl)
theorem dX8_holds_24 : decode cX8_holds 24 = .ok (.getfield 13, 3) := dk_180 0 13 (dk_at dksX8_holds_1 0 rfl rfl)
theorem dX8_holds_27 : decode cX8_holds 27 = .ok (.ifCond .ne 7, 3) := dk_154 0 7 (dk_at dksX8_holds_1 3 rfl rfl)
theorem dX8_holds_30 : decode cX8_holds 30 = .ok (.iconst 1, 1) := dk_4 (dk_at dksX8_holds_1 6 rfl rfl)
theorem dX8_holds_31 : decode cX8_holds 31 = .ok (.goto 4, 3) := dk_167 0 4 (dk_at dksX8_holds_1 7 rfl rfl)
theorem dX8_holds_34 : decode cX8_holds 34 = .ok (.iconst 0, 1) := dk_3 (dk_at dksX8_holds_1 10 rfl rfl)
theorem dX8_holds_35 : decode cX8_holds 35 = .ok (.ireturn, 1) := dk_172 (dk_at dksX8_holds_1 11 rfl rfl)
theorem dX8_holds_36 : decode cX8_holds 36 = .ok (.aload_n 2, 1) := dk_44 (dk_at dksX8_holds_1 12 rfl rfl)
theorem dX8_holds_37 : decode cX8_holds 37 = .ok (.getfield 23, 3) := dk_180 0 23 (dk_at dksX8_holds_1 13 rfl rfl)
theorem dX8_holds_40 : decode cX8_holds 40 = .ok (.astore_n 2, 1) := dk_77 (dk_at dksX8_holds_1 16 rfl rfl)
theorem dX8_holds_41 : decode cX8_holds 41 = .ok (.goto (-39), 3) := dk_167 255 217 (dk_at dksX8_holds_1 17 rfl rfl)
theorem dX8_holds_44 : decode cX8_holds 44 = .ok (.aload_n 0, 1) := dk_42 (dk_at dksX8_holds_1 20 rfl rfl)
theorem dX8_holds_45 : decode cX8_holds 45 = .ok (.getfield 13, 3) := dk_180 0 13 (dk_at dksX8_holds_1 21 rfl rfl)
theorem dX8_holds_48 : decode cX8_holds 48 = .ok (.ireturn, 1) := dk_172 (dk_at dksX8_holds_2 0 rfl rfl)
abbrev cX9_init : ByteArray := prog_24_method_1_code
def yX9_init : MethodName := ⟨RX9, "<init>", "(II)V"⟩
def dkwX9_init_0 : List UInt8 := [42, 183, 0, 1, 42, 27, 181, 0, 7, 42, 28, 181, 0, 13, 177]
abbrev dktX9_init_0 : List UInt8 := dkwX9_init_0 ++ []
theorem dksX9_init_0 : cX9_init.data.toList.drop 0 = dktX9_init_0 := by decide +kernel
theorem dX9_init_0 : decode cX9_init 0 = .ok (.aload_n 0, 1) := dk_42 (dk_at dksX9_init_0 0 rfl rfl)
theorem dX9_init_1 : decode cX9_init 1 = .ok (.invokespecial 1, 3) := dk_183 0 1 (dk_at dksX9_init_0 1 rfl rfl)
theorem dX9_init_4 : decode cX9_init 4 = .ok (.aload_n 0, 1) := dk_42 (dk_at dksX9_init_0 4 rfl rfl)
theorem dX9_init_5 : decode cX9_init 5 = .ok (.iload_n 1, 1) := dk_27 (dk_at dksX9_init_0 5 rfl rfl)
theorem dX9_init_6 : decode cX9_init 6 = .ok (.putfield 7, 3) := dk_181 0 7 (dk_at dksX9_init_0 6 rfl rfl)
theorem dX9_init_9 : decode cX9_init 9 = .ok (.aload_n 0, 1) := dk_42 (dk_at dksX9_init_0 9 rfl rfl)
theorem dX9_init_10 : decode cX9_init 10 = .ok (.iload_n 2, 1) := dk_28 (dk_at dksX9_init_0 10 rfl rfl)
theorem dX9_init_11 : decode cX9_init 11 = .ok (.putfield 13, 3) := dk_181 0 13 (dk_at dksX9_init_0 11 rfl rfl)
theorem dX9_init_14 : decode cX9_init 14 = .ok (.return_, 1) := dk_177 (dk_at dksX9_init_0 14 rfl rfl)
abbrev cX9_holds : ByteArray := prog_24_method_2_code
def yX9_holds : MethodName := ⟨RX9, "holds", "([I)Z"⟩
def dkwX9_holds_0 : List UInt8 := [43, 42, 180, 0, 7, 46, 42, 180, 0, 13, 161, 0, 7, 4, 167, 0, 4, 3, 172]
abbrev dktX9_holds_0 : List UInt8 := dkwX9_holds_0 ++ []
theorem dksX9_holds_0 : cX9_holds.data.toList.drop 0 = dktX9_holds_0 := by decide +kernel
theorem dX9_holds_0 : decode cX9_holds 0 = .ok (.aload_n 1, 1) := dk_43 (dk_at dksX9_holds_0 0 rfl rfl)
theorem dX9_holds_1 : decode cX9_holds 1 = .ok (.aload_n 0, 1) := dk_42 (dk_at dksX9_holds_0 1 rfl rfl)
theorem dX9_holds_2 : decode cX9_holds 2 = .ok (.getfield 7, 3) := dk_180 0 7 (dk_at dksX9_holds_0 2 rfl rfl)
theorem dX9_holds_5 : decode cX9_holds 5 = .ok (.iaload, 1) := dk_46 (dk_at dksX9_holds_0 5 rfl rfl)
theorem dX9_holds_6 : decode cX9_holds 6 = .ok (.aload_n 0, 1) := dk_42 (dk_at dksX9_holds_0 6 rfl rfl)
theorem dX9_holds_7 : decode cX9_holds 7 = .ok (.getfield 13, 3) := dk_180 0 13 (dk_at dksX9_holds_0 7 rfl rfl)
theorem dX9_holds_10 : decode cX9_holds 10 = .ok (.if_icmp .lt 7, 3) := dk_161 0 7 (dk_at dksX9_holds_0 10 rfl rfl)
theorem dX9_holds_13 : decode cX9_holds 13 = .ok (.iconst 1, 1) := dk_4 (dk_at dksX9_holds_0 13 rfl rfl)
theorem dX9_holds_14 : decode cX9_holds 14 = .ok (.goto 4, 3) := dk_167 0 4 (dk_at dksX9_holds_0 14 rfl rfl)
theorem dX9_holds_17 : decode cX9_holds 17 = .ok (.iconst 0, 1) := dk_3 (dk_at dksX9_holds_0 17 rfl rfl)
theorem dX9_holds_18 : decode cX9_holds 18 = .ok (.ireturn, 1) := dk_172 (dk_at dksX9_holds_0 18 rfl rfl)
abbrev cX10_init : ByteArray := prog_23_method_1_code
def yX10_init : MethodName := ⟨RX10, "<init>", "()V"⟩
def dkwX10_init_0 : List UInt8 := [42, 183, 0, 3, 42, 16, 14, 188, 10, 181, 0, 9, 177]
abbrev dktX10_init_0 : List UInt8 := dkwX10_init_0 ++ []
theorem dksX10_init_0 : cX10_init.data.toList.drop 0 = dktX10_init_0 := by decide +kernel
theorem dX10_init_0 : decode cX10_init 0 = .ok (.aload_n 0, 1) := dk_42 (dk_at dksX10_init_0 0 rfl rfl)
theorem dX10_init_1 : decode cX10_init 1 = .ok (.invokespecial 3, 3) := dk_183 0 3 (dk_at dksX10_init_0 1 rfl rfl)
theorem dX10_init_4 : decode cX10_init 4 = .ok (.aload_n 0, 1) := dk_42 (dk_at dksX10_init_0 4 rfl rfl)
theorem dX10_init_5 : decode cX10_init 5 = .ok (.bipush 14, 2) := dk_16 14 (dk_at dksX10_init_0 5 rfl rfl)
theorem dX10_init_7 : decode cX10_init 7 = .ok (.newarray .int, 2) := dk_188_10 (dk_at dksX10_init_0 7 rfl rfl)
theorem dX10_init_9 : decode cX10_init 9 = .ok (.putfield 9, 3) := dk_181 0 9 (dk_at dksX10_init_0 9 rfl rfl)
theorem dX10_init_12 : decode cX10_init 12 = .ok (.return_, 1) := dk_177 (dk_at dksX10_init_0 12 rfl rfl)
abbrev cX10_of : ByteArray := prog_23_method_2_code
def yX10_of : MethodName := ⟨RX10, "of", "([I)J"⟩
def dkwX10_of_1 : List UInt8 := [133, 43, 21, 4, 46, 133, 105, 97, 65, 132, 4, 1, 167, 255, 229, 32, 173]
abbrev dktX10_of_1 : List UInt8 := dkwX10_of_1 ++ []
def dkwX10_of_0 : List UInt8 := [42, 180, 0, 15, 133, 65, 3, 54, 4, 21, 4, 16, 14, 162, 0, 26, 32, 42, 180, 0, 9, 21, 4, 46]
abbrev dktX10_of_0 : List UInt8 := dkwX10_of_0 ++ dktX10_of_1
theorem dksX10_of_0 : cX10_of.data.toList.drop 0 = dktX10_of_0 := by decide +kernel
theorem dksX10_of_1 : cX10_of.data.toList.drop 24 = dktX10_of_1 := dk_seg dksX10_of_0 24 rfl rfl
theorem dX10_of_0 : decode cX10_of 0 = .ok (.aload_n 0, 1) := dk_42 (dk_at dksX10_of_0 0 rfl rfl)
theorem dX10_of_1 : decode cX10_of 1 = .ok (.getfield 15, 3) := dk_180 0 15 (dk_at dksX10_of_0 1 rfl rfl)
theorem dX10_of_4 : decode cX10_of 4 = .ok (.i2l, 1) := dk_133 (dk_at dksX10_of_0 4 rfl rfl)
theorem dX10_of_5 : decode cX10_of 5 = .ok (.lstore_n 2, 1) := dk_65 (dk_at dksX10_of_0 5 rfl rfl)
theorem dX10_of_6 : decode cX10_of 6 = .ok (.iconst 0, 1) := dk_3 (dk_at dksX10_of_0 6 rfl rfl)
theorem dX10_of_7 : decode cX10_of 7 = .ok (.istore 4, 2) := dk_54 4 (dk_at dksX10_of_0 7 rfl rfl)
theorem dX10_of_9 : decode cX10_of 9 = .ok (.iload 4, 2) := dk_21 4 (dk_at dksX10_of_0 9 rfl rfl)
theorem dX10_of_11 : decode cX10_of 11 = .ok (.bipush 14, 2) := dk_16 14 (dk_at dksX10_of_0 11 rfl rfl)
theorem dX10_of_13 : decode cX10_of 13 = .ok (.if_icmp .ge 26, 3) := dk_162 0 26 (dk_at dksX10_of_0 13 rfl rfl)
theorem dX10_of_16 : decode cX10_of 16 = .ok (.lload_n 2, 1) := dk_32 (dk_at dksX10_of_0 16 rfl rfl)
theorem dX10_of_17 : decode cX10_of 17 = .ok (.aload_n 0, 1) := dk_42 (dk_at dksX10_of_0 17 rfl rfl)
theorem dX10_of_18 : decode cX10_of 18 = .ok (.getfield 9, 3) := dk_180 0 9 (dk_at dksX10_of_0 18 rfl rfl)
theorem dX10_of_21 : decode cX10_of 21 = .ok (.iload 4, 2) := dk_21 4 (dk_at dksX10_of_0 21 rfl rfl)
theorem dX10_of_23 : decode cX10_of 23 = .ok (.iaload, 1) := dk_46 (dk_at dksX10_of_0 23 rfl rfl)
theorem dX10_of_24 : decode cX10_of 24 = .ok (.i2l, 1) := dk_133 (dk_at dksX10_of_1 0 rfl rfl)
theorem dX10_of_25 : decode cX10_of 25 = .ok (.aload_n 1, 1) := dk_43 (dk_at dksX10_of_1 1 rfl rfl)
theorem dX10_of_26 : decode cX10_of 26 = .ok (.iload 4, 2) := dk_21 4 (dk_at dksX10_of_1 2 rfl rfl)
theorem dX10_of_28 : decode cX10_of 28 = .ok (.iaload, 1) := dk_46 (dk_at dksX10_of_1 4 rfl rfl)
theorem dX10_of_29 : decode cX10_of 29 = .ok (.i2l, 1) := dk_133 (dk_at dksX10_of_1 5 rfl rfl)
theorem dX10_of_30 : decode cX10_of 30 = .ok (.lmul, 1) := dk_105 (dk_at dksX10_of_1 6 rfl rfl)
theorem dX10_of_31 : decode cX10_of 31 = .ok (.ladd, 1) := dk_97 (dk_at dksX10_of_1 7 rfl rfl)
theorem dX10_of_32 : decode cX10_of 32 = .ok (.lstore_n 2, 1) := dk_65 (dk_at dksX10_of_1 8 rfl rfl)
theorem dX10_of_33 : decode cX10_of 33 = .ok (.iinc 4 1, 3) := dk_132 4 1 (dk_at dksX10_of_1 9 rfl rfl)
theorem dX10_of_36 : decode cX10_of 36 = .ok (.goto (-27), 3) := dk_167 255 229 (dk_at dksX10_of_1 12 rfl rfl)
theorem dX10_of_39 : decode cX10_of 39 = .ok (.lload_n 2, 1) := dk_32 (dk_at dksX10_of_1 15 rfl rfl)
theorem dX10_of_40 : decode cX10_of 40 = .ok (.lreturn, 1) := dk_173 (dk_at dksX10_of_1 16 rfl rfl)
abbrev cX11_init : ByteArray := prog_16_method_1_code
def yX11_init : MethodName := ⟨RX11, "<init>", "(LGrassField$Sum;LGrassField$Sum;)V"⟩
def dkwX11_init_0 : List UInt8 := [42, 183, 0, 1, 42, 43, 181, 0, 7, 42, 44, 181, 0, 13, 177]
abbrev dktX11_init_0 : List UInt8 := dkwX11_init_0 ++ []
theorem dksX11_init_0 : cX11_init.data.toList.drop 0 = dktX11_init_0 := by decide +kernel
theorem dX11_init_0 : decode cX11_init 0 = .ok (.aload_n 0, 1) := dk_42 (dk_at dksX11_init_0 0 rfl rfl)
theorem dX11_init_1 : decode cX11_init 1 = .ok (.invokespecial 1, 3) := dk_183 0 1 (dk_at dksX11_init_0 1 rfl rfl)
theorem dX11_init_4 : decode cX11_init 4 = .ok (.aload_n 0, 1) := dk_42 (dk_at dksX11_init_0 4 rfl rfl)
theorem dX11_init_5 : decode cX11_init 5 = .ok (.aload_n 1, 1) := dk_43 (dk_at dksX11_init_0 5 rfl rfl)
theorem dX11_init_6 : decode cX11_init 6 = .ok (.putfield 7, 3) := dk_181 0 7 (dk_at dksX11_init_0 6 rfl rfl)
theorem dX11_init_9 : decode cX11_init 9 = .ok (.aload_n 0, 1) := dk_42 (dk_at dksX11_init_0 9 rfl rfl)
theorem dX11_init_10 : decode cX11_init 10 = .ok (.aload_n 2, 1) := dk_44 (dk_at dksX11_init_0 10 rfl rfl)
theorem dX11_init_11 : decode cX11_init 11 = .ok (.putfield 13, 3) := dk_181 0 13 (dk_at dksX11_init_0 11 rfl rfl)
theorem dX11_init_14 : decode cX11_init 14 = .ok (.return_, 1) := dk_177 (dk_at dksX11_init_0 14 rfl rfl)
abbrev cX11_holds : ByteArray := prog_16_method_2_code
def yX11_holds : MethodName := ⟨RX11, "holds", "([I)Z"⟩
def dkwX11_holds_1 : List UInt8 := [3, 172]
abbrev dktX11_holds_1 : List UInt8 := dkwX11_holds_1 ++ []
def dkwX11_holds_0 : List UInt8 := [42, 180, 0, 7, 43, 182, 0, 16, 42, 180, 0, 13, 43, 182, 0, 16, 148, 156, 0, 7, 4, 167, 0, 4]
abbrev dktX11_holds_0 : List UInt8 := dkwX11_holds_0 ++ dktX11_holds_1
theorem dksX11_holds_0 : cX11_holds.data.toList.drop 0 = dktX11_holds_0 := by decide +kernel
theorem dksX11_holds_1 : cX11_holds.data.toList.drop 24 = dktX11_holds_1 := dk_seg dksX11_holds_0 24 rfl rfl
theorem dX11_holds_0 : decode cX11_holds 0 = .ok (.aload_n 0, 1) := dk_42 (dk_at dksX11_holds_0 0 rfl rfl)
theorem dX11_holds_1 : decode cX11_holds 1 = .ok (.getfield 7, 3) := dk_180 0 7 (dk_at dksX11_holds_0 1 rfl rfl)
theorem dX11_holds_4 : decode cX11_holds 4 = .ok (.aload_n 1, 1) := dk_43 (dk_at dksX11_holds_0 4 rfl rfl)
theorem dX11_holds_5 : decode cX11_holds 5 = .ok (.invokevirtual 16, 3) := dk_182 0 16 (dk_at dksX11_holds_0 5 rfl rfl)
theorem dX11_holds_8 : decode cX11_holds 8 = .ok (.aload_n 0, 1) := dk_42 (dk_at dksX11_holds_0 8 rfl rfl)
theorem dX11_holds_9 : decode cX11_holds 9 = .ok (.getfield 13, 3) := dk_180 0 13 (dk_at dksX11_holds_0 9 rfl rfl)
theorem dX11_holds_12 : decode cX11_holds 12 = .ok (.aload_n 1, 1) := dk_43 (dk_at dksX11_holds_0 12 rfl rfl)
theorem dX11_holds_13 : decode cX11_holds 13 = .ok (.invokevirtual 16, 3) := dk_182 0 16 (dk_at dksX11_holds_0 13 rfl rfl)
theorem dX11_holds_16 : decode cX11_holds 16 = .ok (.lcmp, 1) := dk_148 (dk_at dksX11_holds_0 16 rfl rfl)
theorem dX11_holds_17 : decode cX11_holds 17 = .ok (.ifCond .ge 7, 3) := dk_156 0 7 (dk_at dksX11_holds_0 17 rfl rfl)
theorem dX11_holds_20 : decode cX11_holds 20 = .ok (.iconst 1, 1) := dk_4 (dk_at dksX11_holds_0 20 rfl rfl)
theorem dX11_holds_21 : decode cX11_holds 21 = .ok (.goto 4, 3) := dk_167 0 4 (dk_at dksX11_holds_0 21 rfl rfl)
theorem dX11_holds_24 : decode cX11_holds 24 = .ok (.iconst 0, 1) := dk_3 (dk_at dksX11_holds_1 0 rfl rfl)
theorem dX11_holds_25 : decode cX11_holds 25 = .ok (.ireturn, 1) := dk_172 (dk_at dksX11_holds_1 1 rfl rfl)
abbrev cX12_init : ByteArray := prog_18_method_1_code
def yX12_init : MethodName := ⟨RX12, "<init>", "(LGrassField$Cond;)V"⟩
def dkwX12_init_0 : List UInt8 := [42, 183, 0, 1, 42, 43, 181, 0, 7, 177]
abbrev dktX12_init_0 : List UInt8 := dkwX12_init_0 ++ []
theorem dksX12_init_0 : cX12_init.data.toList.drop 0 = dktX12_init_0 := by decide +kernel
theorem dX12_init_0 : decode cX12_init 0 = .ok (.aload_n 0, 1) := dk_42 (dk_at dksX12_init_0 0 rfl rfl)
theorem dX12_init_1 : decode cX12_init 1 = .ok (.invokespecial 1, 3) := dk_183 0 1 (dk_at dksX12_init_0 1 rfl rfl)
theorem dX12_init_4 : decode cX12_init 4 = .ok (.aload_n 0, 1) := dk_42 (dk_at dksX12_init_0 4 rfl rfl)
theorem dX12_init_5 : decode cX12_init 5 = .ok (.aload_n 1, 1) := dk_43 (dk_at dksX12_init_0 5 rfl rfl)
theorem dX12_init_6 : decode cX12_init 6 = .ok (.putfield 7, 3) := dk_181 0 7 (dk_at dksX12_init_0 6 rfl rfl)
theorem dX12_init_9 : decode cX12_init 9 = .ok (.return_, 1) := dk_177 (dk_at dksX12_init_0 9 rfl rfl)
abbrev cX12_holds : ByteArray := prog_18_method_2_code
def yX12_holds : MethodName := ⟨RX12, "holds", "([I)Z"⟩
def dkwX12_holds_0 : List UInt8 := [42, 180, 0, 7, 43, 185, 0, 13, 2, 0, 154, 0, 7, 4, 167, 0, 4, 3, 172]
abbrev dktX12_holds_0 : List UInt8 := dkwX12_holds_0 ++ []
theorem dksX12_holds_0 : cX12_holds.data.toList.drop 0 = dktX12_holds_0 := by decide +kernel
theorem dX12_holds_0 : decode cX12_holds 0 = .ok (.aload_n 0, 1) := dk_42 (dk_at dksX12_holds_0 0 rfl rfl)
theorem dX12_holds_1 : decode cX12_holds 1 = .ok (.getfield 7, 3) := dk_180 0 7 (dk_at dksX12_holds_0 1 rfl rfl)
theorem dX12_holds_4 : decode cX12_holds 4 = .ok (.aload_n 1, 1) := dk_43 (dk_at dksX12_holds_0 4 rfl rfl)
theorem dX12_holds_5 : decode cX12_holds 5 = .ok (.invokeinterface 13 2, 5) := by decide +kernel
theorem dX12_holds_10 : decode cX12_holds 10 = .ok (.ifCond .ne 7, 3) := dk_154 0 7 (dk_at dksX12_holds_0 10 rfl rfl)
theorem dX12_holds_13 : decode cX12_holds 13 = .ok (.iconst 1, 1) := dk_4 (dk_at dksX12_holds_0 13 rfl rfl)
theorem dX12_holds_14 : decode cX12_holds 14 = .ok (.goto 4, 3) := dk_167 0 4 (dk_at dksX12_holds_0 14 rfl rfl)
theorem dX12_holds_17 : decode cX12_holds 17 = .ok (.iconst 0, 1) := dk_3 (dk_at dksX12_holds_0 17 rfl rfl)
theorem dX12_holds_18 : decode cX12_holds 18 = .ok (.ireturn, 1) := dk_172 (dk_at dksX12_holds_0 18 rfl rfl)
abbrev cX13_init : ByteArray := prog_17_method_1_code
def yX13_init : MethodName := ⟨RX13, "<init>", "(LGrassField$Cond;)V"⟩
def dkwX13_init_0 : List UInt8 := [42, 183, 0, 1, 42, 43, 181, 0, 7, 177]
abbrev dktX13_init_0 : List UInt8 := dkwX13_init_0 ++ []
theorem dksX13_init_0 : cX13_init.data.toList.drop 0 = dktX13_init_0 := by decide +kernel
theorem dX13_init_0 : decode cX13_init 0 = .ok (.aload_n 0, 1) := dk_42 (dk_at dksX13_init_0 0 rfl rfl)
theorem dX13_init_1 : decode cX13_init 1 = .ok (.invokespecial 1, 3) := dk_183 0 1 (dk_at dksX13_init_0 1 rfl rfl)
theorem dX13_init_4 : decode cX13_init 4 = .ok (.aload_n 0, 1) := dk_42 (dk_at dksX13_init_0 4 rfl rfl)
theorem dX13_init_5 : decode cX13_init 5 = .ok (.aload_n 1, 1) := dk_43 (dk_at dksX13_init_0 5 rfl rfl)
theorem dX13_init_6 : decode cX13_init 6 = .ok (.putfield 7, 3) := dk_181 0 7 (dk_at dksX13_init_0 6 rfl rfl)
theorem dX13_init_9 : decode cX13_init 9 = .ok (.return_, 1) := dk_177 (dk_at dksX13_init_0 9 rfl rfl)
abbrev cX13_is : ByteArray := prog_17_method_2_code
def yX13_is : MethodName := ⟨RX13, "is", "([I)Z"⟩
def dkwX13_is_1 : List UInt8 := [3, 172]
abbrev dktX13_is_1 : List UInt8 := dkwX13_is_1 ++ []
def dkwX13_is_0 : List UInt8 := [42, 180, 0, 7, 198, 0, 16, 42, 180, 0, 7, 43, 185, 0, 13, 2, 0, 153, 0, 7, 4, 167, 0, 4]
abbrev dktX13_is_0 : List UInt8 := dkwX13_is_0 ++ dktX13_is_1
theorem dksX13_is_0 : cX13_is.data.toList.drop 0 = dktX13_is_0 := by decide +kernel
theorem dksX13_is_1 : cX13_is.data.toList.drop 24 = dktX13_is_1 := dk_seg dksX13_is_0 24 rfl rfl
theorem dX13_is_0 : decode cX13_is 0 = .ok (.aload_n 0, 1) := dk_42 (dk_at dksX13_is_0 0 rfl rfl)
theorem dX13_is_1 : decode cX13_is 1 = .ok (.getfield 7, 3) := dk_180 0 7 (dk_at dksX13_is_0 1 rfl rfl)
theorem dX13_is_4 : decode cX13_is 4 = .ok (.ifnull 16, 3) := dk_198 0 16 (dk_at dksX13_is_0 4 rfl rfl)
theorem dX13_is_7 : decode cX13_is 7 = .ok (.aload_n 0, 1) := dk_42 (dk_at dksX13_is_0 7 rfl rfl)
theorem dX13_is_8 : decode cX13_is 8 = .ok (.getfield 7, 3) := dk_180 0 7 (dk_at dksX13_is_0 8 rfl rfl)
theorem dX13_is_11 : decode cX13_is 11 = .ok (.aload_n 1, 1) := dk_43 (dk_at dksX13_is_0 11 rfl rfl)
theorem dX13_is_12 : decode cX13_is 12 = .ok (.invokeinterface 13 2, 5) := by decide +kernel
theorem dX13_is_17 : decode cX13_is 17 = .ok (.ifCond .eq 7, 3) := dk_153 0 7 (dk_at dksX13_is_0 17 rfl rfl)
theorem dX13_is_20 : decode cX13_is 20 = .ok (.iconst 1, 1) := dk_4 (dk_at dksX13_is_0 20 rfl rfl)
theorem dX13_is_21 : decode cX13_is 21 = .ok (.goto 4, 3) := dk_167 0 4 (dk_at dksX13_is_0 21 rfl rfl)
theorem dX13_is_24 : decode cX13_is 24 = .ok (.iconst 0, 1) := dk_3 (dk_at dksX13_is_1 0 rfl rfl)
theorem dX13_is_25 : decode cX13_is 25 = .ok (.ireturn, 1) := dk_172 (dk_at dksX13_is_1 1 rfl rfl)
abbrev cX14_init : ByteArray := prog_11_method_1_code
def yX14_init : MethodName := ⟨RX14, "<init>", "(LGrassField$Cond;)V"⟩
def dkwX14_init_0 : List UInt8 := [42, 43, 183, 0, 1, 177]
abbrev dktX14_init_0 : List UInt8 := dkwX14_init_0 ++ []
theorem dksX14_init_0 : cX14_init.data.toList.drop 0 = dktX14_init_0 := by decide +kernel
theorem dX14_init_0 : decode cX14_init 0 = .ok (.aload_n 0, 1) := dk_42 (dk_at dksX14_init_0 0 rfl rfl)
theorem dX14_init_1 : decode cX14_init 1 = .ok (.aload_n 1, 1) := dk_43 (dk_at dksX14_init_0 1 rfl rfl)
theorem dX14_init_2 : decode cX14_init 2 = .ok (.invokespecial 1, 3) := dk_183 0 1 (dk_at dksX14_init_0 2 rfl rfl)
theorem dX14_init_5 : decode cX14_init 5 = .ok (.return_, 1) := dk_177 (dk_at dksX14_init_0 5 rfl rfl)
abbrev cX14_does : ByteArray := prog_11_method_2_code
def yX14_does : MethodName := ⟨RX14, "does", "(LGrassField$House;LGrassField$Person;)V"⟩
def dkwX14_does_0 : List UInt8 := [44, 3, 44, 180, 0, 7, 4, 100, 184, 0, 13, 181, 0, 7, 177]
abbrev dktX14_does_0 : List UInt8 := dkwX14_does_0 ++ []
theorem dksX14_does_0 : cX14_does.data.toList.drop 0 = dktX14_does_0 := by decide +kernel
theorem dX14_does_0 : decode cX14_does 0 = .ok (.aload_n 2, 1) := dk_44 (dk_at dksX14_does_0 0 rfl rfl)
theorem dX14_does_1 : decode cX14_does 1 = .ok (.iconst 0, 1) := dk_3 (dk_at dksX14_does_0 1 rfl rfl)
theorem dX14_does_2 : decode cX14_does 2 = .ok (.aload_n 2, 1) := dk_44 (dk_at dksX14_does_0 2 rfl rfl)
theorem dX14_does_3 : decode cX14_does 3 = .ok (.getfield 7, 3) := dk_180 0 7 (dk_at dksX14_does_0 3 rfl rfl)
theorem dX14_does_6 : decode cX14_does 6 = .ok (.iconst 1, 1) := dk_4 (dk_at dksX14_does_0 6 rfl rfl)
theorem dX14_does_7 : decode cX14_does 7 = .ok (.isub, 1) := dk_100 (dk_at dksX14_does_0 7 rfl rfl)
theorem dX14_does_8 : decode cX14_does 8 = .ok (.invokestatic 13, 3) := dk_184 0 13 (dk_at dksX14_does_0 8 rfl rfl)
theorem dX14_does_11 : decode cX14_does 11 = .ok (.putfield 7, 3) := dk_181 0 7 (dk_at dksX14_does_0 11 rfl rfl)
theorem dX14_does_14 : decode cX14_does 14 = .ok (.return_, 1) := dk_177 (dk_at dksX14_does_0 14 rfl rfl)
abbrev cX15_init : ByteArray := prog_21_method_1_code
def yX15_init : MethodName := ⟨RX15, "<init>", "(LGrassField$Cond;)V"⟩
def dkwX15_init_0 : List UInt8 := [42, 43, 183, 0, 3, 177]
abbrev dktX15_init_0 : List UInt8 := dkwX15_init_0 ++ []
theorem dksX15_init_0 : cX15_init.data.toList.drop 0 = dktX15_init_0 := by decide +kernel
theorem dX15_init_0 : decode cX15_init 0 = .ok (.aload_n 0, 1) := dk_42 (dk_at dksX15_init_0 0 rfl rfl)
theorem dX15_init_1 : decode cX15_init 1 = .ok (.aload_n 1, 1) := dk_43 (dk_at dksX15_init_0 1 rfl rfl)
theorem dX15_init_2 : decode cX15_init 2 = .ok (.invokespecial 3, 3) := dk_183 0 3 (dk_at dksX15_init_0 2 rfl rfl)
theorem dX15_init_5 : decode cX15_init 5 = .ok (.return_, 1) := dk_177 (dk_at dksX15_init_0 5 rfl rfl)
abbrev cX15_does : ByteArray := prog_21_method_2_code
def yX15_does : MethodName := ⟨RX15, "does", "(LGrassField$House;LGrassField$Person;)V"⟩
def dkwX15_does_2 : List UInt8 := [43, 44, 43, 180, 0, 37, 29, 50, 182, 0, 41, 177]
abbrev dktX15_does_2 : List UInt8 := dkwX15_does_2 ++ []
def dkwX15_does_1 : List UInt8 := [180, 0, 21, 50, 180, 0, 28, 153, 0, 8, 29, 2, 160, 0, 12, 42, 43, 44, 183, 0, 33, 167, 0, 14]
abbrev dktX15_does_1 : List UInt8 := dkwX15_does_1 ++ dktX15_does_2
def dkwX15_does_0 : List UInt8 := [43, 44, 44, 180, 0, 9, 4, 182, 0, 15, 62, 44, 180, 0, 21, 2, 159, 0, 23, 43, 180, 0, 24, 44]
abbrev dktX15_does_0 : List UInt8 := dkwX15_does_0 ++ dktX15_does_1
theorem dksX15_does_0 : cX15_does.data.toList.drop 0 = dktX15_does_0 := by decide +kernel
theorem dksX15_does_1 : cX15_does.data.toList.drop 24 = dktX15_does_1 := dk_seg dksX15_does_0 24 rfl rfl
theorem dksX15_does_2 : cX15_does.data.toList.drop 48 = dktX15_does_2 := dk_seg dksX15_does_1 24 rfl rfl
theorem dX15_does_0 : decode cX15_does 0 = .ok (.aload_n 1, 1) := dk_43 (dk_at dksX15_does_0 0 rfl rfl)
theorem dX15_does_1 : decode cX15_does 1 = .ok (.aload_n 2, 1) := dk_44 (dk_at dksX15_does_0 1 rfl rfl)
theorem dX15_does_2 : decode cX15_does 2 = .ok (.aload_n 2, 1) := dk_44 (dk_at dksX15_does_0 2 rfl rfl)
theorem dX15_does_3 : decode cX15_does 3 = .ok (.getfield 9, 3) := dk_180 0 9 (dk_at dksX15_does_0 3 rfl rfl)
theorem dX15_does_6 : decode cX15_does 6 = .ok (.iconst 1, 1) := dk_4 (dk_at dksX15_does_0 6 rfl rfl)
theorem dX15_does_7 : decode cX15_does 7 = .ok (.invokevirtual 15, 3) := dk_182 0 15 (dk_at dksX15_does_0 7 rfl rfl)
theorem dX15_does_10 : decode cX15_does 10 = .ok (.istore_n 3, 1) := dk_62 (dk_at dksX15_does_0 10 rfl rfl)
theorem dX15_does_11 : decode cX15_does 11 = .ok (.aload_n 2, 1) := dk_44 (dk_at dksX15_does_0 11 rfl rfl)
theorem dX15_does_12 : decode cX15_does 12 = .ok (.getfield 21, 3) := dk_180 0 21 (dk_at dksX15_does_0 12 rfl rfl)
theorem dX15_does_15 : decode cX15_does 15 = .ok (.iconst (-1), 1) := dk_2 (dk_at dksX15_does_0 15 rfl rfl)
theorem dX15_does_16 : decode cX15_does 16 = .ok (.if_icmp .eq 23, 3) := dk_159 0 23 (dk_at dksX15_does_0 16 rfl rfl)
theorem dX15_does_19 : decode cX15_does 19 = .ok (.aload_n 1, 1) := dk_43 (dk_at dksX15_does_0 19 rfl rfl)
theorem dX15_does_20 : decode cX15_does 20 = .ok (.getfield 24, 3) := dk_180 0 24 (dk_at dksX15_does_0 20 rfl rfl)
theorem dX15_does_23 : decode cX15_does 23 = .ok (.aload_n 2, 1) := dk_44 (dk_at dksX15_does_0 23 rfl rfl)
theorem dX15_does_24 : decode cX15_does 24 = .ok (.getfield 21, 3) := dk_180 0 21 (dk_at dksX15_does_1 0 rfl rfl)
theorem dX15_does_27 : decode cX15_does 27 = .ok (.aaload, 1) := dk_50 (dk_at dksX15_does_1 3 rfl rfl)
theorem dX15_does_28 : decode cX15_does 28 = .ok (.getfield 28, 3) := dk_180 0 28 (dk_at dksX15_does_1 4 rfl rfl)
theorem dX15_does_31 : decode cX15_does 31 = .ok (.ifCond .eq 8, 3) := dk_153 0 8 (dk_at dksX15_does_1 7 rfl rfl)
theorem dX15_does_34 : decode cX15_does 34 = .ok (.iload_n 3, 1) := dk_29 (dk_at dksX15_does_1 10 rfl rfl)
theorem dX15_does_35 : decode cX15_does 35 = .ok (.iconst (-1), 1) := dk_2 (dk_at dksX15_does_1 11 rfl rfl)
theorem dX15_does_36 : decode cX15_does 36 = .ok (.if_icmp .ne 12, 3) := dk_160 0 12 (dk_at dksX15_does_1 12 rfl rfl)
theorem dX15_does_39 : decode cX15_does 39 = .ok (.aload_n 0, 1) := dk_42 (dk_at dksX15_does_1 15 rfl rfl)
theorem dX15_does_40 : decode cX15_does 40 = .ok (.aload_n 1, 1) := dk_43 (dk_at dksX15_does_1 16 rfl rfl)
theorem dX15_does_41 : decode cX15_does 41 = .ok (.aload_n 2, 1) := dk_44 (dk_at dksX15_does_1 17 rfl rfl)
theorem dX15_does_42 : decode cX15_does 42 = .ok (.invokespecial 33, 3) := dk_183 0 33 (dk_at dksX15_does_1 18 rfl rfl)
theorem dX15_does_45 : decode cX15_does 45 = .ok (.goto 14, 3) := dk_167 0 14 (dk_at dksX15_does_1 21 rfl rfl)
theorem dX15_does_48 : decode cX15_does 48 = .ok (.aload_n 1, 1) := dk_43 (dk_at dksX15_does_2 0 rfl rfl)
theorem dX15_does_49 : decode cX15_does 49 = .ok (.aload_n 2, 1) := dk_44 (dk_at dksX15_does_2 1 rfl rfl)
theorem dX15_does_50 : decode cX15_does 50 = .ok (.aload_n 1, 1) := dk_43 (dk_at dksX15_does_2 2 rfl rfl)
theorem dX15_does_51 : decode cX15_does 51 = .ok (.getfield 37, 3) := dk_180 0 37 (dk_at dksX15_does_2 3 rfl rfl)
theorem dX15_does_54 : decode cX15_does 54 = .ok (.iload_n 3, 1) := dk_29 (dk_at dksX15_does_2 6 rfl rfl)
theorem dX15_does_55 : decode cX15_does 55 = .ok (.aaload, 1) := dk_50 (dk_at dksX15_does_2 7 rfl rfl)
theorem dX15_does_56 : decode cX15_does 56 = .ok (.invokevirtual 41, 3) := dk_182 0 41 (dk_at dksX15_does_2 8 rfl rfl)
theorem dX15_does_59 : decode cX15_does 59 = .ok (.return_, 1) := dk_177 (dk_at dksX15_does_2 11 rfl rfl)
abbrev cX16_init : ByteArray := prog_9_method_1_code
def yX16_init : MethodName := ⟨RX16, "<init>", "(LGrassField$Cond;)V"⟩
def dkwX16_init_0 : List UInt8 := [42, 43, 183, 0, 3, 177]
abbrev dktX16_init_0 : List UInt8 := dkwX16_init_0 ++ []
theorem dksX16_init_0 : cX16_init.data.toList.drop 0 = dktX16_init_0 := by decide +kernel
theorem dX16_init_0 : decode cX16_init 0 = .ok (.aload_n 0, 1) := dk_42 (dk_at dksX16_init_0 0 rfl rfl)
theorem dX16_init_1 : decode cX16_init 1 = .ok (.aload_n 1, 1) := dk_43 (dk_at dksX16_init_0 1 rfl rfl)
theorem dX16_init_2 : decode cX16_init 2 = .ok (.invokespecial 3, 3) := dk_183 0 3 (dk_at dksX16_init_0 2 rfl rfl)
theorem dX16_init_5 : decode cX16_init 5 = .ok (.return_, 1) := dk_177 (dk_at dksX16_init_0 5 rfl rfl)
abbrev cX16_does : ByteArray := prog_9_method_2_code
def yX16_does : MethodName := ⟨RX16, "does", "(LGrassField$House;LGrassField$Person;)V"⟩
def dkwX16_does_4 : List UInt8 := [29, 181, 0, 9, 177]
abbrev dktX16_does_4 : List UInt8 := dkwX16_does_4 ++ []
def dkwX16_does_3 : List UInt8 := [21, 7, 21, 4, 163, 0, 6, 167, 0, 10, 21, 5, 62, 21, 7, 54, 4, 132, 5, 1, 167, 255, 178, 44]
abbrev dktX16_does_3 : List UInt8 := dkwX16_does_3 ++ dktX16_does_4
def dkwX16_does_2 : List UInt8 := [21, 6, 2, 160, 0, 4, 177, 21, 5, 43, 180, 0, 25, 21, 6, 50, 180, 0, 9, 184, 0, 15, 54, 7]
abbrev dktX16_does_2 : List UInt8 := dkwX16_does_2 ++ dktX16_does_3
def dkwX16_does_1 : List UInt8 := [180, 0, 9, 184, 0, 15, 4, 164, 0, 6, 167, 0, 54, 43, 44, 21, 5, 4, 182, 0, 19, 54, 6]
abbrev dktX16_does_1 : List UInt8 := dkwX16_does_1 ++ dktX16_does_2
def dkwX16_does_0 : List UInt8 := [44, 180, 0, 9, 62, 2, 54, 4, 3, 54, 5, 21, 5, 17, 1, 0, 162, 0, 76, 21, 5, 44]
abbrev dktX16_does_0 : List UInt8 := dkwX16_does_0 ++ dktX16_does_1
theorem dksX16_does_0 : cX16_does.data.toList.drop 0 = dktX16_does_0 := by decide +kernel
theorem dksX16_does_1 : cX16_does.data.toList.drop 22 = dktX16_does_1 := dk_seg dksX16_does_0 22 rfl rfl
theorem dksX16_does_2 : cX16_does.data.toList.drop 45 = dktX16_does_2 := dk_seg dksX16_does_1 23 rfl rfl
theorem dksX16_does_3 : cX16_does.data.toList.drop 69 = dktX16_does_3 := dk_seg dksX16_does_2 24 rfl rfl
theorem dksX16_does_4 : cX16_does.data.toList.drop 93 = dktX16_does_4 := dk_seg dksX16_does_3 24 rfl rfl
theorem dX16_does_0 : decode cX16_does 0 = .ok (.aload_n 2, 1) := dk_44 (dk_at dksX16_does_0 0 rfl rfl)
theorem dX16_does_1 : decode cX16_does 1 = .ok (.getfield 9, 3) := dk_180 0 9 (dk_at dksX16_does_0 1 rfl rfl)
theorem dX16_does_4 : decode cX16_does 4 = .ok (.istore_n 3, 1) := dk_62 (dk_at dksX16_does_0 4 rfl rfl)
theorem dX16_does_5 : decode cX16_does 5 = .ok (.iconst (-1), 1) := dk_2 (dk_at dksX16_does_0 5 rfl rfl)
theorem dX16_does_6 : decode cX16_does 6 = .ok (.istore 4, 2) := dk_54 4 (dk_at dksX16_does_0 6 rfl rfl)
theorem dX16_does_8 : decode cX16_does 8 = .ok (.iconst 0, 1) := dk_3 (dk_at dksX16_does_0 8 rfl rfl)
theorem dX16_does_9 : decode cX16_does 9 = .ok (.istore 5, 2) := dk_54 5 (dk_at dksX16_does_0 9 rfl rfl)
theorem dX16_does_11 : decode cX16_does 11 = .ok (.iload 5, 2) := dk_21 5 (dk_at dksX16_does_0 11 rfl rfl)
theorem dX16_does_13 : decode cX16_does 13 = .ok (.sipush 256, 3) := dk_17 1 0 (dk_at dksX16_does_0 13 rfl rfl)
theorem dX16_does_16 : decode cX16_does 16 = .ok (.if_icmp .ge 76, 3) := dk_162 0 76 (dk_at dksX16_does_0 16 rfl rfl)
theorem dX16_does_19 : decode cX16_does 19 = .ok (.iload 5, 2) := dk_21 5 (dk_at dksX16_does_0 19 rfl rfl)
theorem dX16_does_21 : decode cX16_does 21 = .ok (.aload_n 2, 1) := dk_44 (dk_at dksX16_does_0 21 rfl rfl)
theorem dX16_does_22 : decode cX16_does 22 = .ok (.getfield 9, 3) := dk_180 0 9 (dk_at dksX16_does_1 0 rfl rfl)
theorem dX16_does_25 : decode cX16_does 25 = .ok (.invokestatic 15, 3) := dk_184 0 15 (dk_at dksX16_does_1 3 rfl rfl)
theorem dX16_does_28 : decode cX16_does 28 = .ok (.iconst 1, 1) := dk_4 (dk_at dksX16_does_1 6 rfl rfl)
theorem dX16_does_29 : decode cX16_does 29 = .ok (.if_icmp .le 6, 3) := dk_164 0 6 (dk_at dksX16_does_1 7 rfl rfl)
theorem dX16_does_32 : decode cX16_does 32 = .ok (.goto 54, 3) := dk_167 0 54 (dk_at dksX16_does_1 10 rfl rfl)
theorem dX16_does_35 : decode cX16_does 35 = .ok (.aload_n 1, 1) := dk_43 (dk_at dksX16_does_1 13 rfl rfl)
theorem dX16_does_36 : decode cX16_does 36 = .ok (.aload_n 2, 1) := dk_44 (dk_at dksX16_does_1 14 rfl rfl)
theorem dX16_does_37 : decode cX16_does 37 = .ok (.iload 5, 2) := dk_21 5 (dk_at dksX16_does_1 15 rfl rfl)
theorem dX16_does_39 : decode cX16_does 39 = .ok (.iconst 1, 1) := dk_4 (dk_at dksX16_does_1 17 rfl rfl)
theorem dX16_does_40 : decode cX16_does 40 = .ok (.invokevirtual 19, 3) := dk_182 0 19 (dk_at dksX16_does_1 18 rfl rfl)
theorem dX16_does_43 : decode cX16_does 43 = .ok (.istore 6, 2) := dk_54 6 (dk_at dksX16_does_1 21 rfl rfl)
theorem dX16_does_45 : decode cX16_does 45 = .ok (.iload 6, 2) := dk_21 6 (dk_at dksX16_does_2 0 rfl rfl)
theorem dX16_does_47 : decode cX16_does 47 = .ok (.iconst (-1), 1) := dk_2 (dk_at dksX16_does_2 2 rfl rfl)
theorem dX16_does_48 : decode cX16_does 48 = .ok (.if_icmp .ne 4, 3) := dk_160 0 4 (dk_at dksX16_does_2 3 rfl rfl)
theorem dX16_does_51 : decode cX16_does 51 = .ok (.return_, 1) := dk_177 (dk_at dksX16_does_2 6 rfl rfl)
theorem dX16_does_52 : decode cX16_does 52 = .ok (.iload 5, 2) := dk_21 5 (dk_at dksX16_does_2 7 rfl rfl)
theorem dX16_does_54 : decode cX16_does 54 = .ok (.aload_n 1, 1) := dk_43 (dk_at dksX16_does_2 9 rfl rfl)
theorem dX16_does_55 : decode cX16_does 55 = .ok (.getfield 25, 3) := dk_180 0 25 (dk_at dksX16_does_2 10 rfl rfl)
theorem dX16_does_58 : decode cX16_does 58 = .ok (.iload 6, 2) := dk_21 6 (dk_at dksX16_does_2 13 rfl rfl)
theorem dX16_does_60 : decode cX16_does 60 = .ok (.aaload, 1) := dk_50 (dk_at dksX16_does_2 15 rfl rfl)
theorem dX16_does_61 : decode cX16_does 61 = .ok (.getfield 9, 3) := dk_180 0 9 (dk_at dksX16_does_2 16 rfl rfl)
theorem dX16_does_64 : decode cX16_does 64 = .ok (.invokestatic 15, 3) := dk_184 0 15 (dk_at dksX16_does_2 19 rfl rfl)
theorem dX16_does_67 : decode cX16_does 67 = .ok (.istore 7, 2) := dk_54 7 (dk_at dksX16_does_2 22 rfl rfl)
theorem dX16_does_69 : decode cX16_does 69 = .ok (.iload 7, 2) := dk_21 7 (dk_at dksX16_does_3 0 rfl rfl)
theorem dX16_does_71 : decode cX16_does 71 = .ok (.iload 4, 2) := dk_21 4 (dk_at dksX16_does_3 2 rfl rfl)
theorem dX16_does_73 : decode cX16_does 73 = .ok (.if_icmp .gt 6, 3) := dk_163 0 6 (dk_at dksX16_does_3 4 rfl rfl)
theorem dX16_does_76 : decode cX16_does 76 = .ok (.goto 10, 3) := dk_167 0 10 (dk_at dksX16_does_3 7 rfl rfl)
theorem dX16_does_79 : decode cX16_does 79 = .ok (.iload 5, 2) := dk_21 5 (dk_at dksX16_does_3 10 rfl rfl)
theorem dX16_does_81 : decode cX16_does 81 = .ok (.istore_n 3, 1) := dk_62 (dk_at dksX16_does_3 12 rfl rfl)
theorem dX16_does_82 : decode cX16_does 82 = .ok (.iload 7, 2) := dk_21 7 (dk_at dksX16_does_3 13 rfl rfl)
theorem dX16_does_84 : decode cX16_does 84 = .ok (.istore 4, 2) := dk_54 4 (dk_at dksX16_does_3 15 rfl rfl)
theorem dX16_does_86 : decode cX16_does 86 = .ok (.iinc 5 1, 3) := dk_132 5 1 (dk_at dksX16_does_3 17 rfl rfl)
theorem dX16_does_89 : decode cX16_does 89 = .ok (.goto (-78), 3) := dk_167 255 178 (dk_at dksX16_does_3 20 rfl rfl)
theorem dX16_does_92 : decode cX16_does 92 = .ok (.aload_n 2, 1) := dk_44 (dk_at dksX16_does_3 23 rfl rfl)
theorem dX16_does_93 : decode cX16_does 93 = .ok (.iload_n 3, 1) := dk_29 (dk_at dksX16_does_4 0 rfl rfl)
theorem dX16_does_94 : decode cX16_does 94 = .ok (.putfield 9, 3) := dk_181 0 9 (dk_at dksX16_does_4 1 rfl rfl)
theorem dX16_does_97 : decode cX16_does 97 = .ok (.return_, 1) := dk_177 (dk_at dksX16_does_4 4 rfl rfl)
abbrev cX17_init : ByteArray := prog_13_method_1_code
def yX17_init : MethodName := ⟨RX17, "<init>", "(LGrassField$Cond;)V"⟩
def dkwX17_init_0 : List UInt8 := [42, 43, 183, 0, 3, 177]
abbrev dktX17_init_0 : List UInt8 := dkwX17_init_0 ++ []
theorem dksX17_init_0 : cX17_init.data.toList.drop 0 = dktX17_init_0 := by decide +kernel
theorem dX17_init_0 : decode cX17_init 0 = .ok (.aload_n 0, 1) := dk_42 (dk_at dksX17_init_0 0 rfl rfl)
theorem dX17_init_1 : decode cX17_init 1 = .ok (.aload_n 1, 1) := dk_43 (dk_at dksX17_init_0 1 rfl rfl)
theorem dX17_init_2 : decode cX17_init 2 = .ok (.invokespecial 3, 3) := dk_183 0 3 (dk_at dksX17_init_0 2 rfl rfl)
theorem dX17_init_5 : decode cX17_init 5 = .ok (.return_, 1) := dk_177 (dk_at dksX17_init_0 5 rfl rfl)
abbrev cX17_does : ByteArray := prog_13_method_2_code
def yX17_does : MethodName := ⟨RX17, "does", "(LGrassField$House;LGrassField$Person;)V"⟩
def dkwX17_does_4 : List UInt8 := [132, 6, 1, 167, 255, 190, 44, 21, 4, 181, 0, 9, 177]
abbrev dktX17_does_4 : List UInt8 := dkwX17_does_4 ++ []
def dkwX17_does_3 : List UInt8 := [167, 0, 23, 21, 6, 54, 4, 21, 6, 43, 180, 0, 26, 29, 50, 180, 0, 9, 184, 0, 22, 54, 5]
abbrev dktX17_does_3 : List UInt8 := dkwX17_does_3 ++ dktX17_does_4
def dkwX17_does_2 : List UInt8 := [4, 163, 0, 45, 21, 6, 43, 180, 0, 26, 29, 50, 180, 0, 9, 184, 0, 22, 21, 5, 161, 0, 6]
abbrev dktX17_does_2 : List UInt8 := dkwX17_does_2 ++ dktX17_does_3
def dkwX17_does_1 : List UInt8 := [18, 21, 54, 5, 3, 54, 6, 21, 6, 17, 1, 0, 162, 0, 64, 21, 6, 44, 180, 0, 9, 184, 0, 22]
abbrev dktX17_does_1 : List UInt8 := dkwX17_does_1 ++ dktX17_does_2
def dkwX17_does_0 : List UInt8 := [43, 44, 44, 180, 0, 9, 3, 182, 0, 15, 62, 29, 2, 160, 0, 4, 177, 44, 180, 0, 9, 54, 4]
abbrev dktX17_does_0 : List UInt8 := dkwX17_does_0 ++ dktX17_does_1
theorem dksX17_does_0 : cX17_does.data.toList.drop 0 = dktX17_does_0 := by decide +kernel
theorem dksX17_does_1 : cX17_does.data.toList.drop 23 = dktX17_does_1 := dk_seg dksX17_does_0 23 rfl rfl
theorem dksX17_does_2 : cX17_does.data.toList.drop 47 = dktX17_does_2 := dk_seg dksX17_does_1 24 rfl rfl
theorem dksX17_does_3 : cX17_does.data.toList.drop 70 = dktX17_does_3 := dk_seg dksX17_does_2 23 rfl rfl
theorem dksX17_does_4 : cX17_does.data.toList.drop 93 = dktX17_does_4 := dk_seg dksX17_does_3 23 rfl rfl
theorem dX17_does_0 : decode cX17_does 0 = .ok (.aload_n 1, 1) := dk_43 (dk_at dksX17_does_0 0 rfl rfl)
theorem dX17_does_1 : decode cX17_does 1 = .ok (.aload_n 2, 1) := dk_44 (dk_at dksX17_does_0 1 rfl rfl)
theorem dX17_does_2 : decode cX17_does 2 = .ok (.aload_n 2, 1) := dk_44 (dk_at dksX17_does_0 2 rfl rfl)
theorem dX17_does_3 : decode cX17_does 3 = .ok (.getfield 9, 3) := dk_180 0 9 (dk_at dksX17_does_0 3 rfl rfl)
theorem dX17_does_6 : decode cX17_does 6 = .ok (.iconst 0, 1) := dk_3 (dk_at dksX17_does_0 6 rfl rfl)
theorem dX17_does_7 : decode cX17_does 7 = .ok (.invokevirtual 15, 3) := dk_182 0 15 (dk_at dksX17_does_0 7 rfl rfl)
theorem dX17_does_10 : decode cX17_does 10 = .ok (.istore_n 3, 1) := dk_62 (dk_at dksX17_does_0 10 rfl rfl)
theorem dX17_does_11 : decode cX17_does 11 = .ok (.iload_n 3, 1) := dk_29 (dk_at dksX17_does_0 11 rfl rfl)
theorem dX17_does_12 : decode cX17_does 12 = .ok (.iconst (-1), 1) := dk_2 (dk_at dksX17_does_0 12 rfl rfl)
theorem dX17_does_13 : decode cX17_does 13 = .ok (.if_icmp .ne 4, 3) := dk_160 0 4 (dk_at dksX17_does_0 13 rfl rfl)
theorem dX17_does_16 : decode cX17_does 16 = .ok (.return_, 1) := dk_177 (dk_at dksX17_does_0 16 rfl rfl)
theorem dX17_does_17 : decode cX17_does 17 = .ok (.aload_n 2, 1) := dk_44 (dk_at dksX17_does_0 17 rfl rfl)
theorem dX17_does_18 : decode cX17_does 18 = .ok (.getfield 9, 3) := dk_180 0 9 (dk_at dksX17_does_0 18 rfl rfl)
theorem dX17_does_21 : decode cX17_does 21 = .ok (.istore 4, 2) := dk_54 4 (dk_at dksX17_does_0 21 rfl rfl)
theorem dX17_does_23 : decode cX17_does 23 = .ok (.ldc 21, 2) := dk_18 21 (dk_at dksX17_does_1 0 rfl rfl)
theorem dX17_does_25 : decode cX17_does 25 = .ok (.istore 5, 2) := dk_54 5 (dk_at dksX17_does_1 2 rfl rfl)
theorem dX17_does_27 : decode cX17_does 27 = .ok (.iconst 0, 1) := dk_3 (dk_at dksX17_does_1 4 rfl rfl)
theorem dX17_does_28 : decode cX17_does 28 = .ok (.istore 6, 2) := dk_54 6 (dk_at dksX17_does_1 5 rfl rfl)
theorem dX17_does_30 : decode cX17_does 30 = .ok (.iload 6, 2) := dk_21 6 (dk_at dksX17_does_1 7 rfl rfl)
theorem dX17_does_32 : decode cX17_does 32 = .ok (.sipush 256, 3) := dk_17 1 0 (dk_at dksX17_does_1 9 rfl rfl)
theorem dX17_does_35 : decode cX17_does 35 = .ok (.if_icmp .ge 64, 3) := dk_162 0 64 (dk_at dksX17_does_1 12 rfl rfl)
theorem dX17_does_38 : decode cX17_does 38 = .ok (.iload 6, 2) := dk_21 6 (dk_at dksX17_does_1 15 rfl rfl)
theorem dX17_does_40 : decode cX17_does 40 = .ok (.aload_n 2, 1) := dk_44 (dk_at dksX17_does_1 17 rfl rfl)
theorem dX17_does_41 : decode cX17_does 41 = .ok (.getfield 9, 3) := dk_180 0 9 (dk_at dksX17_does_1 18 rfl rfl)
theorem dX17_does_44 : decode cX17_does 44 = .ok (.invokestatic 22, 3) := dk_184 0 22 (dk_at dksX17_does_1 21 rfl rfl)
theorem dX17_does_47 : decode cX17_does 47 = .ok (.iconst 1, 1) := dk_4 (dk_at dksX17_does_2 0 rfl rfl)
theorem dX17_does_48 : decode cX17_does 48 = .ok (.if_icmp .gt 45, 3) := dk_163 0 45 (dk_at dksX17_does_2 1 rfl rfl)
theorem dX17_does_51 : decode cX17_does 51 = .ok (.iload 6, 2) := dk_21 6 (dk_at dksX17_does_2 4 rfl rfl)
theorem dX17_does_53 : decode cX17_does 53 = .ok (.aload_n 1, 1) := dk_43 (dk_at dksX17_does_2 6 rfl rfl)
theorem dX17_does_54 : decode cX17_does 54 = .ok (.getfield 26, 3) := dk_180 0 26 (dk_at dksX17_does_2 7 rfl rfl)
theorem dX17_does_57 : decode cX17_does 57 = .ok (.iload_n 3, 1) := dk_29 (dk_at dksX17_does_2 10 rfl rfl)
theorem dX17_does_58 : decode cX17_does 58 = .ok (.aaload, 1) := dk_50 (dk_at dksX17_does_2 11 rfl rfl)
theorem dX17_does_59 : decode cX17_does 59 = .ok (.getfield 9, 3) := dk_180 0 9 (dk_at dksX17_does_2 12 rfl rfl)
theorem dX17_does_62 : decode cX17_does 62 = .ok (.invokestatic 22, 3) := dk_184 0 22 (dk_at dksX17_does_2 15 rfl rfl)
theorem dX17_does_65 : decode cX17_does 65 = .ok (.iload 5, 2) := dk_21 5 (dk_at dksX17_does_2 18 rfl rfl)
theorem dX17_does_67 : decode cX17_does 67 = .ok (.if_icmp .lt 6, 3) := dk_161 0 6 (dk_at dksX17_does_2 20 rfl rfl)
theorem dX17_does_70 : decode cX17_does 70 = .ok (.goto 23, 3) := dk_167 0 23 (dk_at dksX17_does_3 0 rfl rfl)
theorem dX17_does_73 : decode cX17_does 73 = .ok (.iload 6, 2) := dk_21 6 (dk_at dksX17_does_3 3 rfl rfl)
theorem dX17_does_75 : decode cX17_does 75 = .ok (.istore 4, 2) := dk_54 4 (dk_at dksX17_does_3 5 rfl rfl)
theorem dX17_does_77 : decode cX17_does 77 = .ok (.iload 6, 2) := dk_21 6 (dk_at dksX17_does_3 7 rfl rfl)
theorem dX17_does_79 : decode cX17_does 79 = .ok (.aload_n 1, 1) := dk_43 (dk_at dksX17_does_3 9 rfl rfl)
theorem dX17_does_80 : decode cX17_does 80 = .ok (.getfield 26, 3) := dk_180 0 26 (dk_at dksX17_does_3 10 rfl rfl)
theorem dX17_does_83 : decode cX17_does 83 = .ok (.iload_n 3, 1) := dk_29 (dk_at dksX17_does_3 13 rfl rfl)
theorem dX17_does_84 : decode cX17_does 84 = .ok (.aaload, 1) := dk_50 (dk_at dksX17_does_3 14 rfl rfl)
theorem dX17_does_85 : decode cX17_does 85 = .ok (.getfield 9, 3) := dk_180 0 9 (dk_at dksX17_does_3 15 rfl rfl)
theorem dX17_does_88 : decode cX17_does 88 = .ok (.invokestatic 22, 3) := dk_184 0 22 (dk_at dksX17_does_3 18 rfl rfl)
theorem dX17_does_91 : decode cX17_does 91 = .ok (.istore 5, 2) := dk_54 5 (dk_at dksX17_does_3 21 rfl rfl)
theorem dX17_does_93 : decode cX17_does 93 = .ok (.iinc 6 1, 3) := dk_132 6 1 (dk_at dksX17_does_4 0 rfl rfl)
theorem dX17_does_96 : decode cX17_does 96 = .ok (.goto (-66), 3) := dk_167 255 190 (dk_at dksX17_does_4 3 rfl rfl)
theorem dX17_does_99 : decode cX17_does 99 = .ok (.aload_n 2, 1) := dk_44 (dk_at dksX17_does_4 6 rfl rfl)
theorem dX17_does_100 : decode cX17_does 100 = .ok (.iload 4, 2) := dk_21 4 (dk_at dksX17_does_4 7 rfl rfl)
theorem dX17_does_102 : decode cX17_does 102 = .ok (.putfield 9, 3) := dk_181 0 9 (dk_at dksX17_does_4 9 rfl rfl)
theorem dX17_does_105 : decode cX17_does 105 = .ok (.return_, 1) := dk_177 (dk_at dksX17_does_4 12 rfl rfl)
abbrev cX18_init : ByteArray := prog_7_method_1_code
def yX18_init : MethodName := ⟨RX18, "<init>", "(LGrassField$Cond;)V"⟩
def dkwX18_init_0 : List UInt8 := [42, 43, 183, 0, 3, 177]
abbrev dktX18_init_0 : List UInt8 := dkwX18_init_0 ++ []
theorem dksX18_init_0 : cX18_init.data.toList.drop 0 = dktX18_init_0 := by decide +kernel
theorem dX18_init_0 : decode cX18_init 0 = .ok (.aload_n 0, 1) := dk_42 (dk_at dksX18_init_0 0 rfl rfl)
theorem dX18_init_1 : decode cX18_init 1 = .ok (.aload_n 1, 1) := dk_43 (dk_at dksX18_init_0 1 rfl rfl)
theorem dX18_init_2 : decode cX18_init 2 = .ok (.invokespecial 3, 3) := dk_183 0 3 (dk_at dksX18_init_0 2 rfl rfl)
theorem dX18_init_5 : decode cX18_init 5 = .ok (.return_, 1) := dk_177 (dk_at dksX18_init_0 5 rfl rfl)
abbrev cX18_does : ByteArray := prog_7_method_2_code
def yX18_does : MethodName := ⟨RX18, "does", "(LGrassField$House;LGrassField$Person;)V"⟩
def dkwX18_does_0 : List UInt8 := [44, 2, 181, 0, 9, 177]
abbrev dktX18_does_0 : List UInt8 := dkwX18_does_0 ++ []
theorem dksX18_does_0 : cX18_does.data.toList.drop 0 = dktX18_does_0 := by decide +kernel
theorem dX18_does_0 : decode cX18_does 0 = .ok (.aload_n 2, 1) := dk_44 (dk_at dksX18_does_0 0 rfl rfl)
theorem dX18_does_1 : decode cX18_does 1 = .ok (.iconst (-1), 1) := dk_2 (dk_at dksX18_does_0 1 rfl rfl)
theorem dX18_does_2 : decode cX18_does 2 = .ok (.putfield 9, 3) := dk_181 0 9 (dk_at dksX18_does_0 2 rfl rfl)
theorem dX18_does_5 : decode cX18_does 5 = .ok (.return_, 1) := dk_177 (dk_at dksX18_does_0 5 rfl rfl)
abbrev cX19_init : ByteArray := prog_15_method_1_code
def yX19_init : MethodName := ⟨RX19, "<init>", "([LGrassField$Line;I)V"⟩
def dkwX19_init_0 : List UInt8 := [42, 183, 0, 1, 42, 28, 189, 0, 7, 181, 0, 9, 43, 3, 42, 180, 0, 9, 3, 28, 184, 0, 15, 177]
abbrev dktX19_init_0 : List UInt8 := dkwX19_init_0 ++ []
theorem dksX19_init_0 : cX19_init.data.toList.drop 0 = dktX19_init_0 := by decide +kernel
theorem dX19_init_0 : decode cX19_init 0 = .ok (.aload_n 0, 1) := dk_42 (dk_at dksX19_init_0 0 rfl rfl)
theorem dX19_init_1 : decode cX19_init 1 = .ok (.invokespecial 1, 3) := dk_183 0 1 (dk_at dksX19_init_0 1 rfl rfl)
theorem dX19_init_4 : decode cX19_init 4 = .ok (.aload_n 0, 1) := dk_42 (dk_at dksX19_init_0 4 rfl rfl)
theorem dX19_init_5 : decode cX19_init 5 = .ok (.iload_n 2, 1) := dk_28 (dk_at dksX19_init_0 5 rfl rfl)
theorem dX19_init_6 : decode cX19_init 6 = .ok (.anewarray 7, 3) := dk_189 0 7 (dk_at dksX19_init_0 6 rfl rfl)
theorem dX19_init_9 : decode cX19_init 9 = .ok (.putfield 9, 3) := dk_181 0 9 (dk_at dksX19_init_0 9 rfl rfl)
theorem dX19_init_12 : decode cX19_init 12 = .ok (.aload_n 1, 1) := dk_43 (dk_at dksX19_init_0 12 rfl rfl)
theorem dX19_init_13 : decode cX19_init 13 = .ok (.iconst 0, 1) := dk_3 (dk_at dksX19_init_0 13 rfl rfl)
theorem dX19_init_14 : decode cX19_init 14 = .ok (.aload_n 0, 1) := dk_42 (dk_at dksX19_init_0 14 rfl rfl)
theorem dX19_init_15 : decode cX19_init 15 = .ok (.getfield 9, 3) := dk_180 0 9 (dk_at dksX19_init_0 15 rfl rfl)
theorem dX19_init_18 : decode cX19_init 18 = .ok (.iconst 0, 1) := dk_3 (dk_at dksX19_init_0 18 rfl rfl)
theorem dX19_init_19 : decode cX19_init 19 = .ok (.iload_n 2, 1) := dk_28 (dk_at dksX19_init_0 19 rfl rfl)
theorem dX19_init_20 : decode cX19_init 20 = .ok (.invokestatic 15, 3) := dk_184 0 15 (dk_at dksX19_init_0 20 rfl rfl)
theorem dX19_init_23 : decode cX19_init 23 = .ok (.return_, 1) := dk_177 (dk_at dksX19_init_0 23 rfl rfl)
abbrev cX19_of : ByteArray := prog_15_method_2_code
def yX19_of : MethodName := ⟨RX19, "of", "([I)LGrassField$Line;"⟩
def dkwX19_of_1 : List UInt8 := [42, 180, 0, 9, 28, 50, 176, 132, 2, 1, 167, 255, 224, 1, 176]
abbrev dktX19_of_1 : List UInt8 := dkwX19_of_1 ++ []
def dkwX19_of_0 : List UInt8 := [3, 61, 28, 42, 180, 0, 9, 190, 162, 0, 29, 42, 180, 0, 9, 28, 50, 43, 182, 0, 21, 153, 0, 10]
abbrev dktX19_of_0 : List UInt8 := dkwX19_of_0 ++ dktX19_of_1
theorem dksX19_of_0 : cX19_of.data.toList.drop 0 = dktX19_of_0 := by decide +kernel
theorem dksX19_of_1 : cX19_of.data.toList.drop 24 = dktX19_of_1 := dk_seg dksX19_of_0 24 rfl rfl
theorem dX19_of_0 : decode cX19_of 0 = .ok (.iconst 0, 1) := dk_3 (dk_at dksX19_of_0 0 rfl rfl)
theorem dX19_of_1 : decode cX19_of 1 = .ok (.istore_n 2, 1) := dk_61 (dk_at dksX19_of_0 1 rfl rfl)
theorem dX19_of_2 : decode cX19_of 2 = .ok (.iload_n 2, 1) := dk_28 (dk_at dksX19_of_0 2 rfl rfl)
theorem dX19_of_3 : decode cX19_of 3 = .ok (.aload_n 0, 1) := dk_42 (dk_at dksX19_of_0 3 rfl rfl)
theorem dX19_of_4 : decode cX19_of 4 = .ok (.getfield 9, 3) := dk_180 0 9 (dk_at dksX19_of_0 4 rfl rfl)
theorem dX19_of_7 : decode cX19_of 7 = .ok (.arraylength, 1) := dk_190 (dk_at dksX19_of_0 7 rfl rfl)
theorem dX19_of_8 : decode cX19_of 8 = .ok (.if_icmp .ge 29, 3) := dk_162 0 29 (dk_at dksX19_of_0 8 rfl rfl)
theorem dX19_of_11 : decode cX19_of 11 = .ok (.aload_n 0, 1) := dk_42 (dk_at dksX19_of_0 11 rfl rfl)
theorem dX19_of_12 : decode cX19_of 12 = .ok (.getfield 9, 3) := dk_180 0 9 (dk_at dksX19_of_0 12 rfl rfl)
theorem dX19_of_15 : decode cX19_of 15 = .ok (.iload_n 2, 1) := dk_28 (dk_at dksX19_of_0 15 rfl rfl)
theorem dX19_of_16 : decode cX19_of 16 = .ok (.aaload, 1) := dk_50 (dk_at dksX19_of_0 16 rfl rfl)
theorem dX19_of_17 : decode cX19_of 17 = .ok (.aload_n 1, 1) := dk_43 (dk_at dksX19_of_0 17 rfl rfl)
theorem dX19_of_18 : decode cX19_of 18 = .ok (.invokevirtual 21, 3) := dk_182 0 21 (dk_at dksX19_of_0 18 rfl rfl)
theorem dX19_of_21 : decode cX19_of 21 = .ok (.ifCond .eq 10, 3) := dk_153 0 10 (dk_at dksX19_of_0 21 rfl rfl)
theorem dX19_of_24 : decode cX19_of 24 = .ok (.aload_n 0, 1) := dk_42 (dk_at dksX19_of_1 0 rfl rfl)
theorem dX19_of_25 : decode cX19_of 25 = .ok (.getfield 9, 3) := dk_180 0 9 (dk_at dksX19_of_1 1 rfl rfl)
theorem dX19_of_28 : decode cX19_of 28 = .ok (.iload_n 2, 1) := dk_28 (dk_at dksX19_of_1 4 rfl rfl)
theorem dX19_of_29 : decode cX19_of 29 = .ok (.aaload, 1) := dk_50 (dk_at dksX19_of_1 5 rfl rfl)
theorem dX19_of_30 : decode cX19_of 30 = .ok (.areturn, 1) := dk_176 (dk_at dksX19_of_1 6 rfl rfl)
theorem dX19_of_31 : decode cX19_of 31 = .ok (.iinc 2 1, 3) := dk_132 2 1 (dk_at dksX19_of_1 7 rfl rfl)
theorem dX19_of_34 : decode cX19_of 34 = .ok (.goto (-32), 3) := dk_167 255 224 (dk_at dksX19_of_1 10 rfl rfl)
theorem dX19_of_37 : decode cX19_of 37 = .ok (.aconst_null, 1) := dk_1 (dk_at dksX19_of_1 13 rfl rfl)
theorem dX19_of_38 : decode cX19_of 38 = .ok (.areturn, 1) := dk_176 (dk_at dksX19_of_1 14 rfl rfl)
abbrev cX20_init : ByteArray := prog_19_method_2_code
def yX20_init : MethodName := ⟨RX20, "<init>", "(LGrassField$Person;)V"⟩
def dkwX20_init_1 : List UInt8 := [42, 43, 180, 0, 7, 181, 0, 7, 177]
abbrev dktX20_init_1 : List UInt8 := dkwX20_init_1 ++ []
def dkwX20_init_0 : List UInt8 := [42, 43, 180, 0, 13, 43, 180, 0, 17, 43, 180, 0, 20, 43, 180, 0, 23, 43, 180, 0, 26, 183, 0, 29]
abbrev dktX20_init_0 : List UInt8 := dkwX20_init_0 ++ dktX20_init_1
theorem dksX20_init_0 : cX20_init.data.toList.drop 0 = dktX20_init_0 := by decide +kernel
theorem dksX20_init_1 : cX20_init.data.toList.drop 24 = dktX20_init_1 := dk_seg dksX20_init_0 24 rfl rfl
theorem dX20_init_0 : decode cX20_init 0 = .ok (.aload_n 0, 1) := dk_42 (dk_at dksX20_init_0 0 rfl rfl)
theorem dX20_init_1 : decode cX20_init 1 = .ok (.aload_n 1, 1) := dk_43 (dk_at dksX20_init_0 1 rfl rfl)
theorem dX20_init_2 : decode cX20_init 2 = .ok (.getfield 13, 3) := dk_180 0 13 (dk_at dksX20_init_0 2 rfl rfl)
theorem dX20_init_5 : decode cX20_init 5 = .ok (.aload_n 1, 1) := dk_43 (dk_at dksX20_init_0 5 rfl rfl)
theorem dX20_init_6 : decode cX20_init 6 = .ok (.getfield 17, 3) := dk_180 0 17 (dk_at dksX20_init_0 6 rfl rfl)
theorem dX20_init_9 : decode cX20_init 9 = .ok (.aload_n 1, 1) := dk_43 (dk_at dksX20_init_0 9 rfl rfl)
theorem dX20_init_10 : decode cX20_init 10 = .ok (.getfield 20, 3) := dk_180 0 20 (dk_at dksX20_init_0 10 rfl rfl)
theorem dX20_init_13 : decode cX20_init 13 = .ok (.aload_n 1, 1) := dk_43 (dk_at dksX20_init_0 13 rfl rfl)
theorem dX20_init_14 : decode cX20_init 14 = .ok (.getfield 23, 3) := dk_180 0 23 (dk_at dksX20_init_0 14 rfl rfl)
theorem dX20_init_17 : decode cX20_init 17 = .ok (.aload_n 1, 1) := dk_43 (dk_at dksX20_init_0 17 rfl rfl)
theorem dX20_init_18 : decode cX20_init 18 = .ok (.getfield 26, 3) := dk_180 0 26 (dk_at dksX20_init_0 18 rfl rfl)
theorem dX20_init_21 : decode cX20_init 21 = .ok (.invokespecial 29, 3) := dk_183 0 29 (dk_at dksX20_init_0 21 rfl rfl)
theorem dX20_init_24 : decode cX20_init 24 = .ok (.aload_n 0, 1) := dk_42 (dk_at dksX20_init_1 0 rfl rfl)
theorem dX20_init_25 : decode cX20_init 25 = .ok (.aload_n 1, 1) := dk_43 (dk_at dksX20_init_1 1 rfl rfl)
theorem dX20_init_26 : decode cX20_init 26 = .ok (.getfield 7, 3) := dk_180 0 7 (dk_at dksX20_init_1 2 rfl rfl)
theorem dX20_init_29 : decode cX20_init 29 = .ok (.putfield 7, 3) := dk_181 0 7 (dk_at dksX20_init_1 5 rfl rfl)
theorem dX20_init_32 : decode cX20_init 32 = .ok (.return_, 1) := dk_177 (dk_at dksX20_init_1 8 rfl rfl)
abbrev cX20_init_2 : ByteArray := prog_19_method_1_code
def yX20_init_2 : MethodName := ⟨RX20, "<init>", "(IIIII)V"⟩
def dkwX20_init_2_1 : List UInt8 := [42, 21, 4, 181, 0, 23, 42, 21, 5, 181, 0, 26, 177]
abbrev dktX20_init_2_1 : List UInt8 := dkwX20_init_2_1 ++ []
def dkwX20_init_2_0 : List UInt8 := [42, 183, 0, 1, 42, 4, 181, 0, 7, 42, 27, 181, 0, 13, 42, 28, 181, 0, 17, 42, 29, 181, 0, 20]
abbrev dktX20_init_2_0 : List UInt8 := dkwX20_init_2_0 ++ dktX20_init_2_1
theorem dksX20_init_2_0 : cX20_init_2.data.toList.drop 0 = dktX20_init_2_0 := by decide +kernel
theorem dksX20_init_2_1 : cX20_init_2.data.toList.drop 24 = dktX20_init_2_1 := dk_seg dksX20_init_2_0 24 rfl rfl
theorem dX20_init_2_0 : decode cX20_init_2 0 = .ok (.aload_n 0, 1) := dk_42 (dk_at dksX20_init_2_0 0 rfl rfl)
theorem dX20_init_2_1 : decode cX20_init_2 1 = .ok (.invokespecial 1, 3) := dk_183 0 1 (dk_at dksX20_init_2_0 1 rfl rfl)
theorem dX20_init_2_4 : decode cX20_init_2 4 = .ok (.aload_n 0, 1) := dk_42 (dk_at dksX20_init_2_0 4 rfl rfl)
theorem dX20_init_2_5 : decode cX20_init_2 5 = .ok (.iconst 1, 1) := dk_4 (dk_at dksX20_init_2_0 5 rfl rfl)
theorem dX20_init_2_6 : decode cX20_init_2 6 = .ok (.putfield 7, 3) := dk_181 0 7 (dk_at dksX20_init_2_0 6 rfl rfl)
theorem dX20_init_2_9 : decode cX20_init_2 9 = .ok (.aload_n 0, 1) := dk_42 (dk_at dksX20_init_2_0 9 rfl rfl)
theorem dX20_init_2_10 : decode cX20_init_2 10 = .ok (.iload_n 1, 1) := dk_27 (dk_at dksX20_init_2_0 10 rfl rfl)
theorem dX20_init_2_11 : decode cX20_init_2 11 = .ok (.putfield 13, 3) := dk_181 0 13 (dk_at dksX20_init_2_0 11 rfl rfl)
theorem dX20_init_2_14 : decode cX20_init_2 14 = .ok (.aload_n 0, 1) := dk_42 (dk_at dksX20_init_2_0 14 rfl rfl)
theorem dX20_init_2_15 : decode cX20_init_2 15 = .ok (.iload_n 2, 1) := dk_28 (dk_at dksX20_init_2_0 15 rfl rfl)
theorem dX20_init_2_16 : decode cX20_init_2 16 = .ok (.putfield 17, 3) := dk_181 0 17 (dk_at dksX20_init_2_0 16 rfl rfl)
theorem dX20_init_2_19 : decode cX20_init_2 19 = .ok (.aload_n 0, 1) := dk_42 (dk_at dksX20_init_2_0 19 rfl rfl)
theorem dX20_init_2_20 : decode cX20_init_2 20 = .ok (.iload_n 3, 1) := dk_29 (dk_at dksX20_init_2_0 20 rfl rfl)
theorem dX20_init_2_21 : decode cX20_init_2 21 = .ok (.putfield 20, 3) := dk_181 0 20 (dk_at dksX20_init_2_0 21 rfl rfl)
theorem dX20_init_2_24 : decode cX20_init_2 24 = .ok (.aload_n 0, 1) := dk_42 (dk_at dksX20_init_2_1 0 rfl rfl)
theorem dX20_init_2_25 : decode cX20_init_2 25 = .ok (.iload 4, 2) := dk_21 4 (dk_at dksX20_init_2_1 1 rfl rfl)
theorem dX20_init_2_27 : decode cX20_init_2 27 = .ok (.putfield 23, 3) := dk_181 0 23 (dk_at dksX20_init_2_1 3 rfl rfl)
theorem dX20_init_2_30 : decode cX20_init_2 30 = .ok (.aload_n 0, 1) := dk_42 (dk_at dksX20_init_2_1 6 rfl rfl)
theorem dX20_init_2_31 : decode cX20_init_2 31 = .ok (.iload 5, 2) := dk_21 5 (dk_at dksX20_init_2_1 7 rfl rfl)
theorem dX20_init_2_33 : decode cX20_init_2 33 = .ok (.putfield 26, 3) := dk_181 0 26 (dk_at dksX20_init_2_1 9 rfl rfl)
theorem dX20_init_2_36 : decode cX20_init_2 36 = .ok (.return_, 1) := dk_177 (dk_at dksX20_init_2_1 12 rfl rfl)
abbrev cX21_depth : ByteArray := prog_8_method_5_code
def yX21_depth : MethodName := ⟨RX21, "depth", "()I"⟩
theorem dX21_depth_0 : decode cX21_depth 0 = .ok (.aload_n 0, 1) := by decide +kernel
theorem dX21_depth_1 : decode cX21_depth 1 = .ok (.getfield 15, 3) := by decide +kernel
theorem dX21_depth_4 : decode cX21_depth 4 = .ok (.ireturn, 1) := by decide +kernel
abbrev cX21_row : ByteArray := prog_8_method_6_code
def yX21_row : MethodName := ⟨RX21, "row", "()I"⟩
def dkwX21_row_0 : List UInt8 := [42, 180, 0, 9, 16, 16, 108, 172]
abbrev dktX21_row_0 : List UInt8 := dkwX21_row_0 ++ []
theorem dksX21_row_0 : cX21_row.data.toList.drop 0 = dktX21_row_0 := by decide +kernel
theorem dX21_row_0 : decode cX21_row 0 = .ok (.aload_n 0, 1) := dk_42 (dk_at dksX21_row_0 0 rfl rfl)
theorem dX21_row_1 : decode cX21_row 1 = .ok (.getfield 9, 3) := dk_180 0 9 (dk_at dksX21_row_0 1 rfl rfl)
theorem dX21_row_4 : decode cX21_row 4 = .ok (.bipush 16, 2) := dk_16 16 (dk_at dksX21_row_0 4 rfl rfl)
theorem dX21_row_6 : decode cX21_row 6 = .ok (.idiv, 1) := dk_108 (dk_at dksX21_row_0 6 rfl rfl)
theorem dX21_row_7 : decode cX21_row 7 = .ok (.ireturn, 1) := dk_172 (dk_at dksX21_row_0 7 rfl rfl)
abbrev cX21_cell : ByteArray := prog_8_method_4_code
def yX21_cell : MethodName := ⟨RX21, "cell", "()I"⟩
theorem dX21_cell_0 : decode cX21_cell 0 = .ok (.aload_n 0, 1) := by decide +kernel
theorem dX21_cell_1 : decode cX21_cell 1 = .ok (.getfield 9, 3) := by decide +kernel
theorem dX21_cell_4 : decode cX21_cell 4 = .ok (.ireturn, 1) := by decide +kernel
abbrev cX21_init : ByteArray := prog_8_method_1_code
def yX21_init : MethodName := ⟨RX21, "<init>", "(II)V"⟩
def dkwX21_init_0 : List UInt8 := [42, 183, 0, 3, 42, 27, 181, 0, 9, 42, 28, 181, 0, 15, 177]
abbrev dktX21_init_0 : List UInt8 := dkwX21_init_0 ++ []
theorem dksX21_init_0 : cX21_init.data.toList.drop 0 = dktX21_init_0 := by decide +kernel
theorem dX21_init_0 : decode cX21_init 0 = .ok (.aload_n 0, 1) := dk_42 (dk_at dksX21_init_0 0 rfl rfl)
theorem dX21_init_1 : decode cX21_init 1 = .ok (.invokespecial 3, 3) := dk_183 0 3 (dk_at dksX21_init_0 1 rfl rfl)
theorem dX21_init_4 : decode cX21_init 4 = .ok (.aload_n 0, 1) := dk_42 (dk_at dksX21_init_0 4 rfl rfl)
theorem dX21_init_5 : decode cX21_init 5 = .ok (.iload_n 1, 1) := dk_27 (dk_at dksX21_init_0 5 rfl rfl)
theorem dX21_init_6 : decode cX21_init 6 = .ok (.putfield 9, 3) := dk_181 0 9 (dk_at dksX21_init_0 6 rfl rfl)
theorem dX21_init_9 : decode cX21_init 9 = .ok (.aload_n 0, 1) := dk_42 (dk_at dksX21_init_0 9 rfl rfl)
theorem dX21_init_10 : decode cX21_init 10 = .ok (.iload_n 2, 1) := dk_28 (dk_at dksX21_init_0 10 rfl rfl)
theorem dX21_init_11 : decode cX21_init 11 = .ok (.putfield 15, 3) := dk_181 0 15 (dk_at dksX21_init_0 11 rfl rfl)
theorem dX21_init_14 : decode cX21_init 14 = .ok (.return_, 1) := dk_177 (dk_at dksX21_init_0 14 rfl rfl)
abbrev cX22_kind : ByteArray := prog_4_method_2_code
def yX22_kind : MethodName := ⟨RX22, "kind", "()I"⟩
theorem dX22_kind_0 : decode cX22_kind 0 = .ok (.iconst 0, 1) := by decide +kernel
theorem dX22_kind_1 : decode cX22_kind 1 = .ok (.ireturn, 1) := by decide +kernel
abbrev cX22_init : ByteArray := prog_4_method_1_code
def yX22_init : MethodName := ⟨RX22, "<init>", "(IIIII)V"⟩
def dkwX22_init_0 : List UInt8 := [42, 27, 28, 183, 0, 3, 42, 29, 181, 0, 9, 42, 21, 4, 181, 0, 15, 42, 21, 5, 181, 0, 18, 177]
abbrev dktX22_init_0 : List UInt8 := dkwX22_init_0 ++ []
theorem dksX22_init_0 : cX22_init.data.toList.drop 0 = dktX22_init_0 := by decide +kernel
theorem dX22_init_0 : decode cX22_init 0 = .ok (.aload_n 0, 1) := dk_42 (dk_at dksX22_init_0 0 rfl rfl)
theorem dX22_init_1 : decode cX22_init 1 = .ok (.iload_n 1, 1) := dk_27 (dk_at dksX22_init_0 1 rfl rfl)
theorem dX22_init_2 : decode cX22_init 2 = .ok (.iload_n 2, 1) := dk_28 (dk_at dksX22_init_0 2 rfl rfl)
theorem dX22_init_3 : decode cX22_init 3 = .ok (.invokespecial 3, 3) := dk_183 0 3 (dk_at dksX22_init_0 3 rfl rfl)
theorem dX22_init_6 : decode cX22_init 6 = .ok (.aload_n 0, 1) := dk_42 (dk_at dksX22_init_0 6 rfl rfl)
theorem dX22_init_7 : decode cX22_init 7 = .ok (.iload_n 3, 1) := dk_29 (dk_at dksX22_init_0 7 rfl rfl)
theorem dX22_init_8 : decode cX22_init 8 = .ok (.putfield 9, 3) := dk_181 0 9 (dk_at dksX22_init_0 8 rfl rfl)
theorem dX22_init_11 : decode cX22_init 11 = .ok (.aload_n 0, 1) := dk_42 (dk_at dksX22_init_0 11 rfl rfl)
theorem dX22_init_12 : decode cX22_init 12 = .ok (.iload 4, 2) := dk_21 4 (dk_at dksX22_init_0 12 rfl rfl)
theorem dX22_init_14 : decode cX22_init 14 = .ok (.putfield 15, 3) := dk_181 0 15 (dk_at dksX22_init_0 14 rfl rfl)
theorem dX22_init_17 : decode cX22_init 17 = .ok (.aload_n 0, 1) := dk_42 (dk_at dksX22_init_0 17 rfl rfl)
theorem dX22_init_18 : decode cX22_init 18 = .ok (.iload 5, 2) := dk_21 5 (dk_at dksX22_init_0 18 rfl rfl)
theorem dX22_init_20 : decode cX22_init 20 = .ok (.putfield 18, 3) := dk_181 0 18 (dk_at dksX22_init_0 20 rfl rfl)
theorem dX22_init_23 : decode cX22_init 23 = .ok (.return_, 1) := dk_177 (dk_at dksX22_init_0 23 rfl rfl)
abbrev cX22_tells : ByteArray := prog_4_method_3_code
def yX22_tells : MethodName := ⟨RX22, "tells", "()I"⟩
theorem dX22_tells_0 : decode cX22_tells 0 = .ok (.aload_n 0, 1) := by decide +kernel
theorem dX22_tells_1 : decode cX22_tells 1 = .ok (.getfield 9, 3) := by decide +kernel
theorem dX22_tells_4 : decode cX22_tells 4 = .ok (.ireturn, 1) := by decide +kernel
abbrev cX23_kind : ByteArray := prog_2_method_2_code
def yX23_kind : MethodName := ⟨RX23, "kind", "()I"⟩
theorem dX23_kind_0 : decode cX23_kind 0 = .ok (.iconst 1, 1) := by decide +kernel
theorem dX23_kind_1 : decode cX23_kind 1 = .ok (.ireturn, 1) := by decide +kernel
abbrev cX23_init : ByteArray := prog_2_method_1_code
def yX23_init : MethodName := ⟨RX23, "<init>", "(III)V"⟩
def dkwX23_init_0 : List UInt8 := [42, 27, 28, 183, 0, 3, 42, 29, 181, 0, 9, 177]
abbrev dktX23_init_0 : List UInt8 := dkwX23_init_0 ++ []
theorem dksX23_init_0 : cX23_init.data.toList.drop 0 = dktX23_init_0 := by decide +kernel
theorem dX23_init_0 : decode cX23_init 0 = .ok (.aload_n 0, 1) := dk_42 (dk_at dksX23_init_0 0 rfl rfl)
theorem dX23_init_1 : decode cX23_init 1 = .ok (.iload_n 1, 1) := dk_27 (dk_at dksX23_init_0 1 rfl rfl)
theorem dX23_init_2 : decode cX23_init 2 = .ok (.iload_n 2, 1) := dk_28 (dk_at dksX23_init_0 2 rfl rfl)
theorem dX23_init_3 : decode cX23_init 3 = .ok (.invokespecial 3, 3) := dk_183 0 3 (dk_at dksX23_init_0 3 rfl rfl)
theorem dX23_init_6 : decode cX23_init 6 = .ok (.aload_n 0, 1) := dk_42 (dk_at dksX23_init_0 6 rfl rfl)
theorem dX23_init_7 : decode cX23_init 7 = .ok (.iload_n 3, 1) := dk_29 (dk_at dksX23_init_0 7 rfl rfl)
theorem dX23_init_8 : decode cX23_init 8 = .ok (.putfield 9, 3) := dk_181 0 9 (dk_at dksX23_init_0 8 rfl rfl)
theorem dX23_init_11 : decode cX23_init 11 = .ok (.return_, 1) := dk_177 (dk_at dksX23_init_0 11 rfl rfl)
abbrev cX23_tells : ByteArray := prog_2_method_3_code
def yX23_tells : MethodName := ⟨RX23, "tells", "()I"⟩
theorem dX23_tells_0 : decode cX23_tells 0 = .ok (.aload_n 0, 1) := by decide +kernel
theorem dX23_tells_1 : decode cX23_tells 1 = .ok (.getfield 9, 3) := by decide +kernel
theorem dX23_tells_4 : decode cX23_tells 4 = .ok (.ireturn, 1) := by decide +kernel
abbrev cX24_kind : ByteArray := prog_3_method_2_code
def yX24_kind : MethodName := ⟨RX24, "kind", "()I"⟩
theorem dX24_kind_0 : decode cX24_kind 0 = .ok (.iconst 2, 1) := by decide +kernel
theorem dX24_kind_1 : decode cX24_kind 1 = .ok (.ireturn, 1) := by decide +kernel
abbrev cX24_init : ByteArray := prog_3_method_1_code
def yX24_init : MethodName := ⟨RX24, "<init>", "(III)V"⟩
def dkwX24_init_0 : List UInt8 := [42, 27, 28, 183, 0, 3, 42, 29, 181, 0, 9, 177]
abbrev dktX24_init_0 : List UInt8 := dkwX24_init_0 ++ []
theorem dksX24_init_0 : cX24_init.data.toList.drop 0 = dktX24_init_0 := by decide +kernel
theorem dX24_init_0 : decode cX24_init 0 = .ok (.aload_n 0, 1) := dk_42 (dk_at dksX24_init_0 0 rfl rfl)
theorem dX24_init_1 : decode cX24_init 1 = .ok (.iload_n 1, 1) := dk_27 (dk_at dksX24_init_0 1 rfl rfl)
theorem dX24_init_2 : decode cX24_init 2 = .ok (.iload_n 2, 1) := dk_28 (dk_at dksX24_init_0 2 rfl rfl)
theorem dX24_init_3 : decode cX24_init 3 = .ok (.invokespecial 3, 3) := dk_183 0 3 (dk_at dksX24_init_0 3 rfl rfl)
theorem dX24_init_6 : decode cX24_init 6 = .ok (.aload_n 0, 1) := dk_42 (dk_at dksX24_init_0 6 rfl rfl)
theorem dX24_init_7 : decode cX24_init 7 = .ok (.iload_n 3, 1) := dk_29 (dk_at dksX24_init_0 7 rfl rfl)
theorem dX24_init_8 : decode cX24_init 8 = .ok (.putfield 9, 3) := dk_181 0 9 (dk_at dksX24_init_0 8 rfl rfl)
theorem dX24_init_11 : decode cX24_init 11 = .ok (.return_, 1) := dk_177 (dk_at dksX24_init_0 11 rfl rfl)
abbrev cX24_tells : ByteArray := prog_3_method_3_code
def yX24_tells : MethodName := ⟨RX24, "tells", "()I"⟩
theorem dX24_tells_0 : decode cX24_tells 0 = .ok (.aload_n 0, 1) := by decide +kernel
theorem dX24_tells_1 : decode cX24_tells 1 = .ok (.getfield 9, 3) := by decide +kernel
theorem dX24_tells_4 : decode cX24_tells 4 = .ok (.ireturn, 1) := by decide +kernel
abbrev cX25_kind : ByteArray := prog_14_method_2_code
def yX25_kind : MethodName := ⟨RX25, "kind", "()I"⟩
theorem dX25_kind_0 : decode cX25_kind 0 = .ok (.iconst 3, 1) := by decide +kernel
theorem dX25_kind_1 : decode cX25_kind 1 = .ok (.ireturn, 1) := by decide +kernel
abbrev cX25_init : ByteArray := prog_14_method_1_code
def yX25_init : MethodName := ⟨RX25, "<init>", "(III)V"⟩
def dkwX25_init_0 : List UInt8 := [42, 27, 28, 183, 0, 3, 42, 29, 181, 0, 9, 177]
abbrev dktX25_init_0 : List UInt8 := dkwX25_init_0 ++ []
theorem dksX25_init_0 : cX25_init.data.toList.drop 0 = dktX25_init_0 := by decide +kernel
theorem dX25_init_0 : decode cX25_init 0 = .ok (.aload_n 0, 1) := dk_42 (dk_at dksX25_init_0 0 rfl rfl)
theorem dX25_init_1 : decode cX25_init 1 = .ok (.iload_n 1, 1) := dk_27 (dk_at dksX25_init_0 1 rfl rfl)
theorem dX25_init_2 : decode cX25_init 2 = .ok (.iload_n 2, 1) := dk_28 (dk_at dksX25_init_0 2 rfl rfl)
theorem dX25_init_3 : decode cX25_init 3 = .ok (.invokespecial 3, 3) := dk_183 0 3 (dk_at dksX25_init_0 3 rfl rfl)
theorem dX25_init_6 : decode cX25_init 6 = .ok (.aload_n 0, 1) := dk_42 (dk_at dksX25_init_0 6 rfl rfl)
theorem dX25_init_7 : decode cX25_init 7 = .ok (.iload_n 3, 1) := dk_29 (dk_at dksX25_init_0 7 rfl rfl)
theorem dX25_init_8 : decode cX25_init 8 = .ok (.putfield 9, 3) := dk_181 0 9 (dk_at dksX25_init_0 8 rfl rfl)
theorem dX25_init_11 : decode cX25_init 11 = .ok (.return_, 1) := dk_177 (dk_at dksX25_init_0 11 rfl rfl)
abbrev cX25_tells : ByteArray := prog_14_method_3_code
def yX25_tells : MethodName := ⟨RX25, "tells", "()I"⟩
theorem dX25_tells_0 : decode cX25_tells 0 = .ok (.aload_n 0, 1) := by decide +kernel
theorem dX25_tells_1 : decode cX25_tells 1 = .ok (.getfield 9, 3) := by decide +kernel
theorem dX25_tells_4 : decode cX25_tells 4 = .ok (.ireturn, 1) := by decide +kernel
abbrev cX26_init : ByteArray := prog_25_method_1_code
def yX26_init : MethodName := ⟨RX26, "<init>", "(IIII)V"⟩
def dkwX26_init_1 : List UInt8 := [181, 0, 19, 177]
abbrev dktX26_init_1 : List UInt8 := dkwX26_init_1 ++ []
def dkwX26_init_0 : List UInt8 := [42, 183, 0, 1, 42, 27, 181, 0, 7, 42, 28, 181, 0, 13, 42, 29, 181, 0, 16, 42, 21, 4]
abbrev dktX26_init_0 : List UInt8 := dkwX26_init_0 ++ dktX26_init_1
theorem dksX26_init_0 : cX26_init.data.toList.drop 0 = dktX26_init_0 := by decide +kernel
theorem dksX26_init_1 : cX26_init.data.toList.drop 22 = dktX26_init_1 := dk_seg dksX26_init_0 22 rfl rfl
theorem dX26_init_0 : decode cX26_init 0 = .ok (.aload_n 0, 1) := dk_42 (dk_at dksX26_init_0 0 rfl rfl)
theorem dX26_init_1 : decode cX26_init 1 = .ok (.invokespecial 1, 3) := dk_183 0 1 (dk_at dksX26_init_0 1 rfl rfl)
theorem dX26_init_4 : decode cX26_init 4 = .ok (.aload_n 0, 1) := dk_42 (dk_at dksX26_init_0 4 rfl rfl)
theorem dX26_init_5 : decode cX26_init 5 = .ok (.iload_n 1, 1) := dk_27 (dk_at dksX26_init_0 5 rfl rfl)
theorem dX26_init_6 : decode cX26_init 6 = .ok (.putfield 7, 3) := dk_181 0 7 (dk_at dksX26_init_0 6 rfl rfl)
theorem dX26_init_9 : decode cX26_init 9 = .ok (.aload_n 0, 1) := dk_42 (dk_at dksX26_init_0 9 rfl rfl)
theorem dX26_init_10 : decode cX26_init 10 = .ok (.iload_n 2, 1) := dk_28 (dk_at dksX26_init_0 10 rfl rfl)
theorem dX26_init_11 : decode cX26_init 11 = .ok (.putfield 13, 3) := dk_181 0 13 (dk_at dksX26_init_0 11 rfl rfl)
theorem dX26_init_14 : decode cX26_init 14 = .ok (.aload_n 0, 1) := dk_42 (dk_at dksX26_init_0 14 rfl rfl)
theorem dX26_init_15 : decode cX26_init 15 = .ok (.iload_n 3, 1) := dk_29 (dk_at dksX26_init_0 15 rfl rfl)
theorem dX26_init_16 : decode cX26_init 16 = .ok (.putfield 16, 3) := dk_181 0 16 (dk_at dksX26_init_0 16 rfl rfl)
theorem dX26_init_19 : decode cX26_init 19 = .ok (.aload_n 0, 1) := dk_42 (dk_at dksX26_init_0 19 rfl rfl)
theorem dX26_init_20 : decode cX26_init 20 = .ok (.iload 4, 2) := dk_21 4 (dk_at dksX26_init_0 20 rfl rfl)
theorem dX26_init_22 : decode cX26_init 22 = .ok (.putfield 19, 3) := dk_181 0 19 (dk_at dksX26_init_1 0 rfl rfl)
theorem dX26_init_25 : decode cX26_init 25 = .ok (.return_, 1) := dk_177 (dk_at dksX26_init_1 3 rfl rfl)
abbrev cX27_init : ByteArray := prog_26_method_1_code
def yX27_init : MethodName := ⟨RX27, "<init>", "(III)V"⟩
def dkwX27_init_0 : List UInt8 := [42, 183, 0, 1, 42, 27, 181, 0, 7, 42, 28, 181, 0, 13, 42, 29, 181, 0, 16, 177]
abbrev dktX27_init_0 : List UInt8 := dkwX27_init_0 ++ []
theorem dksX27_init_0 : cX27_init.data.toList.drop 0 = dktX27_init_0 := by decide +kernel
theorem dX27_init_0 : decode cX27_init 0 = .ok (.aload_n 0, 1) := dk_42 (dk_at dksX27_init_0 0 rfl rfl)
theorem dX27_init_1 : decode cX27_init 1 = .ok (.invokespecial 1, 3) := dk_183 0 1 (dk_at dksX27_init_0 1 rfl rfl)
theorem dX27_init_4 : decode cX27_init 4 = .ok (.aload_n 0, 1) := dk_42 (dk_at dksX27_init_0 4 rfl rfl)
theorem dX27_init_5 : decode cX27_init 5 = .ok (.iload_n 1, 1) := dk_27 (dk_at dksX27_init_0 5 rfl rfl)
theorem dX27_init_6 : decode cX27_init 6 = .ok (.putfield 7, 3) := dk_181 0 7 (dk_at dksX27_init_0 6 rfl rfl)
theorem dX27_init_9 : decode cX27_init 9 = .ok (.aload_n 0, 1) := dk_42 (dk_at dksX27_init_0 9 rfl rfl)
theorem dX27_init_10 : decode cX27_init 10 = .ok (.iload_n 2, 1) := dk_28 (dk_at dksX27_init_0 10 rfl rfl)
theorem dX27_init_11 : decode cX27_init 11 = .ok (.putfield 13, 3) := dk_181 0 13 (dk_at dksX27_init_0 11 rfl rfl)
theorem dX27_init_14 : decode cX27_init 14 = .ok (.aload_n 0, 1) := dk_42 (dk_at dksX27_init_0 14 rfl rfl)
theorem dX27_init_15 : decode cX27_init 15 = .ok (.iload_n 3, 1) := dk_29 (dk_at dksX27_init_0 15 rfl rfl)
theorem dX27_init_16 : decode cX27_init 16 = .ok (.putfield 16, 3) := dk_181 0 16 (dk_at dksX27_init_0 16 rfl rfl)
theorem dX27_init_19 : decode cX27_init 19 = .ok (.return_, 1) := dk_177 (dk_at dksX27_init_0 19 rfl rfl)
abbrev cX28_init : ByteArray := prog_22_method_1_code
def yX28_init : MethodName := ⟨RX28, "<init>", "(ILGrassField$Cond;)V"⟩
def dkwX28_init_0 : List UInt8 := [42, 183, 0, 1, 42, 27, 181, 0, 7, 42, 44, 181, 0, 13, 177]
abbrev dktX28_init_0 : List UInt8 := dkwX28_init_0 ++ []
theorem dksX28_init_0 : cX28_init.data.toList.drop 0 = dktX28_init_0 := by decide +kernel
theorem dX28_init_0 : decode cX28_init 0 = .ok (.aload_n 0, 1) := dk_42 (dk_at dksX28_init_0 0 rfl rfl)
theorem dX28_init_1 : decode cX28_init 1 = .ok (.invokespecial 1, 3) := dk_183 0 1 (dk_at dksX28_init_0 1 rfl rfl)
theorem dX28_init_4 : decode cX28_init 4 = .ok (.aload_n 0, 1) := dk_42 (dk_at dksX28_init_0 4 rfl rfl)
theorem dX28_init_5 : decode cX28_init 5 = .ok (.iload_n 1, 1) := dk_27 (dk_at dksX28_init_0 5 rfl rfl)
theorem dX28_init_6 : decode cX28_init 6 = .ok (.putfield 7, 3) := dk_181 0 7 (dk_at dksX28_init_0 6 rfl rfl)
theorem dX28_init_9 : decode cX28_init 9 = .ok (.aload_n 0, 1) := dk_42 (dk_at dksX28_init_0 9 rfl rfl)
theorem dX28_init_10 : decode cX28_init 10 = .ok (.aload_n 2, 1) := dk_44 (dk_at dksX28_init_0 10 rfl rfl)
theorem dX28_init_11 : decode cX28_init 11 = .ok (.putfield 13, 3) := dk_181 0 13 (dk_at dksX28_init_0 11 rfl rfl)
theorem dX28_init_14 : decode cX28_init 14 = .ok (.return_, 1) := dk_177 (dk_at dksX28_init_0 14 rfl rfl)
