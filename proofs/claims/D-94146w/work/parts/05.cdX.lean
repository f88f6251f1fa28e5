set_option maxRecDepth 100000
abbrev cX1_init : ByteArray := prog_1_method_2_code
def yX1_init : MethodName := ⟨RX1, "<init>", "()V"⟩
def dkwX1_init_3 : List UInt8 := [181, 0, 52, 177]
abbrev dktX1_init_3 : List UInt8 := dkwX1_init_3 ++ []
def dkwX1_init_2 : List UInt8 := [183, 0, 38, 181, 0, 41, 42, 16, 16, 188, 10, 181, 0, 45, 42, 16, 8, 188, 10, 181, 0, 49, 42, 2]
abbrev dktX1_init_2 : List UInt8 := dkwX1_init_2 ++ dktX1_init_3
def dkwX1_init_1 : List UInt8 := [181, 0, 29, 42, 187, 0, 26, 89, 183, 0, 28, 181, 0, 33, 42, 187, 0, 36, 89, 42, 180, 0, 29]
abbrev dktX1_init_1 : List UInt8 := dkwX1_init_1 ++ dktX1_init_2
def dkwX1_init_0 : List UInt8 := [42, 183, 0, 13, 42, 187, 0, 19, 89, 183, 0, 21, 181, 0, 22, 42, 187, 0, 26, 89, 183, 0, 28]
abbrev dktX1_init_0 : List UInt8 := dkwX1_init_0 ++ dktX1_init_1
theorem dksX1_init_0 : cX1_init.data.toList.drop 0 = dktX1_init_0 := by decide +kernel
theorem dksX1_init_1 : cX1_init.data.toList.drop 23 = dktX1_init_1 := dk_seg dksX1_init_0 23 rfl rfl
theorem dksX1_init_2 : cX1_init.data.toList.drop 46 = dktX1_init_2 := dk_seg dksX1_init_1 23 rfl rfl
theorem dksX1_init_3 : cX1_init.data.toList.drop 70 = dktX1_init_3 := dk_seg dksX1_init_2 24 rfl rfl
theorem dX1_init_0 : decode cX1_init 0 = .ok (.aload_n 0, 1) := dk_42 (dk_at dksX1_init_0 0 rfl rfl)
theorem dX1_init_1 : decode cX1_init 1 = .ok (.invokespecial 13, 3) := dk_183 0 13 (dk_at dksX1_init_0 1 rfl rfl)
theorem dX1_init_4 : decode cX1_init 4 = .ok (.aload_n 0, 1) := dk_42 (dk_at dksX1_init_0 4 rfl rfl)
theorem dX1_init_5 : decode cX1_init 5 = .ok (.new 19, 3) := dk_187 0 19 (dk_at dksX1_init_0 5 rfl rfl)
theorem dX1_init_8 : decode cX1_init 8 = .ok (.dup, 1) := dk_89 (dk_at dksX1_init_0 8 rfl rfl)
theorem dX1_init_9 : decode cX1_init 9 = .ok (.invokespecial 21, 3) := dk_183 0 21 (dk_at dksX1_init_0 9 rfl rfl)
theorem dX1_init_12 : decode cX1_init 12 = .ok (.putfield 22, 3) := dk_181 0 22 (dk_at dksX1_init_0 12 rfl rfl)
theorem dX1_init_15 : decode cX1_init 15 = .ok (.aload_n 0, 1) := dk_42 (dk_at dksX1_init_0 15 rfl rfl)
theorem dX1_init_16 : decode cX1_init 16 = .ok (.new 26, 3) := dk_187 0 26 (dk_at dksX1_init_0 16 rfl rfl)
theorem dX1_init_19 : decode cX1_init 19 = .ok (.dup, 1) := dk_89 (dk_at dksX1_init_0 19 rfl rfl)
theorem dX1_init_20 : decode cX1_init 20 = .ok (.invokespecial 28, 3) := dk_183 0 28 (dk_at dksX1_init_0 20 rfl rfl)
theorem dX1_init_23 : decode cX1_init 23 = .ok (.putfield 29, 3) := dk_181 0 29 (dk_at dksX1_init_1 0 rfl rfl)
theorem dX1_init_26 : decode cX1_init 26 = .ok (.aload_n 0, 1) := dk_42 (dk_at dksX1_init_1 3 rfl rfl)
theorem dX1_init_27 : decode cX1_init 27 = .ok (.new 26, 3) := dk_187 0 26 (dk_at dksX1_init_1 4 rfl rfl)
theorem dX1_init_30 : decode cX1_init 30 = .ok (.dup, 1) := dk_89 (dk_at dksX1_init_1 7 rfl rfl)
theorem dX1_init_31 : decode cX1_init 31 = .ok (.invokespecial 28, 3) := dk_183 0 28 (dk_at dksX1_init_1 8 rfl rfl)
theorem dX1_init_34 : decode cX1_init 34 = .ok (.putfield 33, 3) := dk_181 0 33 (dk_at dksX1_init_1 11 rfl rfl)
theorem dX1_init_37 : decode cX1_init 37 = .ok (.aload_n 0, 1) := dk_42 (dk_at dksX1_init_1 14 rfl rfl)
theorem dX1_init_38 : decode cX1_init 38 = .ok (.new 36, 3) := dk_187 0 36 (dk_at dksX1_init_1 15 rfl rfl)
theorem dX1_init_41 : decode cX1_init 41 = .ok (.dup, 1) := dk_89 (dk_at dksX1_init_1 18 rfl rfl)
theorem dX1_init_42 : decode cX1_init 42 = .ok (.aload_n 0, 1) := dk_42 (dk_at dksX1_init_1 19 rfl rfl)
theorem dX1_init_43 : decode cX1_init 43 = .ok (.getfield 29, 3) := dk_180 0 29 (dk_at dksX1_init_1 20 rfl rfl)
theorem dX1_init_46 : decode cX1_init 46 = .ok (.invokespecial 38, 3) := dk_183 0 38 (dk_at dksX1_init_2 0 rfl rfl)
theorem dX1_init_49 : decode cX1_init 49 = .ok (.putfield 41, 3) := dk_181 0 41 (dk_at dksX1_init_2 3 rfl rfl)
theorem dX1_init_52 : decode cX1_init 52 = .ok (.aload_n 0, 1) := dk_42 (dk_at dksX1_init_2 6 rfl rfl)
theorem dX1_init_53 : decode cX1_init 53 = .ok (.bipush 16, 2) := dk_16 16 (dk_at dksX1_init_2 7 rfl rfl)
theorem dX1_init_55 : decode cX1_init 55 = .ok (.newarray .int, 2) := dk_188_10 (dk_at dksX1_init_2 9 rfl rfl)
theorem dX1_init_57 : decode cX1_init 57 = .ok (.putfield 45, 3) := dk_181 0 45 (dk_at dksX1_init_2 11 rfl rfl)
theorem dX1_init_60 : decode cX1_init 60 = .ok (.aload_n 0, 1) := dk_42 (dk_at dksX1_init_2 14 rfl rfl)
theorem dX1_init_61 : decode cX1_init 61 = .ok (.bipush 8, 2) := dk_16 8 (dk_at dksX1_init_2 15 rfl rfl)
theorem dX1_init_63 : decode cX1_init 63 = .ok (.newarray .int, 2) := dk_188_10 (dk_at dksX1_init_2 17 rfl rfl)
theorem dX1_init_65 : decode cX1_init 65 = .ok (.putfield 49, 3) := dk_181 0 49 (dk_at dksX1_init_2 19 rfl rfl)
theorem dX1_init_68 : decode cX1_init 68 = .ok (.aload_n 0, 1) := dk_42 (dk_at dksX1_init_2 22 rfl rfl)
theorem dX1_init_69 : decode cX1_init 69 = .ok (.iconst (-1), 1) := dk_2 (dk_at dksX1_init_2 23 rfl rfl)
theorem dX1_init_70 : decode cX1_init 70 = .ok (.putfield 52, 3) := dk_181 0 52 (dk_at dksX1_init_3 0 rfl rfl)
theorem dX1_init_73 : decode cX1_init 73 = .ok (.return_, 1) := dk_177 (dk_at dksX1_init_3 3 rfl rfl)
abbrev cX1_feed : ByteArray := prog_1_method_15_code
def yX1_feed : MethodName := ⟨RX1, "feed", "(IIIII)I"⟩
def dkwX1_feed_2 : List UInt8 := [180, 0, 22, 180, 0, 93, 172]
abbrev dktX1_feed_2 : List UInt8 := dkwX1_feed_2 ++ []
def dkwX1_feed_1 : List UInt8 := [28, 182, 0, 96, 42, 29, 182, 0, 96, 42, 21, 4, 182, 0, 96, 42, 21, 5, 182, 0, 96, 42]
abbrev dktX1_feed_1 : List UInt8 := dkwX1_feed_1 ++ dktX1_feed_2
def dkwX1_feed_0 : List UInt8 := [42, 180, 0, 22, 180, 0, 93, 16, 20, 96, 17, 1, 144, 164, 0, 5, 2, 172, 42, 27, 182, 0, 96, 42]
abbrev dktX1_feed_0 : List UInt8 := dkwX1_feed_0 ++ dktX1_feed_1
theorem dksX1_feed_0 : cX1_feed.data.toList.drop 0 = dktX1_feed_0 := by decide +kernel
theorem dksX1_feed_1 : cX1_feed.data.toList.drop 24 = dktX1_feed_1 := dk_seg dksX1_feed_0 24 rfl rfl
theorem dksX1_feed_2 : cX1_feed.data.toList.drop 46 = dktX1_feed_2 := dk_seg dksX1_feed_1 22 rfl rfl
theorem dX1_feed_0 : decode cX1_feed 0 = .ok (.aload_n 0, 1) := dk_42 (dk_at dksX1_feed_0 0 rfl rfl)
theorem dX1_feed_1 : decode cX1_feed 1 = .ok (.getfield 22, 3) := dk_180 0 22 (dk_at dksX1_feed_0 1 rfl rfl)
theorem dX1_feed_4 : decode cX1_feed 4 = .ok (.getfield 93, 3) := dk_180 0 93 (dk_at dksX1_feed_0 4 rfl rfl)
theorem dX1_feed_7 : decode cX1_feed 7 = .ok (.bipush 20, 2) := dk_16 20 (dk_at dksX1_feed_0 7 rfl rfl)
theorem dX1_feed_9 : decode cX1_feed 9 = .ok (.iadd, 1) := dk_96 (dk_at dksX1_feed_0 9 rfl rfl)
theorem dX1_feed_10 : decode cX1_feed 10 = .ok (.sipush 400, 3) := dk_17 1 144 (dk_at dksX1_feed_0 10 rfl rfl)
theorem dX1_feed_13 : decode cX1_feed 13 = .ok (.if_icmp .le 5, 3) := dk_164 0 5 (dk_at dksX1_feed_0 13 rfl rfl)
theorem dX1_feed_16 : decode cX1_feed 16 = .ok (.iconst (-1), 1) := dk_2 (dk_at dksX1_feed_0 16 rfl rfl)
theorem dX1_feed_17 : decode cX1_feed 17 = .ok (.ireturn, 1) := dk_172 (dk_at dksX1_feed_0 17 rfl rfl)
theorem dX1_feed_18 : decode cX1_feed 18 = .ok (.aload_n 0, 1) := dk_42 (dk_at dksX1_feed_0 18 rfl rfl)
theorem dX1_feed_19 : decode cX1_feed 19 = .ok (.iload_n 1, 1) := dk_27 (dk_at dksX1_feed_0 19 rfl rfl)
theorem dX1_feed_20 : decode cX1_feed 20 = .ok (.invokevirtual 96, 3) := dk_182 0 96 (dk_at dksX1_feed_0 20 rfl rfl)
theorem dX1_feed_23 : decode cX1_feed 23 = .ok (.aload_n 0, 1) := dk_42 (dk_at dksX1_feed_0 23 rfl rfl)
theorem dX1_feed_24 : decode cX1_feed 24 = .ok (.iload_n 2, 1) := dk_28 (dk_at dksX1_feed_1 0 rfl rfl)
theorem dX1_feed_25 : decode cX1_feed 25 = .ok (.invokevirtual 96, 3) := dk_182 0 96 (dk_at dksX1_feed_1 1 rfl rfl)
theorem dX1_feed_28 : decode cX1_feed 28 = .ok (.aload_n 0, 1) := dk_42 (dk_at dksX1_feed_1 4 rfl rfl)
theorem dX1_feed_29 : decode cX1_feed 29 = .ok (.iload_n 3, 1) := dk_29 (dk_at dksX1_feed_1 5 rfl rfl)
theorem dX1_feed_30 : decode cX1_feed 30 = .ok (.invokevirtual 96, 3) := dk_182 0 96 (dk_at dksX1_feed_1 6 rfl rfl)
theorem dX1_feed_33 : decode cX1_feed 33 = .ok (.aload_n 0, 1) := dk_42 (dk_at dksX1_feed_1 9 rfl rfl)
theorem dX1_feed_34 : decode cX1_feed 34 = .ok (.iload 4, 2) := dk_21 4 (dk_at dksX1_feed_1 10 rfl rfl)
theorem dX1_feed_36 : decode cX1_feed 36 = .ok (.invokevirtual 96, 3) := dk_182 0 96 (dk_at dksX1_feed_1 12 rfl rfl)
theorem dX1_feed_39 : decode cX1_feed 39 = .ok (.aload_n 0, 1) := dk_42 (dk_at dksX1_feed_1 15 rfl rfl)
theorem dX1_feed_40 : decode cX1_feed 40 = .ok (.iload 5, 2) := dk_21 5 (dk_at dksX1_feed_1 16 rfl rfl)
theorem dX1_feed_42 : decode cX1_feed 42 = .ok (.invokevirtual 96, 3) := dk_182 0 96 (dk_at dksX1_feed_1 18 rfl rfl)
theorem dX1_feed_45 : decode cX1_feed 45 = .ok (.aload_n 0, 1) := dk_42 (dk_at dksX1_feed_1 21 rfl rfl)
theorem dX1_feed_46 : decode cX1_feed 46 = .ok (.getfield 22, 3) := dk_180 0 22 (dk_at dksX1_feed_2 0 rfl rfl)
theorem dX1_feed_49 : decode cX1_feed 49 = .ok (.getfield 93, 3) := dk_180 0 93 (dk_at dksX1_feed_2 3 rfl rfl)
theorem dX1_feed_52 : decode cX1_feed 52 = .ok (.ireturn, 1) := dk_172 (dk_at dksX1_feed_2 6 rfl rfl)
abbrev cX1_four : ByteArray := prog_1_method_14_code
def yX1_four : MethodName := ⟨RX1, "four", "(I)V"⟩
def dkwX1_four_1 : List UInt8 := [145, 84, 42, 180, 0, 22, 89, 180, 0, 93, 4, 96, 181, 0, 93, 132, 2, 248, 167, 255, 217, 177]
abbrev dktX1_four_1 : List UInt8 := dkwX1_four_1 ++ []
def dkwX1_four_0 : List UInt8 := [16, 24, 61, 28, 155, 0, 41, 42, 180, 0, 22, 180, 0, 89, 42, 180, 0, 22, 180, 0, 93, 27, 28, 122]
abbrev dktX1_four_0 : List UInt8 := dkwX1_four_0 ++ dktX1_four_1
theorem dksX1_four_0 : cX1_four.data.toList.drop 0 = dktX1_four_0 := by decide +kernel
theorem dksX1_four_1 : cX1_four.data.toList.drop 24 = dktX1_four_1 := dk_seg dksX1_four_0 24 rfl rfl
theorem dX1_four_0 : decode cX1_four 0 = .ok (.bipush 24, 2) := dk_16 24 (dk_at dksX1_four_0 0 rfl rfl)
theorem dX1_four_2 : decode cX1_four 2 = .ok (.istore_n 2, 1) := dk_61 (dk_at dksX1_four_0 2 rfl rfl)
theorem dX1_four_3 : decode cX1_four 3 = .ok (.iload_n 2, 1) := dk_28 (dk_at dksX1_four_0 3 rfl rfl)
theorem dX1_four_4 : decode cX1_four 4 = .ok (.ifCond .lt 41, 3) := dk_155 0 41 (dk_at dksX1_four_0 4 rfl rfl)
theorem dX1_four_7 : decode cX1_four 7 = .ok (.aload_n 0, 1) := dk_42 (dk_at dksX1_four_0 7 rfl rfl)
theorem dX1_four_8 : decode cX1_four 8 = .ok (.getfield 22, 3) := dk_180 0 22 (dk_at dksX1_four_0 8 rfl rfl)
theorem dX1_four_11 : decode cX1_four 11 = .ok (.getfield 89, 3) := dk_180 0 89 (dk_at dksX1_four_0 11 rfl rfl)
theorem dX1_four_14 : decode cX1_four 14 = .ok (.aload_n 0, 1) := dk_42 (dk_at dksX1_four_0 14 rfl rfl)
theorem dX1_four_15 : decode cX1_four 15 = .ok (.getfield 22, 3) := dk_180 0 22 (dk_at dksX1_four_0 15 rfl rfl)
theorem dX1_four_18 : decode cX1_four 18 = .ok (.getfield 93, 3) := dk_180 0 93 (dk_at dksX1_four_0 18 rfl rfl)
theorem dX1_four_21 : decode cX1_four 21 = .ok (.iload_n 1, 1) := dk_27 (dk_at dksX1_four_0 21 rfl rfl)
theorem dX1_four_22 : decode cX1_four 22 = .ok (.iload_n 2, 1) := dk_28 (dk_at dksX1_four_0 22 rfl rfl)
theorem dX1_four_23 : decode cX1_four 23 = .ok (.ishr, 1) := dk_122 (dk_at dksX1_four_0 23 rfl rfl)
theorem dX1_four_24 : decode cX1_four 24 = .ok (.i2b, 1) := dk_145 (dk_at dksX1_four_1 0 rfl rfl)
theorem dX1_four_25 : decode cX1_four 25 = .ok (.bastore, 1) := dk_84 (dk_at dksX1_four_1 1 rfl rfl)
theorem dX1_four_26 : decode cX1_four 26 = .ok (.aload_n 0, 1) := dk_42 (dk_at dksX1_four_1 2 rfl rfl)
theorem dX1_four_27 : decode cX1_four 27 = .ok (.getfield 22, 3) := dk_180 0 22 (dk_at dksX1_four_1 3 rfl rfl)
theorem dX1_four_30 : decode cX1_four 30 = .ok (.dup, 1) := dk_89 (dk_at dksX1_four_1 6 rfl rfl)
theorem dX1_four_31 : decode cX1_four 31 = .ok (.getfield 93, 3) := dk_180 0 93 (dk_at dksX1_four_1 7 rfl rfl)
theorem dX1_four_34 : decode cX1_four 34 = .ok (.iconst 1, 1) := dk_4 (dk_at dksX1_four_1 10 rfl rfl)
theorem dX1_four_35 : decode cX1_four 35 = .ok (.iadd, 1) := dk_96 (dk_at dksX1_four_1 11 rfl rfl)
theorem dX1_four_36 : decode cX1_four 36 = .ok (.putfield 93, 3) := dk_181 0 93 (dk_at dksX1_four_1 12 rfl rfl)
theorem dX1_four_39 : decode cX1_four 39 = .ok (.iinc 2 (-8), 3) := dk_132 2 248 (dk_at dksX1_four_1 15 rfl rfl)
theorem dX1_four_42 : decode cX1_four 42 = .ok (.goto (-39), 3) := dk_167 255 217 (dk_at dksX1_four_1 18 rfl rfl)
theorem dX1_four_45 : decode cX1_four 45 = .ok (.return_, 1) := dk_177 (dk_at dksX1_four_1 21 rfl rfl)
abbrev cX1_end : ByteArray := prog_1_method_16_code
def yX1_end : MethodName := ⟨RX1, "end", "(I)Z"⟩
def dkwX1_end_1 : List UInt8 := [181, 0, 93, 4, 172]
abbrev dktX1_end_1 : List UInt8 := dkwX1_end_1 ++ []
def dkwX1_end_0 : List UInt8 := [27, 3, 42, 180, 0, 22, 180, 0, 93, 184, 0, 68, 154, 0, 5, 3, 172, 42, 180, 0, 22, 27]
abbrev dktX1_end_0 : List UInt8 := dkwX1_end_0 ++ dktX1_end_1
theorem dksX1_end_0 : cX1_end.data.toList.drop 0 = dktX1_end_0 := by decide +kernel
theorem dksX1_end_1 : cX1_end.data.toList.drop 22 = dktX1_end_1 := dk_seg dksX1_end_0 22 rfl rfl
theorem dX1_end_0 : decode cX1_end 0 = .ok (.iload_n 1, 1) := dk_27 (dk_at dksX1_end_0 0 rfl rfl)
theorem dX1_end_1 : decode cX1_end 1 = .ok (.iconst 0, 1) := dk_3 (dk_at dksX1_end_0 1 rfl rfl)
theorem dX1_end_2 : decode cX1_end 2 = .ok (.aload_n 0, 1) := dk_42 (dk_at dksX1_end_0 2 rfl rfl)
theorem dX1_end_3 : decode cX1_end 3 = .ok (.getfield 22, 3) := dk_180 0 22 (dk_at dksX1_end_0 3 rfl rfl)
theorem dX1_end_6 : decode cX1_end 6 = .ok (.getfield 93, 3) := dk_180 0 93 (dk_at dksX1_end_0 6 rfl rfl)
theorem dX1_end_9 : decode cX1_end 9 = .ok (.invokestatic 68, 3) := dk_184 0 68 (dk_at dksX1_end_0 9 rfl rfl)
theorem dX1_end_12 : decode cX1_end 12 = .ok (.ifCond .ne 5, 3) := dk_154 0 5 (dk_at dksX1_end_0 12 rfl rfl)
theorem dX1_end_15 : decode cX1_end 15 = .ok (.iconst 0, 1) := dk_3 (dk_at dksX1_end_0 15 rfl rfl)
theorem dX1_end_16 : decode cX1_end 16 = .ok (.ireturn, 1) := dk_172 (dk_at dksX1_end_0 16 rfl rfl)
theorem dX1_end_17 : decode cX1_end 17 = .ok (.aload_n 0, 1) := dk_42 (dk_at dksX1_end_0 17 rfl rfl)
theorem dX1_end_18 : decode cX1_end 18 = .ok (.getfield 22, 3) := dk_180 0 22 (dk_at dksX1_end_0 18 rfl rfl)
theorem dX1_end_21 : decode cX1_end 21 = .ok (.iload_n 1, 1) := dk_27 (dk_at dksX1_end_0 21 rfl rfl)
theorem dX1_end_22 : decode cX1_end 22 = .ok (.putfield 93, 3) := dk_181 0 93 (dk_at dksX1_end_1 0 rfl rfl)
theorem dX1_end_25 : decode cX1_end 25 = .ok (.iconst 1, 1) := dk_4 (dk_at dksX1_end_1 3 rfl rfl)
theorem dX1_end_26 : decode cX1_end 26 = .ok (.ireturn, 1) := dk_172 (dk_at dksX1_end_1 4 rfl rfl)
abbrev cX1_isIn : ByteArray := prog_1_method_7_code
def yX1_isIn : MethodName := ⟨RX1, "isIn", "(III)Z"⟩
def dkwX1_isIn_0 : List UInt8 := [26, 27, 161, 0, 12, 26, 28, 163, 0, 7, 4, 167, 0, 4, 3, 172]
abbrev dktX1_isIn_0 : List UInt8 := dkwX1_isIn_0 ++ []
theorem dksX1_isIn_0 : cX1_isIn.data.toList.drop 0 = dktX1_isIn_0 := by decide +kernel
theorem dX1_isIn_0 : decode cX1_isIn 0 = .ok (.iload_n 0, 1) := dk_26 (dk_at dksX1_isIn_0 0 rfl rfl)
theorem dX1_isIn_1 : decode cX1_isIn 1 = .ok (.iload_n 1, 1) := dk_27 (dk_at dksX1_isIn_0 1 rfl rfl)
theorem dX1_isIn_2 : decode cX1_isIn 2 = .ok (.if_icmp .lt 12, 3) := dk_161 0 12 (dk_at dksX1_isIn_0 2 rfl rfl)
theorem dX1_isIn_5 : decode cX1_isIn 5 = .ok (.iload_n 0, 1) := dk_26 (dk_at dksX1_isIn_0 5 rfl rfl)
theorem dX1_isIn_6 : decode cX1_isIn 6 = .ok (.iload_n 2, 1) := dk_28 (dk_at dksX1_isIn_0 6 rfl rfl)
theorem dX1_isIn_7 : decode cX1_isIn 7 = .ok (.if_icmp .gt 7, 3) := dk_163 0 7 (dk_at dksX1_isIn_0 7 rfl rfl)
theorem dX1_isIn_10 : decode cX1_isIn 10 = .ok (.iconst 1, 1) := dk_4 (dk_at dksX1_isIn_0 10 rfl rfl)
theorem dX1_isIn_11 : decode cX1_isIn 11 = .ok (.goto 4, 3) := dk_167 0 4 (dk_at dksX1_isIn_0 11 rfl rfl)
theorem dX1_isIn_14 : decode cX1_isIn 14 = .ok (.iconst 0, 1) := dk_3 (dk_at dksX1_isIn_0 14 rfl rfl)
theorem dX1_isIn_15 : decode cX1_isIn 15 = .ok (.ireturn, 1) := dk_172 (dk_at dksX1_isIn_0 15 rfl rfl)
abbrev cX1_fault : ByteArray := prog_1_method_25_code
def yX1_fault : MethodName := ⟨RX1, "fault", "()I"⟩
theorem dX1_fault_0 : decode cX1_fault 0 = .ok (.aload_n 0, 1) := by decide +kernel
theorem dX1_fault_1 : decode cX1_fault 1 = .ok (.getfield 52, 3) := by decide +kernel
theorem dX1_fault_4 : decode cX1_fault 4 = .ok (.ireturn, 1) := by decide +kernel
abbrev cX1_seed : ByteArray := prog_1_method_28_code
def yX1_seed : MethodName := ⟨RX1, "seed", "(I)V"⟩
def dkwX1_seed_0 : List UInt8 := [42, 180, 0, 29, 27, 181, 0, 191, 177]
abbrev dktX1_seed_0 : List UInt8 := dkwX1_seed_0 ++ []
theorem dksX1_seed_0 : cX1_seed.data.toList.drop 0 = dktX1_seed_0 := by decide +kernel
theorem dX1_seed_0 : decode cX1_seed 0 = .ok (.aload_n 0, 1) := dk_42 (dk_at dksX1_seed_0 0 rfl rfl)
theorem dX1_seed_1 : decode cX1_seed 1 = .ok (.getfield 29, 3) := dk_180 0 29 (dk_at dksX1_seed_0 1 rfl rfl)
theorem dX1_seed_4 : decode cX1_seed 4 = .ok (.iload_n 1, 1) := dk_27 (dk_at dksX1_seed_0 4 rfl rfl)
theorem dX1_seed_5 : decode cX1_seed 5 = .ok (.putfield 191, 3) := dk_181 0 191 (dk_at dksX1_seed_0 5 rfl rfl)
theorem dX1_seed_8 : decode cX1_seed 8 = .ok (.return_, 1) := dk_177 (dk_at dksX1_seed_0 8 rfl rfl)
abbrev cX1_next : ByteArray := prog_1_method_37_code
def yX1_next : MethodName := ⟨RX1, "next", "()I"⟩
def dkwX1_next_3 : List UInt8 := [163, 0, 6, 167, 0, 9, 21, 4, 60, 21, 5, 61, 132, 4, 1, 167, 255, 188, 27, 172]
abbrev dktX1_next_3 : List UInt8 := dkwX1_next_3 ++ []
def dkwX1_next_2 : List UInt8 := [181, 1, 3, 42, 180, 0, 29, 182, 1, 0, 54, 5, 42, 180, 0, 29, 29, 181, 1, 3, 21, 5, 28]
abbrev dktX1_next_2 : List UInt8 := dkwX1_next_2 ++ dktX1_next_3
def dkwX1_next_1 : List UInt8 := [21, 4, 122, 4, 126, 4, 160, 0, 6, 167, 0, 48, 42, 180, 0, 29, 29, 4, 21, 4, 120, 128]
abbrev dktX1_next_1 : List UInt8 := dkwX1_next_1 ++ dktX1_next_2
def dkwX1_next_0 : List UInt8 := [2, 60, 2, 61, 42, 180, 0, 29, 180, 1, 3, 62, 3, 54, 4, 21, 4, 16, 16, 162, 0, 67, 29]
abbrev dktX1_next_0 : List UInt8 := dkwX1_next_0 ++ dktX1_next_1
theorem dksX1_next_0 : cX1_next.data.toList.drop 0 = dktX1_next_0 := by decide +kernel
theorem dksX1_next_1 : cX1_next.data.toList.drop 23 = dktX1_next_1 := dk_seg dksX1_next_0 23 rfl rfl
theorem dksX1_next_2 : cX1_next.data.toList.drop 45 = dktX1_next_2 := dk_seg dksX1_next_1 22 rfl rfl
theorem dksX1_next_3 : cX1_next.data.toList.drop 68 = dktX1_next_3 := dk_seg dksX1_next_2 23 rfl rfl
theorem dX1_next_0 : decode cX1_next 0 = .ok (.iconst (-1), 1) := dk_2 (dk_at dksX1_next_0 0 rfl rfl)
theorem dX1_next_1 : decode cX1_next 1 = .ok (.istore_n 1, 1) := dk_60 (dk_at dksX1_next_0 1 rfl rfl)
theorem dX1_next_2 : decode cX1_next 2 = .ok (.iconst (-1), 1) := dk_2 (dk_at dksX1_next_0 2 rfl rfl)
theorem dX1_next_3 : decode cX1_next 3 = .ok (.istore_n 2, 1) := dk_61 (dk_at dksX1_next_0 3 rfl rfl)
theorem dX1_next_4 : decode cX1_next 4 = .ok (.aload_n 0, 1) := dk_42 (dk_at dksX1_next_0 4 rfl rfl)
theorem dX1_next_5 : decode cX1_next 5 = .ok (.getfield 29, 3) := dk_180 0 29 (dk_at dksX1_next_0 5 rfl rfl)
theorem dX1_next_8 : decode cX1_next 8 = .ok (.getfield 259, 3) := dk_180 1 3 (dk_at dksX1_next_0 8 rfl rfl)
theorem dX1_next_11 : decode cX1_next 11 = .ok (.istore_n 3, 1) := dk_62 (dk_at dksX1_next_0 11 rfl rfl)
theorem dX1_next_12 : decode cX1_next 12 = .ok (.iconst 0, 1) := dk_3 (dk_at dksX1_next_0 12 rfl rfl)
theorem dX1_next_13 : decode cX1_next 13 = .ok (.istore 4, 2) := dk_54 4 (dk_at dksX1_next_0 13 rfl rfl)
theorem dX1_next_15 : decode cX1_next 15 = .ok (.iload 4, 2) := dk_21 4 (dk_at dksX1_next_0 15 rfl rfl)
theorem dX1_next_17 : decode cX1_next 17 = .ok (.bipush 16, 2) := dk_16 16 (dk_at dksX1_next_0 17 rfl rfl)
theorem dX1_next_19 : decode cX1_next 19 = .ok (.if_icmp .ge 67, 3) := dk_162 0 67 (dk_at dksX1_next_0 19 rfl rfl)
theorem dX1_next_22 : decode cX1_next 22 = .ok (.iload_n 3, 1) := dk_29 (dk_at dksX1_next_0 22 rfl rfl)
theorem dX1_next_23 : decode cX1_next 23 = .ok (.iload 4, 2) := dk_21 4 (dk_at dksX1_next_1 0 rfl rfl)
theorem dX1_next_25 : decode cX1_next 25 = .ok (.ishr, 1) := dk_122 (dk_at dksX1_next_1 2 rfl rfl)
theorem dX1_next_26 : decode cX1_next 26 = .ok (.iconst 1, 1) := dk_4 (dk_at dksX1_next_1 3 rfl rfl)
theorem dX1_next_27 : decode cX1_next 27 = .ok (.iand, 1) := dk_126 (dk_at dksX1_next_1 4 rfl rfl)
theorem dX1_next_28 : decode cX1_next 28 = .ok (.iconst 1, 1) := dk_4 (dk_at dksX1_next_1 5 rfl rfl)
theorem dX1_next_29 : decode cX1_next 29 = .ok (.if_icmp .ne 6, 3) := dk_160 0 6 (dk_at dksX1_next_1 6 rfl rfl)
theorem dX1_next_32 : decode cX1_next 32 = .ok (.goto 48, 3) := dk_167 0 48 (dk_at dksX1_next_1 9 rfl rfl)
theorem dX1_next_35 : decode cX1_next 35 = .ok (.aload_n 0, 1) := dk_42 (dk_at dksX1_next_1 12 rfl rfl)
theorem dX1_next_36 : decode cX1_next 36 = .ok (.getfield 29, 3) := dk_180 0 29 (dk_at dksX1_next_1 13 rfl rfl)
theorem dX1_next_39 : decode cX1_next 39 = .ok (.iload_n 3, 1) := dk_29 (dk_at dksX1_next_1 16 rfl rfl)
theorem dX1_next_40 : decode cX1_next 40 = .ok (.iconst 1, 1) := dk_4 (dk_at dksX1_next_1 17 rfl rfl)
theorem dX1_next_41 : decode cX1_next 41 = .ok (.iload 4, 2) := dk_21 4 (dk_at dksX1_next_1 18 rfl rfl)
theorem dX1_next_43 : decode cX1_next 43 = .ok (.ishl, 1) := dk_120 (dk_at dksX1_next_1 20 rfl rfl)
theorem dX1_next_44 : decode cX1_next 44 = .ok (.ior, 1) := dk_128 (dk_at dksX1_next_1 21 rfl rfl)
theorem dX1_next_45 : decode cX1_next 45 = .ok (.putfield 259, 3) := dk_181 1 3 (dk_at dksX1_next_2 0 rfl rfl)
theorem dX1_next_48 : decode cX1_next 48 = .ok (.aload_n 0, 1) := dk_42 (dk_at dksX1_next_2 3 rfl rfl)
theorem dX1_next_49 : decode cX1_next 49 = .ok (.getfield 29, 3) := dk_180 0 29 (dk_at dksX1_next_2 4 rfl rfl)
theorem dX1_next_52 : decode cX1_next 52 = .ok (.invokevirtual 256, 3) := dk_182 1 0 (dk_at dksX1_next_2 7 rfl rfl)
theorem dX1_next_55 : decode cX1_next 55 = .ok (.istore 5, 2) := dk_54 5 (dk_at dksX1_next_2 10 rfl rfl)
theorem dX1_next_57 : decode cX1_next 57 = .ok (.aload_n 0, 1) := dk_42 (dk_at dksX1_next_2 12 rfl rfl)
theorem dX1_next_58 : decode cX1_next 58 = .ok (.getfield 29, 3) := dk_180 0 29 (dk_at dksX1_next_2 13 rfl rfl)
theorem dX1_next_61 : decode cX1_next 61 = .ok (.iload_n 3, 1) := dk_29 (dk_at dksX1_next_2 16 rfl rfl)
theorem dX1_next_62 : decode cX1_next 62 = .ok (.putfield 259, 3) := dk_181 1 3 (dk_at dksX1_next_2 17 rfl rfl)
theorem dX1_next_65 : decode cX1_next 65 = .ok (.iload 5, 2) := dk_21 5 (dk_at dksX1_next_2 20 rfl rfl)
theorem dX1_next_67 : decode cX1_next 67 = .ok (.iload_n 2, 1) := dk_28 (dk_at dksX1_next_2 22 rfl rfl)
theorem dX1_next_68 : decode cX1_next 68 = .ok (.if_icmp .gt 6, 3) := dk_163 0 6 (dk_at dksX1_next_3 0 rfl rfl)
theorem dX1_next_71 : decode cX1_next 71 = .ok (.goto 9, 3) := dk_167 0 9 (dk_at dksX1_next_3 3 rfl rfl)
theorem dX1_next_74 : decode cX1_next 74 = .ok (.iload 4, 2) := dk_21 4 (dk_at dksX1_next_3 6 rfl rfl)
theorem dX1_next_76 : decode cX1_next 76 = .ok (.istore_n 1, 1) := dk_60 (dk_at dksX1_next_3 8 rfl rfl)
theorem dX1_next_77 : decode cX1_next 77 = .ok (.iload 5, 2) := dk_21 5 (dk_at dksX1_next_3 9 rfl rfl)
theorem dX1_next_79 : decode cX1_next 79 = .ok (.istore_n 2, 1) := dk_61 (dk_at dksX1_next_3 11 rfl rfl)
theorem dX1_next_80 : decode cX1_next 80 = .ok (.iinc 4 1, 3) := dk_132 4 1 (dk_at dksX1_next_3 12 rfl rfl)
theorem dX1_next_83 : decode cX1_next 83 = .ok (.goto (-68), 3) := dk_167 255 188 (dk_at dksX1_next_3 15 rfl rfl)
theorem dX1_next_86 : decode cX1_next 86 = .ok (.iload_n 1, 1) := dk_27 (dk_at dksX1_next_3 18 rfl rfl)
theorem dX1_next_87 : decode cX1_next 87 = .ok (.ireturn, 1) := dk_172 (dk_at dksX1_next_3 19 rfl rfl)
abbrev cX1_apart : ByteArray := prog_1_method_54_code
def yX1_apart : MethodName := ⟨RX1, "apart", "()I"⟩
def dkwX1_apart_8 : List UInt8 := [153, 0, 8, 29, 184, 1, 15, 61, 132, 3, 1, 167, 255, 121, 28, 172]
abbrev dktX1_apart_8 : List UInt8 := dkwX1_apart_8 ++ []
def dkwX1_apart_7 : List UInt8 := [154, 0, 7, 4, 167, 0, 4, 3, 54, 4, 132, 6, 1, 167, 255, 202, 132, 5, 1, 167, 255, 176, 21, 4]
abbrev dktX1_apart_7 : List UInt8 := dkwX1_apart_7 ++ dktX1_apart_8
def dkwX1_apart_6 : List UInt8 := [153, 0, 26, 29, 21, 6, 122, 4, 126, 153, 0, 17, 42, 180, 0, 29, 21, 5, 21, 6, 182, 1, 93]
abbrev dktX1_apart_6 : List UInt8 := dkwX1_apart_6 ++ dktX1_apart_7
def dkwX1_apart_5 : List UInt8 := [153, 0, 69, 3, 54, 6, 21, 6, 21, 5, 162, 0, 53, 21, 4, 153, 0, 48, 29, 21, 5, 122, 4, 126]
abbrev dktX1_apart_5 : List UInt8 := dkwX1_apart_5 ++ dktX1_apart_6
def dkwX1_apart_4 : List UInt8 := [167, 0, 4, 3, 54, 4, 3, 54, 5, 21, 5, 42, 180, 0, 29, 180, 0, 86, 162, 0, 74, 21, 4]
abbrev dktX1_apart_4 : List UInt8 := dkwX1_apart_4 ++ dktX1_apart_5
def dkwX1_apart_3 : List UInt8 := [180, 0, 86, 120, 162, 0, 128, 29, 27, 2, 130, 126, 154, 0, 15, 29, 184, 1, 15, 28, 164, 0, 7, 4]
abbrev dktX1_apart_3 : List UInt8 := dkwX1_apart_3 ++ dktX1_apart_4
def dkwX1_apart_2 : List UInt8 := [120, 167, 0, 4, 3, 128, 60, 132, 2, 1, 167, 255, 202, 3, 61, 3, 62, 29, 4, 42, 180, 0, 29]
abbrev dktX1_apart_2 : List UInt8 := dkwX1_apart_2 ++ dktX1_apart_3
def dkwX1_apart_1 : List UInt8 := [180, 1, 79, 28, 50, 182, 1, 86, 153, 0, 20, 4, 42, 180, 0, 29, 180, 1, 79, 28, 50, 180, 1, 96]
abbrev dktX1_apart_1 : List UInt8 := dkwX1_apart_1 ++ dktX1_apart_2
def dkwX1_apart_0 : List UInt8 := [3, 60, 3, 61, 28, 42, 180, 0, 29, 180, 1, 76, 162, 0, 49, 27, 42, 180, 0, 29, 42, 180, 0, 29]
abbrev dktX1_apart_0 : List UInt8 := dkwX1_apart_0 ++ dktX1_apart_1
theorem dksX1_apart_0 : cX1_apart.data.toList.drop 0 = dktX1_apart_0 := by decide +kernel
theorem dksX1_apart_1 : cX1_apart.data.toList.drop 24 = dktX1_apart_1 := dk_seg dksX1_apart_0 24 rfl rfl
theorem dksX1_apart_2 : cX1_apart.data.toList.drop 48 = dktX1_apart_2 := dk_seg dksX1_apart_1 24 rfl rfl
theorem dksX1_apart_3 : cX1_apart.data.toList.drop 71 = dktX1_apart_3 := dk_seg dksX1_apart_2 23 rfl rfl
theorem dksX1_apart_4 : cX1_apart.data.toList.drop 95 = dktX1_apart_4 := dk_seg dksX1_apart_3 24 rfl rfl
theorem dksX1_apart_5 : cX1_apart.data.toList.drop 118 = dktX1_apart_5 := dk_seg dksX1_apart_4 23 rfl rfl
theorem dksX1_apart_6 : cX1_apart.data.toList.drop 142 = dktX1_apart_6 := dk_seg dksX1_apart_5 24 rfl rfl
theorem dksX1_apart_7 : cX1_apart.data.toList.drop 165 = dktX1_apart_7 := dk_seg dksX1_apart_6 23 rfl rfl
theorem dksX1_apart_8 : cX1_apart.data.toList.drop 189 = dktX1_apart_8 := dk_seg dksX1_apart_7 24 rfl rfl
theorem dX1_apart_0 : decode cX1_apart 0 = .ok (.iconst 0, 1) := dk_3 (dk_at dksX1_apart_0 0 rfl rfl)
theorem dX1_apart_1 : decode cX1_apart 1 = .ok (.istore_n 1, 1) := dk_60 (dk_at dksX1_apart_0 1 rfl rfl)
theorem dX1_apart_2 : decode cX1_apart 2 = .ok (.iconst 0, 1) := dk_3 (dk_at dksX1_apart_0 2 rfl rfl)
theorem dX1_apart_3 : decode cX1_apart 3 = .ok (.istore_n 2, 1) := dk_61 (dk_at dksX1_apart_0 3 rfl rfl)
theorem dX1_apart_4 : decode cX1_apart 4 = .ok (.iload_n 2, 1) := dk_28 (dk_at dksX1_apart_0 4 rfl rfl)
theorem dX1_apart_5 : decode cX1_apart 5 = .ok (.aload_n 0, 1) := dk_42 (dk_at dksX1_apart_0 5 rfl rfl)
theorem dX1_apart_6 : decode cX1_apart 6 = .ok (.getfield 29, 3) := dk_180 0 29 (dk_at dksX1_apart_0 6 rfl rfl)
theorem dX1_apart_9 : decode cX1_apart 9 = .ok (.getfield 332, 3) := dk_180 1 76 (dk_at dksX1_apart_0 9 rfl rfl)
theorem dX1_apart_12 : decode cX1_apart 12 = .ok (.if_icmp .ge 49, 3) := dk_162 0 49 (dk_at dksX1_apart_0 12 rfl rfl)
theorem dX1_apart_15 : decode cX1_apart 15 = .ok (.iload_n 1, 1) := dk_27 (dk_at dksX1_apart_0 15 rfl rfl)
theorem dX1_apart_16 : decode cX1_apart 16 = .ok (.aload_n 0, 1) := dk_42 (dk_at dksX1_apart_0 16 rfl rfl)
theorem dX1_apart_17 : decode cX1_apart 17 = .ok (.getfield 29, 3) := dk_180 0 29 (dk_at dksX1_apart_0 17 rfl rfl)
theorem dX1_apart_20 : decode cX1_apart 20 = .ok (.aload_n 0, 1) := dk_42 (dk_at dksX1_apart_0 20 rfl rfl)
theorem dX1_apart_21 : decode cX1_apart 21 = .ok (.getfield 29, 3) := dk_180 0 29 (dk_at dksX1_apart_0 21 rfl rfl)
theorem dX1_apart_24 : decode cX1_apart 24 = .ok (.getfield 335, 3) := dk_180 1 79 (dk_at dksX1_apart_1 0 rfl rfl)
theorem dX1_apart_27 : decode cX1_apart 27 = .ok (.iload_n 2, 1) := dk_28 (dk_at dksX1_apart_1 3 rfl rfl)
theorem dX1_apart_28 : decode cX1_apart 28 = .ok (.aaload, 1) := dk_50 (dk_at dksX1_apart_1 4 rfl rfl)
theorem dX1_apart_29 : decode cX1_apart 29 = .ok (.invokevirtual 342, 3) := dk_182 1 86 (dk_at dksX1_apart_1 5 rfl rfl)
theorem dX1_apart_32 : decode cX1_apart 32 = .ok (.ifCond .eq 20, 3) := dk_153 0 20 (dk_at dksX1_apart_1 8 rfl rfl)
theorem dX1_apart_35 : decode cX1_apart 35 = .ok (.iconst 1, 1) := dk_4 (dk_at dksX1_apart_1 11 rfl rfl)
theorem dX1_apart_36 : decode cX1_apart 36 = .ok (.aload_n 0, 1) := dk_42 (dk_at dksX1_apart_1 12 rfl rfl)
theorem dX1_apart_37 : decode cX1_apart 37 = .ok (.getfield 29, 3) := dk_180 0 29 (dk_at dksX1_apart_1 13 rfl rfl)
theorem dX1_apart_40 : decode cX1_apart 40 = .ok (.getfield 335, 3) := dk_180 1 79 (dk_at dksX1_apart_1 16 rfl rfl)
theorem dX1_apart_43 : decode cX1_apart 43 = .ok (.iload_n 2, 1) := dk_28 (dk_at dksX1_apart_1 19 rfl rfl)
theorem dX1_apart_44 : decode cX1_apart 44 = .ok (.aaload, 1) := dk_50 (dk_at dksX1_apart_1 20 rfl rfl)
theorem dX1_apart_45 : decode cX1_apart 45 = .ok (.getfield 352, 3) := dk_180 1 96 (dk_at dksX1_apart_1 21 rfl rfl)
theorem dX1_apart_48 : decode cX1_apart 48 = .ok (.ishl, 1) := dk_120 (dk_at dksX1_apart_2 0 rfl rfl)
theorem dX1_apart_49 : decode cX1_apart 49 = .ok (.goto 4, 3) := dk_167 0 4 (dk_at dksX1_apart_2 1 rfl rfl)
theorem dX1_apart_52 : decode cX1_apart 52 = .ok (.iconst 0, 1) := dk_3 (dk_at dksX1_apart_2 4 rfl rfl)
theorem dX1_apart_53 : decode cX1_apart 53 = .ok (.ior, 1) := dk_128 (dk_at dksX1_apart_2 5 rfl rfl)
theorem dX1_apart_54 : decode cX1_apart 54 = .ok (.istore_n 1, 1) := dk_60 (dk_at dksX1_apart_2 6 rfl rfl)
theorem dX1_apart_55 : decode cX1_apart 55 = .ok (.iinc 2 1, 3) := dk_132 2 1 (dk_at dksX1_apart_2 7 rfl rfl)
theorem dX1_apart_58 : decode cX1_apart 58 = .ok (.goto (-54), 3) := dk_167 255 202 (dk_at dksX1_apart_2 10 rfl rfl)
theorem dX1_apart_61 : decode cX1_apart 61 = .ok (.iconst 0, 1) := dk_3 (dk_at dksX1_apart_2 13 rfl rfl)
theorem dX1_apart_62 : decode cX1_apart 62 = .ok (.istore_n 2, 1) := dk_61 (dk_at dksX1_apart_2 14 rfl rfl)
theorem dX1_apart_63 : decode cX1_apart 63 = .ok (.iconst 0, 1) := dk_3 (dk_at dksX1_apart_2 15 rfl rfl)
theorem dX1_apart_64 : decode cX1_apart 64 = .ok (.istore_n 3, 1) := dk_62 (dk_at dksX1_apart_2 16 rfl rfl)
theorem dX1_apart_65 : decode cX1_apart 65 = .ok (.iload_n 3, 1) := dk_29 (dk_at dksX1_apart_2 17 rfl rfl)
theorem dX1_apart_66 : decode cX1_apart 66 = .ok (.iconst 1, 1) := dk_4 (dk_at dksX1_apart_2 18 rfl rfl)
theorem dX1_apart_67 : decode cX1_apart 67 = .ok (.aload_n 0, 1) := dk_42 (dk_at dksX1_apart_2 19 rfl rfl)
theorem dX1_apart_68 : decode cX1_apart 68 = .ok (.getfield 29, 3) := dk_180 0 29 (dk_at dksX1_apart_2 20 rfl rfl)
theorem dX1_apart_71 : decode cX1_apart 71 = .ok (.getfield 86, 3) := dk_180 0 86 (dk_at dksX1_apart_3 0 rfl rfl)
theorem dX1_apart_74 : decode cX1_apart 74 = .ok (.ishl, 1) := dk_120 (dk_at dksX1_apart_3 3 rfl rfl)
theorem dX1_apart_75 : decode cX1_apart 75 = .ok (.if_icmp .ge 128, 3) := dk_162 0 128 (dk_at dksX1_apart_3 4 rfl rfl)
theorem dX1_apart_78 : decode cX1_apart 78 = .ok (.iload_n 3, 1) := dk_29 (dk_at dksX1_apart_3 7 rfl rfl)
theorem dX1_apart_79 : decode cX1_apart 79 = .ok (.iload_n 1, 1) := dk_27 (dk_at dksX1_apart_3 8 rfl rfl)
theorem dX1_apart_80 : decode cX1_apart 80 = .ok (.iconst (-1), 1) := dk_2 (dk_at dksX1_apart_3 9 rfl rfl)
theorem dX1_apart_81 : decode cX1_apart 81 = .ok (.ixor, 1) := dk_130 (dk_at dksX1_apart_3 10 rfl rfl)
theorem dX1_apart_82 : decode cX1_apart 82 = .ok (.iand, 1) := dk_126 (dk_at dksX1_apart_3 11 rfl rfl)
theorem dX1_apart_83 : decode cX1_apart 83 = .ok (.ifCond .ne 15, 3) := dk_154 0 15 (dk_at dksX1_apart_3 12 rfl rfl)
theorem dX1_apart_86 : decode cX1_apart 86 = .ok (.iload_n 3, 1) := dk_29 (dk_at dksX1_apart_3 15 rfl rfl)
theorem dX1_apart_87 : decode cX1_apart 87 = .ok (.invokestatic 271, 3) := dk_184 1 15 (dk_at dksX1_apart_3 16 rfl rfl)
theorem dX1_apart_90 : decode cX1_apart 90 = .ok (.iload_n 2, 1) := dk_28 (dk_at dksX1_apart_3 19 rfl rfl)
theorem dX1_apart_91 : decode cX1_apart 91 = .ok (.if_icmp .le 7, 3) := dk_164 0 7 (dk_at dksX1_apart_3 20 rfl rfl)
theorem dX1_apart_94 : decode cX1_apart 94 = .ok (.iconst 1, 1) := dk_4 (dk_at dksX1_apart_3 23 rfl rfl)
theorem dX1_apart_95 : decode cX1_apart 95 = .ok (.goto 4, 3) := dk_167 0 4 (dk_at dksX1_apart_4 0 rfl rfl)
theorem dX1_apart_98 : decode cX1_apart 98 = .ok (.iconst 0, 1) := dk_3 (dk_at dksX1_apart_4 3 rfl rfl)
theorem dX1_apart_99 : decode cX1_apart 99 = .ok (.istore 4, 2) := dk_54 4 (dk_at dksX1_apart_4 4 rfl rfl)
theorem dX1_apart_101 : decode cX1_apart 101 = .ok (.iconst 0, 1) := dk_3 (dk_at dksX1_apart_4 6 rfl rfl)
theorem dX1_apart_102 : decode cX1_apart 102 = .ok (.istore 5, 2) := dk_54 5 (dk_at dksX1_apart_4 7 rfl rfl)
theorem dX1_apart_104 : decode cX1_apart 104 = .ok (.iload 5, 2) := dk_21 5 (dk_at dksX1_apart_4 9 rfl rfl)
theorem dX1_apart_106 : decode cX1_apart 106 = .ok (.aload_n 0, 1) := dk_42 (dk_at dksX1_apart_4 11 rfl rfl)
theorem dX1_apart_107 : decode cX1_apart 107 = .ok (.getfield 29, 3) := dk_180 0 29 (dk_at dksX1_apart_4 12 rfl rfl)
theorem dX1_apart_110 : decode cX1_apart 110 = .ok (.getfield 86, 3) := dk_180 0 86 (dk_at dksX1_apart_4 15 rfl rfl)
theorem dX1_apart_113 : decode cX1_apart 113 = .ok (.if_icmp .ge 74, 3) := dk_162 0 74 (dk_at dksX1_apart_4 18 rfl rfl)
theorem dX1_apart_116 : decode cX1_apart 116 = .ok (.iload 4, 2) := dk_21 4 (dk_at dksX1_apart_4 21 rfl rfl)
theorem dX1_apart_118 : decode cX1_apart 118 = .ok (.ifCond .eq 69, 3) := dk_153 0 69 (dk_at dksX1_apart_5 0 rfl rfl)
theorem dX1_apart_121 : decode cX1_apart 121 = .ok (.iconst 0, 1) := dk_3 (dk_at dksX1_apart_5 3 rfl rfl)
theorem dX1_apart_122 : decode cX1_apart 122 = .ok (.istore 6, 2) := dk_54 6 (dk_at dksX1_apart_5 4 rfl rfl)
theorem dX1_apart_124 : decode cX1_apart 124 = .ok (.iload 6, 2) := dk_21 6 (dk_at dksX1_apart_5 6 rfl rfl)
theorem dX1_apart_126 : decode cX1_apart 126 = .ok (.iload 5, 2) := dk_21 5 (dk_at dksX1_apart_5 8 rfl rfl)
theorem dX1_apart_128 : decode cX1_apart 128 = .ok (.if_icmp .ge 53, 3) := dk_162 0 53 (dk_at dksX1_apart_5 10 rfl rfl)
theorem dX1_apart_131 : decode cX1_apart 131 = .ok (.iload 4, 2) := dk_21 4 (dk_at dksX1_apart_5 13 rfl rfl)
theorem dX1_apart_133 : decode cX1_apart 133 = .ok (.ifCond .eq 48, 3) := dk_153 0 48 (dk_at dksX1_apart_5 15 rfl rfl)
theorem dX1_apart_136 : decode cX1_apart 136 = .ok (.iload_n 3, 1) := dk_29 (dk_at dksX1_apart_5 18 rfl rfl)
theorem dX1_apart_137 : decode cX1_apart 137 = .ok (.iload 5, 2) := dk_21 5 (dk_at dksX1_apart_5 19 rfl rfl)
theorem dX1_apart_139 : decode cX1_apart 139 = .ok (.ishr, 1) := dk_122 (dk_at dksX1_apart_5 21 rfl rfl)
theorem dX1_apart_140 : decode cX1_apart 140 = .ok (.iconst 1, 1) := dk_4 (dk_at dksX1_apart_5 22 rfl rfl)
theorem dX1_apart_141 : decode cX1_apart 141 = .ok (.iand, 1) := dk_126 (dk_at dksX1_apart_5 23 rfl rfl)
theorem dX1_apart_142 : decode cX1_apart 142 = .ok (.ifCond .eq 26, 3) := dk_153 0 26 (dk_at dksX1_apart_6 0 rfl rfl)
theorem dX1_apart_145 : decode cX1_apart 145 = .ok (.iload_n 3, 1) := dk_29 (dk_at dksX1_apart_6 3 rfl rfl)
theorem dX1_apart_146 : decode cX1_apart 146 = .ok (.iload 6, 2) := dk_21 6 (dk_at dksX1_apart_6 4 rfl rfl)
theorem dX1_apart_148 : decode cX1_apart 148 = .ok (.ishr, 1) := dk_122 (dk_at dksX1_apart_6 6 rfl rfl)
theorem dX1_apart_149 : decode cX1_apart 149 = .ok (.iconst 1, 1) := dk_4 (dk_at dksX1_apart_6 7 rfl rfl)
theorem dX1_apart_150 : decode cX1_apart 150 = .ok (.iand, 1) := dk_126 (dk_at dksX1_apart_6 8 rfl rfl)
theorem dX1_apart_151 : decode cX1_apart 151 = .ok (.ifCond .eq 17, 3) := dk_153 0 17 (dk_at dksX1_apart_6 9 rfl rfl)
theorem dX1_apart_154 : decode cX1_apart 154 = .ok (.aload_n 0, 1) := dk_42 (dk_at dksX1_apart_6 12 rfl rfl)
theorem dX1_apart_155 : decode cX1_apart 155 = .ok (.getfield 29, 3) := dk_180 0 29 (dk_at dksX1_apart_6 13 rfl rfl)
theorem dX1_apart_158 : decode cX1_apart 158 = .ok (.iload 5, 2) := dk_21 5 (dk_at dksX1_apart_6 16 rfl rfl)
theorem dX1_apart_160 : decode cX1_apart 160 = .ok (.iload 6, 2) := dk_21 6 (dk_at dksX1_apart_6 18 rfl rfl)
theorem dX1_apart_162 : decode cX1_apart 162 = .ok (.invokevirtual 349, 3) := dk_182 1 93 (dk_at dksX1_apart_6 20 rfl rfl)
theorem dX1_apart_165 : decode cX1_apart 165 = .ok (.ifCond .ne 7, 3) := dk_154 0 7 (dk_at dksX1_apart_7 0 rfl rfl)
theorem dX1_apart_168 : decode cX1_apart 168 = .ok (.iconst 1, 1) := dk_4 (dk_at dksX1_apart_7 3 rfl rfl)
theorem dX1_apart_169 : decode cX1_apart 169 = .ok (.goto 4, 3) := dk_167 0 4 (dk_at dksX1_apart_7 4 rfl rfl)
theorem dX1_apart_172 : decode cX1_apart 172 = .ok (.iconst 0, 1) := dk_3 (dk_at dksX1_apart_7 7 rfl rfl)
theorem dX1_apart_173 : decode cX1_apart 173 = .ok (.istore 4, 2) := dk_54 4 (dk_at dksX1_apart_7 8 rfl rfl)
theorem dX1_apart_175 : decode cX1_apart 175 = .ok (.iinc 6 1, 3) := dk_132 6 1 (dk_at dksX1_apart_7 10 rfl rfl)
theorem dX1_apart_178 : decode cX1_apart 178 = .ok (.goto (-54), 3) := dk_167 255 202 (dk_at dksX1_apart_7 13 rfl rfl)
theorem dX1_apart_181 : decode cX1_apart 181 = .ok (.iinc 5 1, 3) := dk_132 5 1 (dk_at dksX1_apart_7 16 rfl rfl)
theorem dX1_apart_184 : decode cX1_apart 184 = .ok (.goto (-80), 3) := dk_167 255 176 (dk_at dksX1_apart_7 19 rfl rfl)
theorem dX1_apart_187 : decode cX1_apart 187 = .ok (.iload 4, 2) := dk_21 4 (dk_at dksX1_apart_7 22 rfl rfl)
theorem dX1_apart_189 : decode cX1_apart 189 = .ok (.ifCond .eq 8, 3) := dk_153 0 8 (dk_at dksX1_apart_8 0 rfl rfl)
theorem dX1_apart_192 : decode cX1_apart 192 = .ok (.iload_n 3, 1) := dk_29 (dk_at dksX1_apart_8 3 rfl rfl)
theorem dX1_apart_193 : decode cX1_apart 193 = .ok (.invokestatic 271, 3) := dk_184 1 15 (dk_at dksX1_apart_8 4 rfl rfl)
theorem dX1_apart_196 : decode cX1_apart 196 = .ok (.istore_n 2, 1) := dk_61 (dk_at dksX1_apart_8 7 rfl rfl)
theorem dX1_apart_197 : decode cX1_apart 197 = .ok (.iinc 3 1, 3) := dk_132 3 1 (dk_at dksX1_apart_8 8 rfl rfl)
theorem dX1_apart_200 : decode cX1_apart 200 = .ok (.goto (-135), 3) := dk_167 255 121 (dk_at dksX1_apart_8 11 rfl rfl)
theorem dX1_apart_203 : decode cX1_apart 203 = .ok (.iload_n 2, 1) := dk_28 (dk_at dksX1_apart_8 14 rfl rfl)
theorem dX1_apart_204 : decode cX1_apart 204 = .ok (.ireturn, 1) := dk_172 (dk_at dksX1_apart_8 15 rfl rfl)
abbrev cX1_far : ByteArray := prog_1_method_1_code
def yX1_far : MethodName := ⟨RX1, "far", "(II)I"⟩
def dkwX1_far_1 : List UInt8 := [184, 0, 9, 172]
abbrev dktX1_far_1 : List UInt8 := dkwX1_far_1 ++ []
def dkwX1_far_0 : List UInt8 := [26, 16, 16, 112, 27, 16, 16, 112, 100, 184, 0, 3, 26, 16, 16, 108, 27, 16, 16, 108, 100, 184, 0, 3]
abbrev dktX1_far_0 : List UInt8 := dkwX1_far_0 ++ dktX1_far_1
theorem dksX1_far_0 : cX1_far.data.toList.drop 0 = dktX1_far_0 := by decide +kernel
theorem dksX1_far_1 : cX1_far.data.toList.drop 24 = dktX1_far_1 := dk_seg dksX1_far_0 24 rfl rfl
theorem dX1_far_0 : decode cX1_far 0 = .ok (.iload_n 0, 1) := dk_26 (dk_at dksX1_far_0 0 rfl rfl)
theorem dX1_far_1 : decode cX1_far 1 = .ok (.bipush 16, 2) := dk_16 16 (dk_at dksX1_far_0 1 rfl rfl)
theorem dX1_far_3 : decode cX1_far 3 = .ok (.irem, 1) := dk_112 (dk_at dksX1_far_0 3 rfl rfl)
theorem dX1_far_4 : decode cX1_far 4 = .ok (.iload_n 1, 1) := dk_27 (dk_at dksX1_far_0 4 rfl rfl)
theorem dX1_far_5 : decode cX1_far 5 = .ok (.bipush 16, 2) := dk_16 16 (dk_at dksX1_far_0 5 rfl rfl)
theorem dX1_far_7 : decode cX1_far 7 = .ok (.irem, 1) := dk_112 (dk_at dksX1_far_0 7 rfl rfl)
theorem dX1_far_8 : decode cX1_far 8 = .ok (.isub, 1) := dk_100 (dk_at dksX1_far_0 8 rfl rfl)
theorem dX1_far_9 : decode cX1_far 9 = .ok (.invokestatic 3, 3) := dk_184 0 3 (dk_at dksX1_far_0 9 rfl rfl)
theorem dX1_far_12 : decode cX1_far 12 = .ok (.iload_n 0, 1) := dk_26 (dk_at dksX1_far_0 12 rfl rfl)
theorem dX1_far_13 : decode cX1_far 13 = .ok (.bipush 16, 2) := dk_16 16 (dk_at dksX1_far_0 13 rfl rfl)
theorem dX1_far_15 : decode cX1_far 15 = .ok (.idiv, 1) := dk_108 (dk_at dksX1_far_0 15 rfl rfl)
theorem dX1_far_16 : decode cX1_far 16 = .ok (.iload_n 1, 1) := dk_27 (dk_at dksX1_far_0 16 rfl rfl)
theorem dX1_far_17 : decode cX1_far 17 = .ok (.bipush 16, 2) := dk_16 16 (dk_at dksX1_far_0 17 rfl rfl)
theorem dX1_far_19 : decode cX1_far 19 = .ok (.idiv, 1) := dk_108 (dk_at dksX1_far_0 19 rfl rfl)
theorem dX1_far_20 : decode cX1_far 20 = .ok (.isub, 1) := dk_100 (dk_at dksX1_far_0 20 rfl rfl)
theorem dX1_far_21 : decode cX1_far 21 = .ok (.invokestatic 3, 3) := dk_184 0 3 (dk_at dksX1_far_0 21 rfl rfl)
theorem dX1_far_24 : decode cX1_far 24 = .ok (.invokestatic 9, 3) := dk_184 0 9 (dk_at dksX1_far_1 0 rfl rfl)
theorem dX1_far_27 : decode cX1_far 27 = .ok (.ireturn, 1) := dk_172 (dk_at dksX1_far_1 3 rfl rfl)
abbrev cX1_image : ByteArray := prog_1_method_64_code
def yX1_image : MethodName := ⟨RX1, "image", "()V"⟩
def dkwX1_image_0 : List UInt8 := [42, 180, 0, 33, 42, 180, 0, 29, 182, 1, 151, 42, 4, 181, 1, 154, 177]
abbrev dktX1_image_0 : List UInt8 := dkwX1_image_0 ++ []
theorem dksX1_image_0 : cX1_image.data.toList.drop 0 = dktX1_image_0 := by decide +kernel
theorem dX1_image_0 : decode cX1_image 0 = .ok (.aload_n 0, 1) := dk_42 (dk_at dksX1_image_0 0 rfl rfl)
theorem dX1_image_1 : decode cX1_image 1 = .ok (.getfield 33, 3) := dk_180 0 33 (dk_at dksX1_image_0 1 rfl rfl)
theorem dX1_image_4 : decode cX1_image 4 = .ok (.aload_n 0, 1) := dk_42 (dk_at dksX1_image_0 4 rfl rfl)
theorem dX1_image_5 : decode cX1_image 5 = .ok (.getfield 29, 3) := dk_180 0 29 (dk_at dksX1_image_0 5 rfl rfl)
theorem dX1_image_8 : decode cX1_image 8 = .ok (.invokevirtual 407, 3) := dk_182 1 151 (dk_at dksX1_image_0 8 rfl rfl)
theorem dX1_image_11 : decode cX1_image 11 = .ok (.aload_n 0, 1) := dk_42 (dk_at dksX1_image_0 11 rfl rfl)
theorem dX1_image_12 : decode cX1_image 12 = .ok (.iconst 1, 1) := dk_4 (dk_at dksX1_image_0 12 rfl rfl)
theorem dX1_image_13 : decode cX1_image 13 = .ok (.putfield 410, 3) := dk_181 1 154 (dk_at dksX1_image_0 13 rfl rfl)
theorem dX1_image_16 : decode cX1_image 16 = .ok (.return_, 1) := dk_177 (dk_at dksX1_image_0 16 rfl rfl)
abbrev cX1_back : ByteArray := prog_1_method_65_code
def yX1_back : MethodName := ⟨RX1, "back", "()Z"⟩
def dkwX1_back_0 : List UInt8 := [42, 180, 1, 154, 153, 0, 14, 42, 180, 0, 29, 42, 180, 0, 33, 182, 1, 151, 42, 180, 1, 154, 172]
abbrev dktX1_back_0 : List UInt8 := dkwX1_back_0 ++ []
theorem dksX1_back_0 : cX1_back.data.toList.drop 0 = dktX1_back_0 := by decide +kernel
theorem dX1_back_0 : decode cX1_back 0 = .ok (.aload_n 0, 1) := dk_42 (dk_at dksX1_back_0 0 rfl rfl)
theorem dX1_back_1 : decode cX1_back 1 = .ok (.getfield 410, 3) := dk_180 1 154 (dk_at dksX1_back_0 1 rfl rfl)
theorem dX1_back_4 : decode cX1_back 4 = .ok (.ifCond .eq 14, 3) := dk_153 0 14 (dk_at dksX1_back_0 4 rfl rfl)
theorem dX1_back_7 : decode cX1_back 7 = .ok (.aload_n 0, 1) := dk_42 (dk_at dksX1_back_0 7 rfl rfl)
theorem dX1_back_8 : decode cX1_back 8 = .ok (.getfield 29, 3) := dk_180 0 29 (dk_at dksX1_back_0 8 rfl rfl)
theorem dX1_back_11 : decode cX1_back 11 = .ok (.aload_n 0, 1) := dk_42 (dk_at dksX1_back_0 11 rfl rfl)
theorem dX1_back_12 : decode cX1_back 12 = .ok (.getfield 33, 3) := dk_180 0 33 (dk_at dksX1_back_0 12 rfl rfl)
theorem dX1_back_15 : decode cX1_back 15 = .ok (.invokevirtual 407, 3) := dk_182 1 151 (dk_at dksX1_back_0 15 rfl rfl)
theorem dX1_back_18 : decode cX1_back 18 = .ok (.aload_n 0, 1) := dk_42 (dk_at dksX1_back_0 18 rfl rfl)
theorem dX1_back_19 : decode cX1_back 19 = .ok (.getfield 410, 3) := dk_180 1 154 (dk_at dksX1_back_0 19 rfl rfl)
theorem dX1_back_22 : decode cX1_back 22 = .ok (.ireturn, 1) := dk_172 (dk_at dksX1_back_0 22 rfl rfl)
abbrev cX1_count : ByteArray := prog_1_method_66_code
def yX1_count : MethodName := ⟨RX1, "count", "(I)I"⟩
def dkwX1_count_8 : List UInt8 := [42, 180, 0, 29, 180, 0, 121, 29, 50, 180, 1, 157, 96, 61, 132, 3, 1, 167, 255, 227, 28, 172, 2, 172]
abbrev dktX1_count_8 : List UInt8 := dkwX1_count_8 ++ []
def dkwX1_count_7 : List UInt8 := [180, 0, 29, 180, 1, 3, 184, 1, 15, 172, 3, 62, 29, 42, 180, 0, 29, 180, 0, 76, 162, 0, 24, 28]
abbrev dktX1_count_7 : List UInt8 := dkwX1_count_7 ++ dktX1_count_8
def dkwX1_count_6 : List UInt8 := [180, 0, 29, 180, 0, 86, 172, 42, 180, 0, 29, 180, 1, 76, 172, 42, 180, 0, 29, 180, 1, 117, 172, 42]
abbrev dktX1_count_6 : List UInt8 := dkwX1_count_6 ++ dktX1_count_7
def dkwX1_count_5 : List UInt8 := [180, 0, 29, 180, 0, 79, 172, 42, 180, 0, 29, 182, 1, 0, 172, 42, 180, 0, 29, 180, 0, 194, 172, 42]
abbrev dktX1_count_5 : List UInt8 := dkwX1_count_5 ++ dktX1_count_6
def dkwX1_count_4 : List UInt8 := [167, 0, 4, 3, 96, 61, 132, 3, 1, 167, 255, 219, 28, 172, 42, 180, 0, 29, 180, 0, 146, 172, 42]
abbrev dktX1_count_4 : List UInt8 := dkwX1_count_4 ++ dktX1_count_5
def dkwX1_count_3 : List UInt8 := [180, 0, 156, 162, 0, 32, 28, 42, 180, 0, 29, 180, 0, 159, 29, 50, 180, 0, 180, 153, 0, 7, 4]
abbrev dktX1_count_3 : List UInt8 := dkwX1_count_3 ++ dktX1_count_4
def dkwX1_count_2 : List UInt8 := [42, 180, 0, 29, 180, 0, 76, 172, 42, 180, 0, 29, 180, 0, 156, 172, 3, 62, 29, 42, 180, 0, 29]
abbrev dktX1_count_2 : List UInt8 := dkwX1_count_2 ++ dktX1_count_3
def dkwX1_count_1 : List UInt8 := [170, 0, 0, 0, 224, 0, 0, 0, 0, 0, 0, 0, 11, 0, 0, 0, 61, 0, 0, 0, 69, 0, 0, 0, 77, 0, 0, 0, 121, 0, 0, 0, 129, 0, 0, 0, 137, 0, 0, 0, 145, 0, 0, 0, 153, 0, 0, 0, 161, 0, 0, 0, 169, 0, 0, 0, 177, 0, 0, 0, 188]
abbrev dktX1_count_1 : List UInt8 := dkwX1_count_1 ++ dktX1_count_2
def dkwX1_count_0 : List UInt8 := [3, 61, 27]
abbrev dktX1_count_0 : List UInt8 := dkwX1_count_0 ++ dktX1_count_1
theorem dksX1_count_0 : cX1_count.data.toList.drop 0 = dktX1_count_0 := by decide +kernel
theorem dksX1_count_1 : cX1_count.data.toList.drop 3 = dktX1_count_1 := dk_seg dksX1_count_0 3 rfl rfl
theorem dksX1_count_2 : cX1_count.data.toList.drop 64 = dktX1_count_2 := dk_seg dksX1_count_1 61 rfl rfl
theorem dksX1_count_3 : cX1_count.data.toList.drop 87 = dktX1_count_3 := dk_seg dksX1_count_2 23 rfl rfl
theorem dksX1_count_4 : cX1_count.data.toList.drop 110 = dktX1_count_4 := dk_seg dksX1_count_3 23 rfl rfl
theorem dksX1_count_5 : cX1_count.data.toList.drop 133 = dktX1_count_5 := dk_seg dksX1_count_4 23 rfl rfl
theorem dksX1_count_6 : cX1_count.data.toList.drop 157 = dktX1_count_6 := dk_seg dksX1_count_5 24 rfl rfl
theorem dksX1_count_7 : cX1_count.data.toList.drop 181 = dktX1_count_7 := dk_seg dksX1_count_6 24 rfl rfl
theorem dksX1_count_8 : cX1_count.data.toList.drop 205 = dktX1_count_8 := dk_seg dksX1_count_7 24 rfl rfl
theorem dX1_count_0 : decode cX1_count 0 = .ok (.iconst 0, 1) := dk_3 (dk_at dksX1_count_0 0 rfl rfl)
theorem dX1_count_1 : decode cX1_count 1 = .ok (.istore_n 2, 1) := dk_61 (dk_at dksX1_count_0 1 rfl rfl)
theorem dX1_count_2 : decode cX1_count 2 = .ok (.iload_n 1, 1) := dk_27 (dk_at dksX1_count_0 2 rfl rfl)
theorem dX1_count_3 : decode cX1_count 3 = .ok (.tableswitch 224 0 11 #[61, 69, 77, 121, 129, 137, 145, 153, 161, 169, 177, 188], 61) := by decide +kernel
theorem dX1_count_64 : decode cX1_count 64 = .ok (.aload_n 0, 1) := dk_42 (dk_at dksX1_count_2 0 rfl rfl)
theorem dX1_count_65 : decode cX1_count 65 = .ok (.getfield 29, 3) := dk_180 0 29 (dk_at dksX1_count_2 1 rfl rfl)
theorem dX1_count_68 : decode cX1_count 68 = .ok (.getfield 76, 3) := dk_180 0 76 (dk_at dksX1_count_2 4 rfl rfl)
theorem dX1_count_71 : decode cX1_count 71 = .ok (.ireturn, 1) := dk_172 (dk_at dksX1_count_2 7 rfl rfl)
theorem dX1_count_72 : decode cX1_count 72 = .ok (.aload_n 0, 1) := dk_42 (dk_at dksX1_count_2 8 rfl rfl)
theorem dX1_count_73 : decode cX1_count 73 = .ok (.getfield 29, 3) := dk_180 0 29 (dk_at dksX1_count_2 9 rfl rfl)
theorem dX1_count_76 : decode cX1_count 76 = .ok (.getfield 156, 3) := dk_180 0 156 (dk_at dksX1_count_2 12 rfl rfl)
theorem dX1_count_79 : decode cX1_count 79 = .ok (.ireturn, 1) := dk_172 (dk_at dksX1_count_2 15 rfl rfl)
theorem dX1_count_80 : decode cX1_count 80 = .ok (.iconst 0, 1) := dk_3 (dk_at dksX1_count_2 16 rfl rfl)
theorem dX1_count_81 : decode cX1_count 81 = .ok (.istore_n 3, 1) := dk_62 (dk_at dksX1_count_2 17 rfl rfl)
theorem dX1_count_82 : decode cX1_count 82 = .ok (.iload_n 3, 1) := dk_29 (dk_at dksX1_count_2 18 rfl rfl)
theorem dX1_count_83 : decode cX1_count 83 = .ok (.aload_n 0, 1) := dk_42 (dk_at dksX1_count_2 19 rfl rfl)
theorem dX1_count_84 : decode cX1_count 84 = .ok (.getfield 29, 3) := dk_180 0 29 (dk_at dksX1_count_2 20 rfl rfl)
theorem dX1_count_87 : decode cX1_count 87 = .ok (.getfield 156, 3) := dk_180 0 156 (dk_at dksX1_count_3 0 rfl rfl)
theorem dX1_count_90 : decode cX1_count 90 = .ok (.if_icmp .ge 32, 3) := dk_162 0 32 (dk_at dksX1_count_3 3 rfl rfl)
theorem dX1_count_93 : decode cX1_count 93 = .ok (.iload_n 2, 1) := dk_28 (dk_at dksX1_count_3 6 rfl rfl)
theorem dX1_count_94 : decode cX1_count 94 = .ok (.aload_n 0, 1) := dk_42 (dk_at dksX1_count_3 7 rfl rfl)
theorem dX1_count_95 : decode cX1_count 95 = .ok (.getfield 29, 3) := dk_180 0 29 (dk_at dksX1_count_3 8 rfl rfl)
theorem dX1_count_98 : decode cX1_count 98 = .ok (.getfield 159, 3) := dk_180 0 159 (dk_at dksX1_count_3 11 rfl rfl)
theorem dX1_count_101 : decode cX1_count 101 = .ok (.iload_n 3, 1) := dk_29 (dk_at dksX1_count_3 14 rfl rfl)
theorem dX1_count_102 : decode cX1_count 102 = .ok (.aaload, 1) := dk_50 (dk_at dksX1_count_3 15 rfl rfl)
theorem dX1_count_103 : decode cX1_count 103 = .ok (.getfield 180, 3) := dk_180 0 180 (dk_at dksX1_count_3 16 rfl rfl)
theorem dX1_count_106 : decode cX1_count 106 = .ok (.ifCond .eq 7, 3) := dk_153 0 7 (dk_at dksX1_count_3 19 rfl rfl)
theorem dX1_count_109 : decode cX1_count 109 = .ok (.iconst 1, 1) := dk_4 (dk_at dksX1_count_3 22 rfl rfl)
theorem dX1_count_110 : decode cX1_count 110 = .ok (.goto 4, 3) := dk_167 0 4 (dk_at dksX1_count_4 0 rfl rfl)
theorem dX1_count_113 : decode cX1_count 113 = .ok (.iconst 0, 1) := dk_3 (dk_at dksX1_count_4 3 rfl rfl)
theorem dX1_count_114 : decode cX1_count 114 = .ok (.iadd, 1) := dk_96 (dk_at dksX1_count_4 4 rfl rfl)
theorem dX1_count_115 : decode cX1_count 115 = .ok (.istore_n 2, 1) := dk_61 (dk_at dksX1_count_4 5 rfl rfl)
theorem dX1_count_116 : decode cX1_count 116 = .ok (.iinc 3 1, 3) := dk_132 3 1 (dk_at dksX1_count_4 6 rfl rfl)
theorem dX1_count_119 : decode cX1_count 119 = .ok (.goto (-37), 3) := dk_167 255 219 (dk_at dksX1_count_4 9 rfl rfl)
theorem dX1_count_122 : decode cX1_count 122 = .ok (.iload_n 2, 1) := dk_28 (dk_at dksX1_count_4 12 rfl rfl)
theorem dX1_count_123 : decode cX1_count 123 = .ok (.ireturn, 1) := dk_172 (dk_at dksX1_count_4 13 rfl rfl)
theorem dX1_count_124 : decode cX1_count 124 = .ok (.aload_n 0, 1) := dk_42 (dk_at dksX1_count_4 14 rfl rfl)
theorem dX1_count_125 : decode cX1_count 125 = .ok (.getfield 29, 3) := dk_180 0 29 (dk_at dksX1_count_4 15 rfl rfl)
theorem dX1_count_128 : decode cX1_count 128 = .ok (.getfield 146, 3) := dk_180 0 146 (dk_at dksX1_count_4 18 rfl rfl)
theorem dX1_count_131 : decode cX1_count 131 = .ok (.ireturn, 1) := dk_172 (dk_at dksX1_count_4 21 rfl rfl)
theorem dX1_count_132 : decode cX1_count 132 = .ok (.aload_n 0, 1) := dk_42 (dk_at dksX1_count_4 22 rfl rfl)
theorem dX1_count_133 : decode cX1_count 133 = .ok (.getfield 29, 3) := dk_180 0 29 (dk_at dksX1_count_5 0 rfl rfl)
theorem dX1_count_136 : decode cX1_count 136 = .ok (.getfield 79, 3) := dk_180 0 79 (dk_at dksX1_count_5 3 rfl rfl)
theorem dX1_count_139 : decode cX1_count 139 = .ok (.ireturn, 1) := dk_172 (dk_at dksX1_count_5 6 rfl rfl)
theorem dX1_count_140 : decode cX1_count 140 = .ok (.aload_n 0, 1) := dk_42 (dk_at dksX1_count_5 7 rfl rfl)
theorem dX1_count_141 : decode cX1_count 141 = .ok (.getfield 29, 3) := dk_180 0 29 (dk_at dksX1_count_5 8 rfl rfl)
theorem dX1_count_144 : decode cX1_count 144 = .ok (.invokevirtual 256, 3) := dk_182 1 0 (dk_at dksX1_count_5 11 rfl rfl)
theorem dX1_count_147 : decode cX1_count 147 = .ok (.ireturn, 1) := dk_172 (dk_at dksX1_count_5 14 rfl rfl)
theorem dX1_count_148 : decode cX1_count 148 = .ok (.aload_n 0, 1) := dk_42 (dk_at dksX1_count_5 15 rfl rfl)
theorem dX1_count_149 : decode cX1_count 149 = .ok (.getfield 29, 3) := dk_180 0 29 (dk_at dksX1_count_5 16 rfl rfl)
theorem dX1_count_152 : decode cX1_count 152 = .ok (.getfield 194, 3) := dk_180 0 194 (dk_at dksX1_count_5 19 rfl rfl)
theorem dX1_count_155 : decode cX1_count 155 = .ok (.ireturn, 1) := dk_172 (dk_at dksX1_count_5 22 rfl rfl)
theorem dX1_count_156 : decode cX1_count 156 = .ok (.aload_n 0, 1) := dk_42 (dk_at dksX1_count_5 23 rfl rfl)
theorem dX1_count_157 : decode cX1_count 157 = .ok (.getfield 29, 3) := dk_180 0 29 (dk_at dksX1_count_6 0 rfl rfl)
theorem dX1_count_160 : decode cX1_count 160 = .ok (.getfield 86, 3) := dk_180 0 86 (dk_at dksX1_count_6 3 rfl rfl)
theorem dX1_count_163 : decode cX1_count 163 = .ok (.ireturn, 1) := dk_172 (dk_at dksX1_count_6 6 rfl rfl)
theorem dX1_count_164 : decode cX1_count 164 = .ok (.aload_n 0, 1) := dk_42 (dk_at dksX1_count_6 7 rfl rfl)
theorem dX1_count_165 : decode cX1_count 165 = .ok (.getfield 29, 3) := dk_180 0 29 (dk_at dksX1_count_6 8 rfl rfl)
theorem dX1_count_168 : decode cX1_count 168 = .ok (.getfield 332, 3) := dk_180 1 76 (dk_at dksX1_count_6 11 rfl rfl)
theorem dX1_count_171 : decode cX1_count 171 = .ok (.ireturn, 1) := dk_172 (dk_at dksX1_count_6 14 rfl rfl)
theorem dX1_count_172 : decode cX1_count 172 = .ok (.aload_n 0, 1) := dk_42 (dk_at dksX1_count_6 15 rfl rfl)
theorem dX1_count_173 : decode cX1_count 173 = .ok (.getfield 29, 3) := dk_180 0 29 (dk_at dksX1_count_6 16 rfl rfl)
theorem dX1_count_176 : decode cX1_count 176 = .ok (.getfield 373, 3) := dk_180 1 117 (dk_at dksX1_count_6 19 rfl rfl)
theorem dX1_count_179 : decode cX1_count 179 = .ok (.ireturn, 1) := dk_172 (dk_at dksX1_count_6 22 rfl rfl)
theorem dX1_count_180 : decode cX1_count 180 = .ok (.aload_n 0, 1) := dk_42 (dk_at dksX1_count_6 23 rfl rfl)
theorem dX1_count_181 : decode cX1_count 181 = .ok (.getfield 29, 3) := dk_180 0 29 (dk_at dksX1_count_7 0 rfl rfl)
theorem dX1_count_184 : decode cX1_count 184 = .ok (.getfield 259, 3) := dk_180 1 3 (dk_at dksX1_count_7 3 rfl rfl)
theorem dX1_count_187 : decode cX1_count 187 = .ok (.invokestatic 271, 3) := dk_184 1 15 (dk_at dksX1_count_7 6 rfl rfl)
theorem dX1_count_190 : decode cX1_count 190 = .ok (.ireturn, 1) := dk_172 (dk_at dksX1_count_7 9 rfl rfl)
theorem dX1_count_191 : decode cX1_count 191 = .ok (.iconst 0, 1) := dk_3 (dk_at dksX1_count_7 10 rfl rfl)
theorem dX1_count_192 : decode cX1_count 192 = .ok (.istore_n 3, 1) := dk_62 (dk_at dksX1_count_7 11 rfl rfl)
theorem dX1_count_193 : decode cX1_count 193 = .ok (.iload_n 3, 1) := dk_29 (dk_at dksX1_count_7 12 rfl rfl)
theorem dX1_count_194 : decode cX1_count 194 = .ok (.aload_n 0, 1) := dk_42 (dk_at dksX1_count_7 13 rfl rfl)
theorem dX1_count_195 : decode cX1_count 195 = .ok (.getfield 29, 3) := dk_180 0 29 (dk_at dksX1_count_7 14 rfl rfl)
theorem dX1_count_198 : decode cX1_count 198 = .ok (.getfield 76, 3) := dk_180 0 76 (dk_at dksX1_count_7 17 rfl rfl)
theorem dX1_count_201 : decode cX1_count 201 = .ok (.if_icmp .ge 24, 3) := dk_162 0 24 (dk_at dksX1_count_7 20 rfl rfl)
theorem dX1_count_204 : decode cX1_count 204 = .ok (.iload_n 2, 1) := dk_28 (dk_at dksX1_count_7 23 rfl rfl)
theorem dX1_count_205 : decode cX1_count 205 = .ok (.aload_n 0, 1) := dk_42 (dk_at dksX1_count_8 0 rfl rfl)
theorem dX1_count_206 : decode cX1_count 206 = .ok (.getfield 29, 3) := dk_180 0 29 (dk_at dksX1_count_8 1 rfl rfl)
theorem dX1_count_209 : decode cX1_count 209 = .ok (.getfield 121, 3) := dk_180 0 121 (dk_at dksX1_count_8 4 rfl rfl)
theorem dX1_count_212 : decode cX1_count 212 = .ok (.iload_n 3, 1) := dk_29 (dk_at dksX1_count_8 7 rfl rfl)
theorem dX1_count_213 : decode cX1_count 213 = .ok (.aaload, 1) := dk_50 (dk_at dksX1_count_8 8 rfl rfl)
theorem dX1_count_214 : decode cX1_count 214 = .ok (.getfield 413, 3) := dk_180 1 157 (dk_at dksX1_count_8 9 rfl rfl)
theorem dX1_count_217 : decode cX1_count 217 = .ok (.iadd, 1) := dk_96 (dk_at dksX1_count_8 12 rfl rfl)
theorem dX1_count_218 : decode cX1_count 218 = .ok (.istore_n 2, 1) := dk_61 (dk_at dksX1_count_8 13 rfl rfl)
theorem dX1_count_219 : decode cX1_count 219 = .ok (.iinc 3 1, 3) := dk_132 3 1 (dk_at dksX1_count_8 14 rfl rfl)
theorem dX1_count_222 : decode cX1_count 222 = .ok (.goto (-29), 3) := dk_167 255 227 (dk_at dksX1_count_8 17 rfl rfl)
theorem dX1_count_225 : decode cX1_count 225 = .ok (.iload_n 2, 1) := dk_28 (dk_at dksX1_count_8 20 rfl rfl)
theorem dX1_count_226 : decode cX1_count 226 = .ok (.ireturn, 1) := dk_172 (dk_at dksX1_count_8 21 rfl rfl)
theorem dX1_count_227 : decode cX1_count 227 = .ok (.iconst (-1), 1) := dk_2 (dk_at dksX1_count_8 22 rfl rfl)
theorem dX1_count_228 : decode cX1_count 228 = .ok (.ireturn, 1) := dk_172 (dk_at dksX1_count_8 23 rfl rfl)
abbrev cX1_ground : ByteArray := prog_1_method_18_code
def yX1_ground : MethodName := ⟨RX1, "ground", "(III)V"⟩
def dkwX1_ground_2 : List UInt8 := [21, 4, 29, 79, 132, 4, 1, 167, 255, 224, 177]
abbrev dktX1_ground_2 : List UInt8 := dkwX1_ground_2 ++ []
def dkwX1_ground_1 : List UInt8 := [17, 1, 0, 162, 0, 30, 21, 4, 27, 28, 184, 0, 106, 153, 0, 14, 42, 180, 0, 29, 180, 0, 107]
abbrev dktX1_ground_1 : List UInt8 := dkwX1_ground_1 ++ dktX1_ground_2
def dkwX1_ground_0 : List UInt8 := [27, 184, 0, 100, 28, 184, 0, 100, 29, 3, 16, 9, 184, 0, 68, 184, 0, 103, 3, 54, 4, 21, 4]
abbrev dktX1_ground_0 : List UInt8 := dkwX1_ground_0 ++ dktX1_ground_1
theorem dksX1_ground_0 : cX1_ground.data.toList.drop 0 = dktX1_ground_0 := by decide +kernel
theorem dksX1_ground_1 : cX1_ground.data.toList.drop 23 = dktX1_ground_1 := dk_seg dksX1_ground_0 23 rfl rfl
theorem dksX1_ground_2 : cX1_ground.data.toList.drop 46 = dktX1_ground_2 := dk_seg dksX1_ground_1 23 rfl rfl
theorem dX1_ground_0 : decode cX1_ground 0 = .ok (.iload_n 1, 1) := dk_27 (dk_at dksX1_ground_0 0 rfl rfl)
theorem dX1_ground_1 : decode cX1_ground 1 = .ok (.invokestatic 100, 3) := dk_184 0 100 (dk_at dksX1_ground_0 1 rfl rfl)
theorem dX1_ground_4 : decode cX1_ground 4 = .ok (.iload_n 2, 1) := dk_28 (dk_at dksX1_ground_0 4 rfl rfl)
theorem dX1_ground_5 : decode cX1_ground 5 = .ok (.invokestatic 100, 3) := dk_184 0 100 (dk_at dksX1_ground_0 5 rfl rfl)
theorem dX1_ground_8 : decode cX1_ground 8 = .ok (.iload_n 3, 1) := dk_29 (dk_at dksX1_ground_0 8 rfl rfl)
theorem dX1_ground_9 : decode cX1_ground 9 = .ok (.iconst 0, 1) := dk_3 (dk_at dksX1_ground_0 9 rfl rfl)
theorem dX1_ground_10 : decode cX1_ground 10 = .ok (.bipush 9, 2) := dk_16 9 (dk_at dksX1_ground_0 10 rfl rfl)
theorem dX1_ground_12 : decode cX1_ground 12 = .ok (.invokestatic 68, 3) := dk_184 0 68 (dk_at dksX1_ground_0 12 rfl rfl)
theorem dX1_ground_15 : decode cX1_ground 15 = .ok (.invokestatic 103, 3) := dk_184 0 103 (dk_at dksX1_ground_0 15 rfl rfl)
theorem dX1_ground_18 : decode cX1_ground 18 = .ok (.iconst 0, 1) := dk_3 (dk_at dksX1_ground_0 18 rfl rfl)
theorem dX1_ground_19 : decode cX1_ground 19 = .ok (.istore 4, 2) := dk_54 4 (dk_at dksX1_ground_0 19 rfl rfl)
theorem dX1_ground_21 : decode cX1_ground 21 = .ok (.iload 4, 2) := dk_21 4 (dk_at dksX1_ground_0 21 rfl rfl)
theorem dX1_ground_23 : decode cX1_ground 23 = .ok (.sipush 256, 3) := dk_17 1 0 (dk_at dksX1_ground_1 0 rfl rfl)
theorem dX1_ground_26 : decode cX1_ground 26 = .ok (.if_icmp .ge 30, 3) := dk_162 0 30 (dk_at dksX1_ground_1 3 rfl rfl)
theorem dX1_ground_29 : decode cX1_ground 29 = .ok (.iload 4, 2) := dk_21 4 (dk_at dksX1_ground_1 6 rfl rfl)
theorem dX1_ground_31 : decode cX1_ground 31 = .ok (.iload_n 1, 1) := dk_27 (dk_at dksX1_ground_1 8 rfl rfl)
theorem dX1_ground_32 : decode cX1_ground 32 = .ok (.iload_n 2, 1) := dk_28 (dk_at dksX1_ground_1 9 rfl rfl)
theorem dX1_ground_33 : decode cX1_ground 33 = .ok (.invokestatic 106, 3) := dk_184 0 106 (dk_at dksX1_ground_1 10 rfl rfl)
theorem dX1_ground_36 : decode cX1_ground 36 = .ok (.ifCond .eq 14, 3) := dk_153 0 14 (dk_at dksX1_ground_1 13 rfl rfl)
theorem dX1_ground_39 : decode cX1_ground 39 = .ok (.aload_n 0, 1) := dk_42 (dk_at dksX1_ground_1 16 rfl rfl)
theorem dX1_ground_40 : decode cX1_ground 40 = .ok (.getfield 29, 3) := dk_180 0 29 (dk_at dksX1_ground_1 17 rfl rfl)
theorem dX1_ground_43 : decode cX1_ground 43 = .ok (.getfield 107, 3) := dk_180 0 107 (dk_at dksX1_ground_1 20 rfl rfl)
theorem dX1_ground_46 : decode cX1_ground 46 = .ok (.iload 4, 2) := dk_21 4 (dk_at dksX1_ground_2 0 rfl rfl)
theorem dX1_ground_48 : decode cX1_ground 48 = .ok (.iload_n 3, 1) := dk_29 (dk_at dksX1_ground_2 2 rfl rfl)
theorem dX1_ground_49 : decode cX1_ground 49 = .ok (.iastore, 1) := dk_79 (dk_at dksX1_ground_2 3 rfl rfl)
theorem dX1_ground_50 : decode cX1_ground 50 = .ok (.iinc 4 1, 3) := dk_132 4 1 (dk_at dksX1_ground_2 4 rfl rfl)
theorem dX1_ground_53 : decode cX1_ground 53 = .ok (.goto (-32), 3) := dk_167 255 224 (dk_at dksX1_ground_2 7 rfl rfl)
theorem dX1_ground_56 : decode cX1_ground 56 = .ok (.return_, 1) := dk_177 (dk_at dksX1_ground_2 10 rfl rfl)
abbrev cX1_isCell : ByteArray := prog_1_method_8_code
def yX1_isCell : MethodName := ⟨RX1, "isCell", "(I)V"⟩
def dkwX1_isCell_0 : List UInt8 := [26, 3, 17, 0, 255, 184, 0, 68, 184, 0, 72, 177]
abbrev dktX1_isCell_0 : List UInt8 := dkwX1_isCell_0 ++ []
theorem dksX1_isCell_0 : cX1_isCell.data.toList.drop 0 = dktX1_isCell_0 := by decide +kernel
theorem dX1_isCell_0 : decode cX1_isCell 0 = .ok (.iload_n 0, 1) := dk_26 (dk_at dksX1_isCell_0 0 rfl rfl)
theorem dX1_isCell_1 : decode cX1_isCell 1 = .ok (.iconst 0, 1) := dk_3 (dk_at dksX1_isCell_0 1 rfl rfl)
theorem dX1_isCell_2 : decode cX1_isCell 2 = .ok (.sipush 255, 3) := dk_17 0 255 (dk_at dksX1_isCell_0 2 rfl rfl)
theorem dX1_isCell_5 : decode cX1_isCell 5 = .ok (.invokestatic 68, 3) := dk_184 0 68 (dk_at dksX1_isCell_0 5 rfl rfl)
theorem dX1_isCell_8 : decode cX1_isCell 8 = .ok (.invokestatic 72, 3) := dk_184 0 72 (dk_at dksX1_isCell_0 8 rfl rfl)
theorem dX1_isCell_11 : decode cX1_isCell 11 = .ok (.return_, 1) := dk_177 (dk_at dksX1_isCell_0 11 rfl rfl)
abbrev cX1_mustBe : ByteArray := prog_1_method_5_code
def yX1_mustBe : MethodName := ⟨RX1, "mustBe", "(Z)V"⟩
def dkwX1_mustBe_0 : List UInt8 := [26, 154, 0, 11, 187, 0, 62, 89, 183, 0, 64, 191, 177]
abbrev dktX1_mustBe_0 : List UInt8 := dkwX1_mustBe_0 ++ []
theorem dksX1_mustBe_0 : cX1_mustBe.data.toList.drop 0 = dktX1_mustBe_0 := by decide +kernel
theorem dX1_mustBe_0 : decode cX1_mustBe 0 = .ok (.iload_n 0, 1) := dk_26 (dk_at dksX1_mustBe_0 0 rfl rfl)
theorem dX1_mustBe_1 : decode cX1_mustBe 1 = .ok (.ifCond .ne 11, 3) := dk_154 0 11 (dk_at dksX1_mustBe_0 1 rfl rfl)
theorem dX1_mustBe_4 : decode cX1_mustBe 4 = .ok (.new 62, 3) := dk_187 0 62 (dk_at dksX1_mustBe_0 4 rfl rfl)
theorem dX1_mustBe_7 : decode cX1_mustBe 7 = .ok (.dup, 1) := dk_89 (dk_at dksX1_mustBe_0 7 rfl rfl)
theorem dX1_mustBe_8 : decode cX1_mustBe 8 = .ok (.invokespecial 64, 3) := dk_183 0 64 (dk_at dksX1_mustBe_0 8 rfl rfl)
theorem dX1_mustBe_11 : decode cX1_mustBe 11 = .ok (.athrow, 1) := dk_191 (dk_at dksX1_mustBe_0 11 rfl rfl)
theorem dX1_mustBe_12 : decode cX1_mustBe 12 = .ok (.return_, 1) := dk_177 (dk_at dksX1_mustBe_0 12 rfl rfl)
abbrev cX1_must : ByteArray := prog_1_method_3_code
def yX1_must : MethodName := ⟨RX1, "must", "(Z)V"⟩
def dkwX1_must_0 : List UInt8 := [26, 154, 0, 11, 187, 0, 56, 89, 183, 0, 58, 191, 177]
abbrev dktX1_must_0 : List UInt8 := dkwX1_must_0 ++ []
theorem dksX1_must_0 : cX1_must.data.toList.drop 0 = dktX1_must_0 := by decide +kernel
theorem dX1_must_0 : decode cX1_must 0 = .ok (.iload_n 0, 1) := dk_26 (dk_at dksX1_must_0 0 rfl rfl)
theorem dX1_must_1 : decode cX1_must 1 = .ok (.ifCond .ne 11, 3) := dk_154 0 11 (dk_at dksX1_must_0 1 rfl rfl)
theorem dX1_must_4 : decode cX1_must 4 = .ok (.new 56, 3) := dk_187 0 56 (dk_at dksX1_must_0 4 rfl rfl)
theorem dX1_must_7 : decode cX1_must 7 = .ok (.dup, 1) := dk_89 (dk_at dksX1_must_0 7 rfl rfl)
theorem dX1_must_8 : decode cX1_must 8 = .ok (.invokespecial 58, 3) := dk_183 0 58 (dk_at dksX1_must_0 8 rfl rfl)
theorem dX1_must_11 : decode cX1_must 11 = .ok (.athrow, 1) := dk_191 (dk_at dksX1_must_0 11 rfl rfl)
theorem dX1_must_12 : decode cX1_must 12 = .ok (.return_, 1) := dk_177 (dk_at dksX1_must_0 12 rfl rfl)
abbrev cX1_height : ByteArray := prog_1_method_19_code
def yX1_height : MethodName := ⟨RX1, "height", "(I)I"⟩
def dkwX1_height_0 : List UInt8 := [27, 184, 0, 100, 42, 180, 0, 29, 180, 0, 107, 27, 46, 172]
abbrev dktX1_height_0 : List UInt8 := dkwX1_height_0 ++ []
theorem dksX1_height_0 : cX1_height.data.toList.drop 0 = dktX1_height_0 := by decide +kernel
theorem dX1_height_0 : decode cX1_height 0 = .ok (.iload_n 1, 1) := dk_27 (dk_at dksX1_height_0 0 rfl rfl)
theorem dX1_height_1 : decode cX1_height 1 = .ok (.invokestatic 100, 3) := dk_184 0 100 (dk_at dksX1_height_0 1 rfl rfl)
theorem dX1_height_4 : decode cX1_height 4 = .ok (.aload_n 0, 1) := dk_42 (dk_at dksX1_height_0 4 rfl rfl)
theorem dX1_height_5 : decode cX1_height 5 = .ok (.getfield 29, 3) := dk_180 0 29 (dk_at dksX1_height_0 5 rfl rfl)
theorem dX1_height_8 : decode cX1_height 8 = .ok (.getfield 107, 3) := dk_180 0 107 (dk_at dksX1_height_0 8 rfl rfl)
theorem dX1_height_11 : decode cX1_height 11 = .ok (.iload_n 1, 1) := dk_27 (dk_at dksX1_height_0 11 rfl rfl)
theorem dX1_height_12 : decode cX1_height 12 = .ok (.iaload, 1) := dk_46 (dk_at dksX1_height_0 12 rfl rfl)
theorem dX1_height_13 : decode cX1_height 13 = .ok (.ireturn, 1) := dk_172 (dk_at dksX1_height_0 13 rfl rfl)
abbrev cX1_sees : ByteArray := prog_1_method_20_code
def yX1_sees : MethodName := ⟨RX1, "sees", "(II)Z"⟩
def dkwX1_sees_0 : List UInt8 := [27, 184, 0, 100, 28, 184, 0, 100, 42, 180, 0, 29, 27, 28, 182, 0, 110, 172]
abbrev dktX1_sees_0 : List UInt8 := dkwX1_sees_0 ++ []
theorem dksX1_sees_0 : cX1_sees.data.toList.drop 0 = dktX1_sees_0 := by decide +kernel
theorem dX1_sees_0 : decode cX1_sees 0 = .ok (.iload_n 1, 1) := dk_27 (dk_at dksX1_sees_0 0 rfl rfl)
theorem dX1_sees_1 : decode cX1_sees 1 = .ok (.invokestatic 100, 3) := dk_184 0 100 (dk_at dksX1_sees_0 1 rfl rfl)
theorem dX1_sees_4 : decode cX1_sees 4 = .ok (.iload_n 2, 1) := dk_28 (dk_at dksX1_sees_0 4 rfl rfl)
theorem dX1_sees_5 : decode cX1_sees 5 = .ok (.invokestatic 100, 3) := dk_184 0 100 (dk_at dksX1_sees_0 5 rfl rfl)
theorem dX1_sees_8 : decode cX1_sees 8 = .ok (.aload_n 0, 1) := dk_42 (dk_at dksX1_sees_0 8 rfl rfl)
theorem dX1_sees_9 : decode cX1_sees 9 = .ok (.getfield 29, 3) := dk_180 0 29 (dk_at dksX1_sees_0 9 rfl rfl)
theorem dX1_sees_12 : decode cX1_sees 12 = .ok (.iload_n 1, 1) := dk_27 (dk_at dksX1_sees_0 12 rfl rfl)
theorem dX1_sees_13 : decode cX1_sees 13 = .ok (.iload_n 2, 1) := dk_28 (dk_at dksX1_sees_0 13 rfl rfl)
theorem dX1_sees_14 : decode cX1_sees 14 = .ok (.invokevirtual 110, 3) := dk_182 0 110 (dk_at dksX1_sees_0 14 rfl rfl)
theorem dX1_sees_17 : decode cX1_sees 17 = .ok (.ireturn, 1) := dk_172 (dk_at dksX1_sees_0 17 rfl rfl)
abbrev cX1_gun : ByteArray := prog_1_method_22_code
def yX1_gun : MethodName := ⟨RX1, "gun", "(IIII)I"⟩
def dkwX1_gun_4 : List UInt8 := [180, 0, 29, 89, 180, 0, 76, 4, 96, 181, 0, 76, 42, 180, 0, 29, 180, 0, 76, 4, 100, 172]
abbrev dktX1_gun_4 : List UInt8 := dkwX1_gun_4 ++ []
def dkwX1_gun_3 : List UInt8 := [180, 0, 121, 42, 180, 0, 29, 180, 0, 76, 187, 0, 125, 89, 27, 28, 29, 21, 4, 183, 0, 127, 83, 42]
abbrev dktX1_gun_3 : List UInt8 := dkwX1_gun_3 ++ dktX1_gun_4
def dkwX1_gun_2 : List UInt8 := [180, 0, 29, 180, 0, 76, 16, 8, 162, 0, 7, 4, 167, 0, 4, 3, 184, 0, 118, 42, 180, 0, 29]
abbrev dktX1_gun_2 : List UInt8 := dkwX1_gun_2 ++ dktX1_gun_3
def dkwX1_gun_1 : List UInt8 := [153, 0, 18, 21, 4, 3, 16, 40, 184, 0, 68, 153, 0, 7, 4, 167, 0, 4, 3, 184, 0, 103, 42]
abbrev dktX1_gun_1 : List UInt8 := dkwX1_gun_1 ++ dktX1_gun_2
def dkwX1_gun_0 : List UInt8 := [27, 3, 4, 184, 0, 68, 153, 0, 35, 28, 3, 16, 15, 184, 0, 68, 153, 0, 25, 29, 184, 0, 114]
abbrev dktX1_gun_0 : List UInt8 := dkwX1_gun_0 ++ dktX1_gun_1
theorem dksX1_gun_0 : cX1_gun.data.toList.drop 0 = dktX1_gun_0 := by decide +kernel
theorem dksX1_gun_1 : cX1_gun.data.toList.drop 23 = dktX1_gun_1 := dk_seg dksX1_gun_0 23 rfl rfl
theorem dksX1_gun_2 : cX1_gun.data.toList.drop 46 = dktX1_gun_2 := dk_seg dksX1_gun_1 23 rfl rfl
theorem dksX1_gun_3 : cX1_gun.data.toList.drop 69 = dktX1_gun_3 := dk_seg dksX1_gun_2 23 rfl rfl
theorem dksX1_gun_4 : cX1_gun.data.toList.drop 93 = dktX1_gun_4 := dk_seg dksX1_gun_3 24 rfl rfl
theorem dX1_gun_0 : decode cX1_gun 0 = .ok (.iload_n 1, 1) := dk_27 (dk_at dksX1_gun_0 0 rfl rfl)
theorem dX1_gun_1 : decode cX1_gun 1 = .ok (.iconst 0, 1) := dk_3 (dk_at dksX1_gun_0 1 rfl rfl)
theorem dX1_gun_2 : decode cX1_gun 2 = .ok (.iconst 1, 1) := dk_4 (dk_at dksX1_gun_0 2 rfl rfl)
theorem dX1_gun_3 : decode cX1_gun 3 = .ok (.invokestatic 68, 3) := dk_184 0 68 (dk_at dksX1_gun_0 3 rfl rfl)
theorem dX1_gun_6 : decode cX1_gun 6 = .ok (.ifCond .eq 35, 3) := dk_153 0 35 (dk_at dksX1_gun_0 6 rfl rfl)
theorem dX1_gun_9 : decode cX1_gun 9 = .ok (.iload_n 2, 1) := dk_28 (dk_at dksX1_gun_0 9 rfl rfl)
theorem dX1_gun_10 : decode cX1_gun 10 = .ok (.iconst 0, 1) := dk_3 (dk_at dksX1_gun_0 10 rfl rfl)
theorem dX1_gun_11 : decode cX1_gun 11 = .ok (.bipush 15, 2) := dk_16 15 (dk_at dksX1_gun_0 11 rfl rfl)
theorem dX1_gun_13 : decode cX1_gun 13 = .ok (.invokestatic 68, 3) := dk_184 0 68 (dk_at dksX1_gun_0 13 rfl rfl)
theorem dX1_gun_16 : decode cX1_gun 16 = .ok (.ifCond .eq 25, 3) := dk_153 0 25 (dk_at dksX1_gun_0 16 rfl rfl)
theorem dX1_gun_19 : decode cX1_gun 19 = .ok (.iload_n 3, 1) := dk_29 (dk_at dksX1_gun_0 19 rfl rfl)
theorem dX1_gun_20 : decode cX1_gun 20 = .ok (.invokestatic 114, 3) := dk_184 0 114 (dk_at dksX1_gun_0 20 rfl rfl)
theorem dX1_gun_23 : decode cX1_gun 23 = .ok (.ifCond .eq 18, 3) := dk_153 0 18 (dk_at dksX1_gun_1 0 rfl rfl)
theorem dX1_gun_26 : decode cX1_gun 26 = .ok (.iload 4, 2) := dk_21 4 (dk_at dksX1_gun_1 3 rfl rfl)
theorem dX1_gun_28 : decode cX1_gun 28 = .ok (.iconst 0, 1) := dk_3 (dk_at dksX1_gun_1 5 rfl rfl)
theorem dX1_gun_29 : decode cX1_gun 29 = .ok (.bipush 40, 2) := dk_16 40 (dk_at dksX1_gun_1 6 rfl rfl)
theorem dX1_gun_31 : decode cX1_gun 31 = .ok (.invokestatic 68, 3) := dk_184 0 68 (dk_at dksX1_gun_1 8 rfl rfl)
theorem dX1_gun_34 : decode cX1_gun 34 = .ok (.ifCond .eq 7, 3) := dk_153 0 7 (dk_at dksX1_gun_1 11 rfl rfl)
theorem dX1_gun_37 : decode cX1_gun 37 = .ok (.iconst 1, 1) := dk_4 (dk_at dksX1_gun_1 14 rfl rfl)
theorem dX1_gun_38 : decode cX1_gun 38 = .ok (.goto 4, 3) := dk_167 0 4 (dk_at dksX1_gun_1 15 rfl rfl)
theorem dX1_gun_41 : decode cX1_gun 41 = .ok (.iconst 0, 1) := dk_3 (dk_at dksX1_gun_1 18 rfl rfl)
theorem dX1_gun_42 : decode cX1_gun 42 = .ok (.invokestatic 103, 3) := dk_184 0 103 (dk_at dksX1_gun_1 19 rfl rfl)
theorem dX1_gun_45 : decode cX1_gun 45 = .ok (.aload_n 0, 1) := dk_42 (dk_at dksX1_gun_1 22 rfl rfl)
theorem dX1_gun_46 : decode cX1_gun 46 = .ok (.getfield 29, 3) := dk_180 0 29 (dk_at dksX1_gun_2 0 rfl rfl)
theorem dX1_gun_49 : decode cX1_gun 49 = .ok (.getfield 76, 3) := dk_180 0 76 (dk_at dksX1_gun_2 3 rfl rfl)
theorem dX1_gun_52 : decode cX1_gun 52 = .ok (.bipush 8, 2) := dk_16 8 (dk_at dksX1_gun_2 6 rfl rfl)
theorem dX1_gun_54 : decode cX1_gun 54 = .ok (.if_icmp .ge 7, 3) := dk_162 0 7 (dk_at dksX1_gun_2 8 rfl rfl)
theorem dX1_gun_57 : decode cX1_gun 57 = .ok (.iconst 1, 1) := dk_4 (dk_at dksX1_gun_2 11 rfl rfl)
theorem dX1_gun_58 : decode cX1_gun 58 = .ok (.goto 4, 3) := dk_167 0 4 (dk_at dksX1_gun_2 12 rfl rfl)
theorem dX1_gun_61 : decode cX1_gun 61 = .ok (.iconst 0, 1) := dk_3 (dk_at dksX1_gun_2 15 rfl rfl)
theorem dX1_gun_62 : decode cX1_gun 62 = .ok (.invokestatic 118, 3) := dk_184 0 118 (dk_at dksX1_gun_2 16 rfl rfl)
theorem dX1_gun_65 : decode cX1_gun 65 = .ok (.aload_n 0, 1) := dk_42 (dk_at dksX1_gun_2 19 rfl rfl)
theorem dX1_gun_66 : decode cX1_gun 66 = .ok (.getfield 29, 3) := dk_180 0 29 (dk_at dksX1_gun_2 20 rfl rfl)
theorem dX1_gun_69 : decode cX1_gun 69 = .ok (.getfield 121, 3) := dk_180 0 121 (dk_at dksX1_gun_3 0 rfl rfl)
theorem dX1_gun_72 : decode cX1_gun 72 = .ok (.aload_n 0, 1) := dk_42 (dk_at dksX1_gun_3 3 rfl rfl)
theorem dX1_gun_73 : decode cX1_gun 73 = .ok (.getfield 29, 3) := dk_180 0 29 (dk_at dksX1_gun_3 4 rfl rfl)
theorem dX1_gun_76 : decode cX1_gun 76 = .ok (.getfield 76, 3) := dk_180 0 76 (dk_at dksX1_gun_3 7 rfl rfl)
theorem dX1_gun_79 : decode cX1_gun 79 = .ok (.new 125, 3) := dk_187 0 125 (dk_at dksX1_gun_3 10 rfl rfl)
theorem dX1_gun_82 : decode cX1_gun 82 = .ok (.dup, 1) := dk_89 (dk_at dksX1_gun_3 13 rfl rfl)
theorem dX1_gun_83 : decode cX1_gun 83 = .ok (.iload_n 1, 1) := dk_27 (dk_at dksX1_gun_3 14 rfl rfl)
theorem dX1_gun_84 : decode cX1_gun 84 = .ok (.iload_n 2, 1) := dk_28 (dk_at dksX1_gun_3 15 rfl rfl)
theorem dX1_gun_85 : decode cX1_gun 85 = .ok (.iload_n 3, 1) := dk_29 (dk_at dksX1_gun_3 16 rfl rfl)
theorem dX1_gun_86 : decode cX1_gun 86 = .ok (.iload 4, 2) := dk_21 4 (dk_at dksX1_gun_3 17 rfl rfl)
theorem dX1_gun_88 : decode cX1_gun 88 = .ok (.invokespecial 127, 3) := dk_183 0 127 (dk_at dksX1_gun_3 19 rfl rfl)
theorem dX1_gun_91 : decode cX1_gun 91 = .ok (.aastore, 1) := dk_83 (dk_at dksX1_gun_3 22 rfl rfl)
theorem dX1_gun_92 : decode cX1_gun 92 = .ok (.aload_n 0, 1) := dk_42 (dk_at dksX1_gun_3 23 rfl rfl)
theorem dX1_gun_93 : decode cX1_gun 93 = .ok (.getfield 29, 3) := dk_180 0 29 (dk_at dksX1_gun_4 0 rfl rfl)
theorem dX1_gun_96 : decode cX1_gun 96 = .ok (.dup, 1) := dk_89 (dk_at dksX1_gun_4 3 rfl rfl)
theorem dX1_gun_97 : decode cX1_gun 97 = .ok (.getfield 76, 3) := dk_180 0 76 (dk_at dksX1_gun_4 4 rfl rfl)
theorem dX1_gun_100 : decode cX1_gun 100 = .ok (.iconst 1, 1) := dk_4 (dk_at dksX1_gun_4 7 rfl rfl)
theorem dX1_gun_101 : decode cX1_gun 101 = .ok (.iadd, 1) := dk_96 (dk_at dksX1_gun_4 8 rfl rfl)
theorem dX1_gun_102 : decode cX1_gun 102 = .ok (.putfield 76, 3) := dk_181 0 76 (dk_at dksX1_gun_4 9 rfl rfl)
theorem dX1_gun_105 : decode cX1_gun 105 = .ok (.aload_n 0, 1) := dk_42 (dk_at dksX1_gun_4 12 rfl rfl)
theorem dX1_gun_106 : decode cX1_gun 106 = .ok (.getfield 29, 3) := dk_180 0 29 (dk_at dksX1_gun_4 13 rfl rfl)
theorem dX1_gun_109 : decode cX1_gun 109 = .ok (.getfield 76, 3) := dk_180 0 76 (dk_at dksX1_gun_4 16 rfl rfl)
theorem dX1_gun_112 : decode cX1_gun 112 = .ok (.iconst 1, 1) := dk_4 (dk_at dksX1_gun_4 19 rfl rfl)
theorem dX1_gun_113 : decode cX1_gun 113 = .ok (.isub, 1) := dk_100 (dk_at dksX1_gun_4 20 rfl rfl)
theorem dX1_gun_114 : decode cX1_gun 114 = .ok (.ireturn, 1) := dk_172 (dk_at dksX1_gun_4 21 rfl rfl)
abbrev cX1_isYear : ByteArray := prog_1_method_21_code
def yX1_isYear : MethodName := ⟨RX1, "isYear", "(I)Z"⟩
def dkwX1_isYear_0 : List UInt8 := [26, 17, 7, 8, 17, 7, 207, 184, 0, 68, 172]
abbrev dktX1_isYear_0 : List UInt8 := dkwX1_isYear_0 ++ []
theorem dksX1_isYear_0 : cX1_isYear.data.toList.drop 0 = dktX1_isYear_0 := by decide +kernel
theorem dX1_isYear_0 : decode cX1_isYear 0 = .ok (.iload_n 0, 1) := dk_26 (dk_at dksX1_isYear_0 0 rfl rfl)
theorem dX1_isYear_1 : decode cX1_isYear 1 = .ok (.sipush 1800, 3) := dk_17 7 8 (dk_at dksX1_isYear_0 1 rfl rfl)
theorem dX1_isYear_4 : decode cX1_isYear 4 = .ok (.sipush 1999, 3) := dk_17 7 207 (dk_at dksX1_isYear_0 4 rfl rfl)
theorem dX1_isYear_7 : decode cX1_isYear 7 = .ok (.invokestatic 68, 3) := dk_184 0 68 (dk_at dksX1_isYear_0 7 rfl rfl)
theorem dX1_isYear_10 : decode cX1_isYear 10 = .ok (.ireturn, 1) := dk_172 (dk_at dksX1_isYear_0 10 rfl rfl)
abbrev cX1_mayBe : ByteArray := prog_1_method_4_code
def yX1_mayBe : MethodName := ⟨RX1, "mayBe", "(Z)V"⟩
def dkwX1_mayBe_0 : List UInt8 := [26, 154, 0, 11, 187, 0, 59, 89, 183, 0, 61, 191, 177]
abbrev dktX1_mayBe_0 : List UInt8 := dkwX1_mayBe_0 ++ []
theorem dksX1_mayBe_0 : cX1_mayBe.data.toList.drop 0 = dktX1_mayBe_0 := by decide +kernel
theorem dX1_mayBe_0 : decode cX1_mayBe 0 = .ok (.iload_n 0, 1) := dk_26 (dk_at dksX1_mayBe_0 0 rfl rfl)
theorem dX1_mayBe_1 : decode cX1_mayBe 1 = .ok (.ifCond .ne 11, 3) := dk_154 0 11 (dk_at dksX1_mayBe_0 1 rfl rfl)
theorem dX1_mayBe_4 : decode cX1_mayBe 4 = .ok (.new 59, 3) := dk_187 0 59 (dk_at dksX1_mayBe_0 4 rfl rfl)
theorem dX1_mayBe_7 : decode cX1_mayBe 7 = .ok (.dup, 1) := dk_89 (dk_at dksX1_mayBe_0 7 rfl rfl)
theorem dX1_mayBe_8 : decode cX1_mayBe 8 = .ok (.invokespecial 61, 3) := dk_183 0 61 (dk_at dksX1_mayBe_0 8 rfl rfl)
theorem dX1_mayBe_11 : decode cX1_mayBe 11 = .ok (.athrow, 1) := dk_191 (dk_at dksX1_mayBe_0 11 rfl rfl)
theorem dX1_mayBe_12 : decode cX1_mayBe 12 = .ok (.return_, 1) := dk_177 (dk_at dksX1_mayBe_0 12 rfl rfl)
abbrev cX1_day : ByteArray := prog_1_method_23_code
def yX1_day : MethodName := ⟨RX1, "day", "(I)V"⟩
def dkwX1_day_0 : List UInt8 := [27, 184, 0, 114, 184, 0, 103, 42, 180, 0, 29, 27, 181, 0, 130, 177]
abbrev dktX1_day_0 : List UInt8 := dkwX1_day_0 ++ []
theorem dksX1_day_0 : cX1_day.data.toList.drop 0 = dktX1_day_0 := by decide +kernel
theorem dX1_day_0 : decode cX1_day 0 = .ok (.iload_n 1, 1) := dk_27 (dk_at dksX1_day_0 0 rfl rfl)
theorem dX1_day_1 : decode cX1_day 1 = .ok (.invokestatic 114, 3) := dk_184 0 114 (dk_at dksX1_day_0 1 rfl rfl)
theorem dX1_day_4 : decode cX1_day 4 = .ok (.invokestatic 103, 3) := dk_184 0 103 (dk_at dksX1_day_0 4 rfl rfl)
theorem dX1_day_7 : decode cX1_day 7 = .ok (.aload_n 0, 1) := dk_42 (dk_at dksX1_day_0 7 rfl rfl)
theorem dX1_day_8 : decode cX1_day 8 = .ok (.getfield 29, 3) := dk_180 0 29 (dk_at dksX1_day_0 8 rfl rfl)
theorem dX1_day_11 : decode cX1_day 11 = .ok (.iload_n 1, 1) := dk_27 (dk_at dksX1_day_0 11 rfl rfl)
theorem dX1_day_12 : decode cX1_day 12 = .ok (.putfield 130, 3) := dk_181 0 130 (dk_at dksX1_day_0 12 rfl rfl)
theorem dX1_day_15 : decode cX1_day 15 = .ok (.return_, 1) := dk_177 (dk_at dksX1_day_0 15 rfl rfl)
abbrev cX1_law : ByteArray := prog_1_method_24_code
def yX1_law : MethodName := ⟨RX1, "law", "()I"⟩
def dkwX1_law_4 : List UInt8 := [180, 0, 146, 4, 100, 172]
abbrev dktX1_law_4 : List UInt8 := dkwX1_law_4 ++ []
def dkwX1_law_3 : List UInt8 := [180, 0, 146, 44, 83, 42, 180, 0, 29, 89, 180, 0, 146, 4, 96, 181, 0, 146, 42, 180, 0, 29]
abbrev dktX1_law_3 : List UInt8 := dkwX1_law_3 ++ dktX1_law_4
def dkwX1_law_2 : List UInt8 := [162, 0, 7, 4, 167, 0, 4, 3, 184, 0, 118, 42, 180, 0, 29, 180, 0, 149, 42, 180, 0, 29]
abbrev dktX1_law_2 : List UInt8 := dkwX1_law_2 ++ dktX1_law_3
def dkwX1_law_1 : List UInt8 := [45, 180, 0, 143, 181, 0, 52, 187, 0, 56, 89, 183, 0, 58, 191, 42, 180, 0, 29, 180, 0, 146, 7]
abbrev dktX1_law_1 : List UInt8 := dkwX1_law_1 ++ dktX1_law_2
def dkwX1_law_0 : List UInt8 := [42, 182, 0, 133, 60, 42, 2, 181, 0, 52, 42, 180, 0, 22, 27, 182, 0, 137, 77, 167, 0, 20, 78, 42]
abbrev dktX1_law_0 : List UInt8 := dkwX1_law_0 ++ dktX1_law_1
theorem dksX1_law_0 : cX1_law.data.toList.drop 0 = dktX1_law_0 := by decide +kernel
theorem dksX1_law_1 : cX1_law.data.toList.drop 24 = dktX1_law_1 := dk_seg dksX1_law_0 24 rfl rfl
theorem dksX1_law_2 : cX1_law.data.toList.drop 47 = dktX1_law_2 := dk_seg dksX1_law_1 23 rfl rfl
theorem dksX1_law_3 : cX1_law.data.toList.drop 69 = dktX1_law_3 := dk_seg dksX1_law_2 22 rfl rfl
theorem dksX1_law_4 : cX1_law.data.toList.drop 91 = dktX1_law_4 := dk_seg dksX1_law_3 22 rfl rfl
theorem dX1_law_0 : decode cX1_law 0 = .ok (.aload_n 0, 1) := dk_42 (dk_at dksX1_law_0 0 rfl rfl)
theorem dX1_law_1 : decode cX1_law 1 = .ok (.invokevirtual 133, 3) := dk_182 0 133 (dk_at dksX1_law_0 1 rfl rfl)
theorem dX1_law_4 : decode cX1_law 4 = .ok (.istore_n 1, 1) := dk_60 (dk_at dksX1_law_0 4 rfl rfl)
theorem dX1_law_5 : decode cX1_law 5 = .ok (.aload_n 0, 1) := dk_42 (dk_at dksX1_law_0 5 rfl rfl)
theorem dX1_law_6 : decode cX1_law 6 = .ok (.iconst (-1), 1) := dk_2 (dk_at dksX1_law_0 6 rfl rfl)
theorem dX1_law_7 : decode cX1_law 7 = .ok (.putfield 52, 3) := dk_181 0 52 (dk_at dksX1_law_0 7 rfl rfl)
theorem dX1_law_10 : decode cX1_law 10 = .ok (.aload_n 0, 1) := dk_42 (dk_at dksX1_law_0 10 rfl rfl)
theorem dX1_law_11 : decode cX1_law 11 = .ok (.getfield 22, 3) := dk_180 0 22 (dk_at dksX1_law_0 11 rfl rfl)
theorem dX1_law_14 : decode cX1_law 14 = .ok (.iload_n 1, 1) := dk_27 (dk_at dksX1_law_0 14 rfl rfl)
theorem dX1_law_15 : decode cX1_law 15 = .ok (.invokevirtual 137, 3) := dk_182 0 137 (dk_at dksX1_law_0 15 rfl rfl)
theorem dX1_law_18 : decode cX1_law 18 = .ok (.astore_n 2, 1) := dk_77 (dk_at dksX1_law_0 18 rfl rfl)
theorem dX1_law_19 : decode cX1_law 19 = .ok (.goto 20, 3) := dk_167 0 20 (dk_at dksX1_law_0 19 rfl rfl)
theorem dX1_law_22 : decode cX1_law 22 = .ok (.astore_n 3, 1) := dk_78 (dk_at dksX1_law_0 22 rfl rfl)
theorem dX1_law_23 : decode cX1_law 23 = .ok (.aload_n 0, 1) := dk_42 (dk_at dksX1_law_0 23 rfl rfl)
theorem dX1_law_24 : decode cX1_law 24 = .ok (.aload_n 3, 1) := dk_45 (dk_at dksX1_law_1 0 rfl rfl)
theorem dX1_law_25 : decode cX1_law 25 = .ok (.getfield 143, 3) := dk_180 0 143 (dk_at dksX1_law_1 1 rfl rfl)
theorem dX1_law_28 : decode cX1_law 28 = .ok (.putfield 52, 3) := dk_181 0 52 (dk_at dksX1_law_1 4 rfl rfl)
theorem dX1_law_31 : decode cX1_law 31 = .ok (.new 56, 3) := dk_187 0 56 (dk_at dksX1_law_1 7 rfl rfl)
theorem dX1_law_34 : decode cX1_law 34 = .ok (.dup, 1) := dk_89 (dk_at dksX1_law_1 10 rfl rfl)
theorem dX1_law_35 : decode cX1_law 35 = .ok (.invokespecial 58, 3) := dk_183 0 58 (dk_at dksX1_law_1 11 rfl rfl)
theorem dX1_law_38 : decode cX1_law 38 = .ok (.athrow, 1) := dk_191 (dk_at dksX1_law_1 14 rfl rfl)
theorem dX1_law_39 : decode cX1_law 39 = .ok (.aload_n 0, 1) := dk_42 (dk_at dksX1_law_1 15 rfl rfl)
theorem dX1_law_40 : decode cX1_law 40 = .ok (.getfield 29, 3) := dk_180 0 29 (dk_at dksX1_law_1 16 rfl rfl)
theorem dX1_law_43 : decode cX1_law 43 = .ok (.getfield 146, 3) := dk_180 0 146 (dk_at dksX1_law_1 19 rfl rfl)
theorem dX1_law_46 : decode cX1_law 46 = .ok (.iconst 4, 1) := dk_7 (dk_at dksX1_law_1 22 rfl rfl)
theorem dX1_law_47 : decode cX1_law 47 = .ok (.if_icmp .ge 7, 3) := dk_162 0 7 (dk_at dksX1_law_2 0 rfl rfl)
theorem dX1_law_50 : decode cX1_law 50 = .ok (.iconst 1, 1) := dk_4 (dk_at dksX1_law_2 3 rfl rfl)
theorem dX1_law_51 : decode cX1_law 51 = .ok (.goto 4, 3) := dk_167 0 4 (dk_at dksX1_law_2 4 rfl rfl)
theorem dX1_law_54 : decode cX1_law 54 = .ok (.iconst 0, 1) := dk_3 (dk_at dksX1_law_2 7 rfl rfl)
theorem dX1_law_55 : decode cX1_law 55 = .ok (.invokestatic 118, 3) := dk_184 0 118 (dk_at dksX1_law_2 8 rfl rfl)
theorem dX1_law_58 : decode cX1_law 58 = .ok (.aload_n 0, 1) := dk_42 (dk_at dksX1_law_2 11 rfl rfl)
theorem dX1_law_59 : decode cX1_law 59 = .ok (.getfield 29, 3) := dk_180 0 29 (dk_at dksX1_law_2 12 rfl rfl)
theorem dX1_law_62 : decode cX1_law 62 = .ok (.getfield 149, 3) := dk_180 0 149 (dk_at dksX1_law_2 15 rfl rfl)
theorem dX1_law_65 : decode cX1_law 65 = .ok (.aload_n 0, 1) := dk_42 (dk_at dksX1_law_2 18 rfl rfl)
theorem dX1_law_66 : decode cX1_law 66 = .ok (.getfield 29, 3) := dk_180 0 29 (dk_at dksX1_law_2 19 rfl rfl)
theorem dX1_law_69 : decode cX1_law 69 = .ok (.getfield 146, 3) := dk_180 0 146 (dk_at dksX1_law_3 0 rfl rfl)
theorem dX1_law_72 : decode cX1_law 72 = .ok (.aload_n 2, 1) := dk_44 (dk_at dksX1_law_3 3 rfl rfl)
theorem dX1_law_73 : decode cX1_law 73 = .ok (.aastore, 1) := dk_83 (dk_at dksX1_law_3 4 rfl rfl)
theorem dX1_law_74 : decode cX1_law 74 = .ok (.aload_n 0, 1) := dk_42 (dk_at dksX1_law_3 5 rfl rfl)
theorem dX1_law_75 : decode cX1_law 75 = .ok (.getfield 29, 3) := dk_180 0 29 (dk_at dksX1_law_3 6 rfl rfl)
theorem dX1_law_78 : decode cX1_law 78 = .ok (.dup, 1) := dk_89 (dk_at dksX1_law_3 9 rfl rfl)
theorem dX1_law_79 : decode cX1_law 79 = .ok (.getfield 146, 3) := dk_180 0 146 (dk_at dksX1_law_3 10 rfl rfl)
theorem dX1_law_82 : decode cX1_law 82 = .ok (.iconst 1, 1) := dk_4 (dk_at dksX1_law_3 13 rfl rfl)
theorem dX1_law_83 : decode cX1_law 83 = .ok (.iadd, 1) := dk_96 (dk_at dksX1_law_3 14 rfl rfl)
theorem dX1_law_84 : decode cX1_law 84 = .ok (.putfield 146, 3) := dk_181 0 146 (dk_at dksX1_law_3 15 rfl rfl)
theorem dX1_law_87 : decode cX1_law 87 = .ok (.aload_n 0, 1) := dk_42 (dk_at dksX1_law_3 18 rfl rfl)
theorem dX1_law_88 : decode cX1_law 88 = .ok (.getfield 29, 3) := dk_180 0 29 (dk_at dksX1_law_3 19 rfl rfl)
theorem dX1_law_91 : decode cX1_law 91 = .ok (.getfield 146, 3) := dk_180 0 146 (dk_at dksX1_law_4 0 rfl rfl)
theorem dX1_law_94 : decode cX1_law 94 = .ok (.iconst 1, 1) := dk_4 (dk_at dksX1_law_4 3 rfl rfl)
theorem dX1_law_95 : decode cX1_law 95 = .ok (.isub, 1) := dk_100 (dk_at dksX1_law_4 4 rfl rfl)
theorem dX1_law_96 : decode cX1_law 96 = .ok (.ireturn, 1) := dk_172 (dk_at dksX1_law_4 5 rfl rfl)
abbrev cX1_use : ByteArray := prog_1_method_17_code
def yX1_use : MethodName := ⟨RX1, "use", "()I"⟩
def dkwX1_use_0 : List UInt8 := [42, 180, 0, 22, 180, 0, 93, 60, 42, 180, 0, 22, 3, 181, 0, 93, 27, 172]
abbrev dktX1_use_0 : List UInt8 := dkwX1_use_0 ++ []
theorem dksX1_use_0 : cX1_use.data.toList.drop 0 = dktX1_use_0 := by decide +kernel
theorem dX1_use_0 : decode cX1_use 0 = .ok (.aload_n 0, 1) := dk_42 (dk_at dksX1_use_0 0 rfl rfl)
theorem dX1_use_1 : decode cX1_use 1 = .ok (.getfield 22, 3) := dk_180 0 22 (dk_at dksX1_use_0 1 rfl rfl)
theorem dX1_use_4 : decode cX1_use 4 = .ok (.getfield 93, 3) := dk_180 0 93 (dk_at dksX1_use_0 4 rfl rfl)
theorem dX1_use_7 : decode cX1_use 7 = .ok (.istore_n 1, 1) := dk_60 (dk_at dksX1_use_0 7 rfl rfl)
theorem dX1_use_8 : decode cX1_use 8 = .ok (.aload_n 0, 1) := dk_42 (dk_at dksX1_use_0 8 rfl rfl)
theorem dX1_use_9 : decode cX1_use 9 = .ok (.getfield 22, 3) := dk_180 0 22 (dk_at dksX1_use_0 9 rfl rfl)
theorem dX1_use_12 : decode cX1_use 12 = .ok (.iconst 0, 1) := dk_3 (dk_at dksX1_use_0 12 rfl rfl)
theorem dX1_use_13 : decode cX1_use 13 = .ok (.putfield 93, 3) := dk_181 0 93 (dk_at dksX1_use_0 13 rfl rfl)
theorem dX1_use_16 : decode cX1_use 16 = .ok (.iload_n 1, 1) := dk_27 (dk_at dksX1_use_0 16 rfl rfl)
theorem dX1_use_17 : decode cX1_use 17 = .ok (.ireturn, 1) := dk_172 (dk_at dksX1_use_0 17 rfl rfl)
abbrev cX1_person : ByteArray := prog_1_method_26_code
def yX1_person : MethodName := ⟨RX1, "person", "(IIII)I"⟩
def dkwX1_person_7 : List UInt8 := [181, 0, 156, 42, 180, 0, 29, 180, 0, 156, 4, 100, 172]
abbrev dktX1_person_7 : List UInt8 := dkwX1_person_7 ++ []
def dkwX1_person_6 : List UInt8 := [180, 0, 168, 21, 4, 27, 28, 29, 183, 0, 171, 83, 42, 180, 0, 29, 89, 180, 0, 156, 4, 96]
abbrev dktX1_person_6 : List UInt8 := dkwX1_person_6 ++ dktX1_person_7
def dkwX1_person_5 : List UInt8 := [180, 0, 159, 42, 180, 0, 29, 180, 0, 156, 187, 0, 164, 89, 42, 180, 0, 29, 180, 0, 121, 27, 50]
abbrev dktX1_person_5 : List UInt8 := dkwX1_person_5 ++ dktX1_person_6
def dkwX1_person_4 : List UInt8 := [180, 0, 29, 180, 0, 156, 16, 8, 162, 0, 7, 4, 167, 0, 4, 3, 184, 0, 118, 42, 180, 0, 29]
abbrev dktX1_person_4 : List UInt8 := dkwX1_person_4 ++ dktX1_person_5
def dkwX1_person_3 : List UInt8 := [159, 0, 7, 4, 167, 0, 4, 3, 54, 5, 132, 6, 1, 167, 255, 212, 21, 5, 184, 0, 103, 42]
abbrev dktX1_person_3 : List UInt8 := dkwX1_person_3 ++ dktX1_person_4
def dkwX1_person_2 : List UInt8 := [162, 0, 38, 21, 5, 153, 0, 24, 42, 180, 0, 29, 180, 0, 159, 21, 6, 50, 180, 0, 163, 27]
abbrev dktX1_person_2 : List UInt8 := dkwX1_person_2 ++ dktX1_person_3
def dkwX1_person_1 : List UInt8 := [184, 0, 72, 29, 3, 16, 9, 184, 0, 68, 54, 5, 3, 54, 6, 21, 6, 42, 180, 0, 29, 180, 0, 156]
abbrev dktX1_person_1 : List UInt8 := dkwX1_person_1 ++ dktX1_person_2
def dkwX1_person_0 : List UInt8 := [42, 27, 182, 0, 153, 28, 184, 0, 100, 21, 4, 2, 42, 180, 0, 29, 180, 0, 146, 4, 100, 184, 0, 68]
abbrev dktX1_person_0 : List UInt8 := dkwX1_person_0 ++ dktX1_person_1
theorem dksX1_person_0 : cX1_person.data.toList.drop 0 = dktX1_person_0 := by decide +kernel
theorem dksX1_person_1 : cX1_person.data.toList.drop 24 = dktX1_person_1 := dk_seg dksX1_person_0 24 rfl rfl
theorem dksX1_person_2 : cX1_person.data.toList.drop 48 = dktX1_person_2 := dk_seg dksX1_person_1 24 rfl rfl
theorem dksX1_person_3 : cX1_person.data.toList.drop 70 = dktX1_person_3 := dk_seg dksX1_person_2 22 rfl rfl
theorem dksX1_person_4 : cX1_person.data.toList.drop 92 = dktX1_person_4 := dk_seg dksX1_person_3 22 rfl rfl
theorem dksX1_person_5 : cX1_person.data.toList.drop 115 = dktX1_person_5 := dk_seg dksX1_person_4 23 rfl rfl
theorem dksX1_person_6 : cX1_person.data.toList.drop 138 = dktX1_person_6 := dk_seg dksX1_person_5 23 rfl rfl
theorem dksX1_person_7 : cX1_person.data.toList.drop 160 = dktX1_person_7 := dk_seg dksX1_person_6 22 rfl rfl
theorem dX1_person_0 : decode cX1_person 0 = .ok (.aload_n 0, 1) := dk_42 (dk_at dksX1_person_0 0 rfl rfl)
theorem dX1_person_1 : decode cX1_person 1 = .ok (.iload_n 1, 1) := dk_27 (dk_at dksX1_person_0 1 rfl rfl)
theorem dX1_person_2 : decode cX1_person 2 = .ok (.invokevirtual 153, 3) := dk_182 0 153 (dk_at dksX1_person_0 2 rfl rfl)
theorem dX1_person_5 : decode cX1_person 5 = .ok (.iload_n 2, 1) := dk_28 (dk_at dksX1_person_0 5 rfl rfl)
theorem dX1_person_6 : decode cX1_person 6 = .ok (.invokestatic 100, 3) := dk_184 0 100 (dk_at dksX1_person_0 6 rfl rfl)
theorem dX1_person_9 : decode cX1_person 9 = .ok (.iload 4, 2) := dk_21 4 (dk_at dksX1_person_0 9 rfl rfl)
theorem dX1_person_11 : decode cX1_person 11 = .ok (.iconst (-1), 1) := dk_2 (dk_at dksX1_person_0 11 rfl rfl)
theorem dX1_person_12 : decode cX1_person 12 = .ok (.aload_n 0, 1) := dk_42 (dk_at dksX1_person_0 12 rfl rfl)
theorem dX1_person_13 : decode cX1_person 13 = .ok (.getfield 29, 3) := dk_180 0 29 (dk_at dksX1_person_0 13 rfl rfl)
theorem dX1_person_16 : decode cX1_person 16 = .ok (.getfield 146, 3) := dk_180 0 146 (dk_at dksX1_person_0 16 rfl rfl)
theorem dX1_person_19 : decode cX1_person 19 = .ok (.iconst 1, 1) := dk_4 (dk_at dksX1_person_0 19 rfl rfl)
theorem dX1_person_20 : decode cX1_person 20 = .ok (.isub, 1) := dk_100 (dk_at dksX1_person_0 20 rfl rfl)
theorem dX1_person_21 : decode cX1_person 21 = .ok (.invokestatic 68, 3) := dk_184 0 68 (dk_at dksX1_person_0 21 rfl rfl)
theorem dX1_person_24 : decode cX1_person 24 = .ok (.invokestatic 72, 3) := dk_184 0 72 (dk_at dksX1_person_1 0 rfl rfl)
theorem dX1_person_27 : decode cX1_person 27 = .ok (.iload_n 3, 1) := dk_29 (dk_at dksX1_person_1 3 rfl rfl)
theorem dX1_person_28 : decode cX1_person 28 = .ok (.iconst 0, 1) := dk_3 (dk_at dksX1_person_1 4 rfl rfl)
theorem dX1_person_29 : decode cX1_person 29 = .ok (.bipush 9, 2) := dk_16 9 (dk_at dksX1_person_1 5 rfl rfl)
theorem dX1_person_31 : decode cX1_person 31 = .ok (.invokestatic 68, 3) := dk_184 0 68 (dk_at dksX1_person_1 7 rfl rfl)
theorem dX1_person_34 : decode cX1_person 34 = .ok (.istore 5, 2) := dk_54 5 (dk_at dksX1_person_1 10 rfl rfl)
theorem dX1_person_36 : decode cX1_person 36 = .ok (.iconst 0, 1) := dk_3 (dk_at dksX1_person_1 12 rfl rfl)
theorem dX1_person_37 : decode cX1_person 37 = .ok (.istore 6, 2) := dk_54 6 (dk_at dksX1_person_1 13 rfl rfl)
theorem dX1_person_39 : decode cX1_person 39 = .ok (.iload 6, 2) := dk_21 6 (dk_at dksX1_person_1 15 rfl rfl)
theorem dX1_person_41 : decode cX1_person 41 = .ok (.aload_n 0, 1) := dk_42 (dk_at dksX1_person_1 17 rfl rfl)
theorem dX1_person_42 : decode cX1_person 42 = .ok (.getfield 29, 3) := dk_180 0 29 (dk_at dksX1_person_1 18 rfl rfl)
theorem dX1_person_45 : decode cX1_person 45 = .ok (.getfield 156, 3) := dk_180 0 156 (dk_at dksX1_person_1 21 rfl rfl)
theorem dX1_person_48 : decode cX1_person 48 = .ok (.if_icmp .ge 38, 3) := dk_162 0 38 (dk_at dksX1_person_2 0 rfl rfl)
theorem dX1_person_51 : decode cX1_person 51 = .ok (.iload 5, 2) := dk_21 5 (dk_at dksX1_person_2 3 rfl rfl)
theorem dX1_person_53 : decode cX1_person 53 = .ok (.ifCond .eq 24, 3) := dk_153 0 24 (dk_at dksX1_person_2 5 rfl rfl)
theorem dX1_person_56 : decode cX1_person 56 = .ok (.aload_n 0, 1) := dk_42 (dk_at dksX1_person_2 8 rfl rfl)
theorem dX1_person_57 : decode cX1_person 57 = .ok (.getfield 29, 3) := dk_180 0 29 (dk_at dksX1_person_2 9 rfl rfl)
theorem dX1_person_60 : decode cX1_person 60 = .ok (.getfield 159, 3) := dk_180 0 159 (dk_at dksX1_person_2 12 rfl rfl)
theorem dX1_person_63 : decode cX1_person 63 = .ok (.iload 6, 2) := dk_21 6 (dk_at dksX1_person_2 15 rfl rfl)
theorem dX1_person_65 : decode cX1_person 65 = .ok (.aaload, 1) := dk_50 (dk_at dksX1_person_2 17 rfl rfl)
theorem dX1_person_66 : decode cX1_person 66 = .ok (.getfield 163, 3) := dk_180 0 163 (dk_at dksX1_person_2 18 rfl rfl)
theorem dX1_person_69 : decode cX1_person 69 = .ok (.iload_n 1, 1) := dk_27 (dk_at dksX1_person_2 21 rfl rfl)
theorem dX1_person_70 : decode cX1_person 70 = .ok (.if_icmp .eq 7, 3) := dk_159 0 7 (dk_at dksX1_person_3 0 rfl rfl)
theorem dX1_person_73 : decode cX1_person 73 = .ok (.iconst 1, 1) := dk_4 (dk_at dksX1_person_3 3 rfl rfl)
theorem dX1_person_74 : decode cX1_person 74 = .ok (.goto 4, 3) := dk_167 0 4 (dk_at dksX1_person_3 4 rfl rfl)
theorem dX1_person_77 : decode cX1_person 77 = .ok (.iconst 0, 1) := dk_3 (dk_at dksX1_person_3 7 rfl rfl)
theorem dX1_person_78 : decode cX1_person 78 = .ok (.istore 5, 2) := dk_54 5 (dk_at dksX1_person_3 8 rfl rfl)
theorem dX1_person_80 : decode cX1_person 80 = .ok (.iinc 6 1, 3) := dk_132 6 1 (dk_at dksX1_person_3 10 rfl rfl)
theorem dX1_person_83 : decode cX1_person 83 = .ok (.goto (-44), 3) := dk_167 255 212 (dk_at dksX1_person_3 13 rfl rfl)
theorem dX1_person_86 : decode cX1_person 86 = .ok (.iload 5, 2) := dk_21 5 (dk_at dksX1_person_3 16 rfl rfl)
theorem dX1_person_88 : decode cX1_person 88 = .ok (.invokestatic 103, 3) := dk_184 0 103 (dk_at dksX1_person_3 18 rfl rfl)
theorem dX1_person_91 : decode cX1_person 91 = .ok (.aload_n 0, 1) := dk_42 (dk_at dksX1_person_3 21 rfl rfl)
theorem dX1_person_92 : decode cX1_person 92 = .ok (.getfield 29, 3) := dk_180 0 29 (dk_at dksX1_person_4 0 rfl rfl)
theorem dX1_person_95 : decode cX1_person 95 = .ok (.getfield 156, 3) := dk_180 0 156 (dk_at dksX1_person_4 3 rfl rfl)
theorem dX1_person_98 : decode cX1_person 98 = .ok (.bipush 8, 2) := dk_16 8 (dk_at dksX1_person_4 6 rfl rfl)
theorem dX1_person_100 : decode cX1_person 100 = .ok (.if_icmp .ge 7, 3) := dk_162 0 7 (dk_at dksX1_person_4 8 rfl rfl)
theorem dX1_person_103 : decode cX1_person 103 = .ok (.iconst 1, 1) := dk_4 (dk_at dksX1_person_4 11 rfl rfl)
theorem dX1_person_104 : decode cX1_person 104 = .ok (.goto 4, 3) := dk_167 0 4 (dk_at dksX1_person_4 12 rfl rfl)
theorem dX1_person_107 : decode cX1_person 107 = .ok (.iconst 0, 1) := dk_3 (dk_at dksX1_person_4 15 rfl rfl)
theorem dX1_person_108 : decode cX1_person 108 = .ok (.invokestatic 118, 3) := dk_184 0 118 (dk_at dksX1_person_4 16 rfl rfl)
theorem dX1_person_111 : decode cX1_person 111 = .ok (.aload_n 0, 1) := dk_42 (dk_at dksX1_person_4 19 rfl rfl)
theorem dX1_person_112 : decode cX1_person 112 = .ok (.getfield 29, 3) := dk_180 0 29 (dk_at dksX1_person_4 20 rfl rfl)
theorem dX1_person_115 : decode cX1_person 115 = .ok (.getfield 159, 3) := dk_180 0 159 (dk_at dksX1_person_5 0 rfl rfl)
theorem dX1_person_118 : decode cX1_person 118 = .ok (.aload_n 0, 1) := dk_42 (dk_at dksX1_person_5 3 rfl rfl)
theorem dX1_person_119 : decode cX1_person 119 = .ok (.getfield 29, 3) := dk_180 0 29 (dk_at dksX1_person_5 4 rfl rfl)
theorem dX1_person_122 : decode cX1_person 122 = .ok (.getfield 156, 3) := dk_180 0 156 (dk_at dksX1_person_5 7 rfl rfl)
theorem dX1_person_125 : decode cX1_person 125 = .ok (.new 164, 3) := dk_187 0 164 (dk_at dksX1_person_5 10 rfl rfl)
theorem dX1_person_128 : decode cX1_person 128 = .ok (.dup, 1) := dk_89 (dk_at dksX1_person_5 13 rfl rfl)
theorem dX1_person_129 : decode cX1_person 129 = .ok (.aload_n 0, 1) := dk_42 (dk_at dksX1_person_5 14 rfl rfl)
theorem dX1_person_130 : decode cX1_person 130 = .ok (.getfield 29, 3) := dk_180 0 29 (dk_at dksX1_person_5 15 rfl rfl)
theorem dX1_person_133 : decode cX1_person 133 = .ok (.getfield 121, 3) := dk_180 0 121 (dk_at dksX1_person_5 18 rfl rfl)
theorem dX1_person_136 : decode cX1_person 136 = .ok (.iload_n 1, 1) := dk_27 (dk_at dksX1_person_5 21 rfl rfl)
theorem dX1_person_137 : decode cX1_person 137 = .ok (.aaload, 1) := dk_50 (dk_at dksX1_person_5 22 rfl rfl)
theorem dX1_person_138 : decode cX1_person 138 = .ok (.getfield 168, 3) := dk_180 0 168 (dk_at dksX1_person_6 0 rfl rfl)
theorem dX1_person_141 : decode cX1_person 141 = .ok (.iload 4, 2) := dk_21 4 (dk_at dksX1_person_6 3 rfl rfl)
theorem dX1_person_143 : decode cX1_person 143 = .ok (.iload_n 1, 1) := dk_27 (dk_at dksX1_person_6 5 rfl rfl)
theorem dX1_person_144 : decode cX1_person 144 = .ok (.iload_n 2, 1) := dk_28 (dk_at dksX1_person_6 6 rfl rfl)
theorem dX1_person_145 : decode cX1_person 145 = .ok (.iload_n 3, 1) := dk_29 (dk_at dksX1_person_6 7 rfl rfl)
theorem dX1_person_146 : decode cX1_person 146 = .ok (.invokespecial 171, 3) := dk_183 0 171 (dk_at dksX1_person_6 8 rfl rfl)
theorem dX1_person_149 : decode cX1_person 149 = .ok (.aastore, 1) := dk_83 (dk_at dksX1_person_6 11 rfl rfl)
theorem dX1_person_150 : decode cX1_person 150 = .ok (.aload_n 0, 1) := dk_42 (dk_at dksX1_person_6 12 rfl rfl)
theorem dX1_person_151 : decode cX1_person 151 = .ok (.getfield 29, 3) := dk_180 0 29 (dk_at dksX1_person_6 13 rfl rfl)
theorem dX1_person_154 : decode cX1_person 154 = .ok (.dup, 1) := dk_89 (dk_at dksX1_person_6 16 rfl rfl)
theorem dX1_person_155 : decode cX1_person 155 = .ok (.getfield 156, 3) := dk_180 0 156 (dk_at dksX1_person_6 17 rfl rfl)
theorem dX1_person_158 : decode cX1_person 158 = .ok (.iconst 1, 1) := dk_4 (dk_at dksX1_person_6 20 rfl rfl)
theorem dX1_person_159 : decode cX1_person 159 = .ok (.iadd, 1) := dk_96 (dk_at dksX1_person_6 21 rfl rfl)
theorem dX1_person_160 : decode cX1_person 160 = .ok (.putfield 156, 3) := dk_181 0 156 (dk_at dksX1_person_7 0 rfl rfl)
theorem dX1_person_163 : decode cX1_person 163 = .ok (.aload_n 0, 1) := dk_42 (dk_at dksX1_person_7 3 rfl rfl)
theorem dX1_person_164 : decode cX1_person 164 = .ok (.getfield 29, 3) := dk_180 0 29 (dk_at dksX1_person_7 4 rfl rfl)
theorem dX1_person_167 : decode cX1_person 167 = .ok (.getfield 156, 3) := dk_180 0 156 (dk_at dksX1_person_7 7 rfl rfl)
theorem dX1_person_170 : decode cX1_person 170 = .ok (.iconst 1, 1) := dk_4 (dk_at dksX1_person_7 10 rfl rfl)
theorem dX1_person_171 : decode cX1_person 171 = .ok (.isub, 1) := dk_100 (dk_at dksX1_person_7 11 rfl rfl)
theorem dX1_person_172 : decode cX1_person 172 = .ok (.ireturn, 1) := dk_172 (dk_at dksX1_person_7 12 rfl rfl)
abbrev cX1_isGun : ByteArray := prog_1_method_11_code
def yX1_isGun : MethodName := ⟨RX1, "isGun", "(I)V"⟩
def dkwX1_isGun_0 : List UInt8 := [27, 3, 42, 180, 0, 29, 180, 0, 76, 4, 100, 184, 0, 68, 184, 0, 72, 177]
abbrev dktX1_isGun_0 : List UInt8 := dkwX1_isGun_0 ++ []
theorem dksX1_isGun_0 : cX1_isGun.data.toList.drop 0 = dktX1_isGun_0 := by decide +kernel
theorem dX1_isGun_0 : decode cX1_isGun 0 = .ok (.iload_n 1, 1) := dk_27 (dk_at dksX1_isGun_0 0 rfl rfl)
theorem dX1_isGun_1 : decode cX1_isGun 1 = .ok (.iconst 0, 1) := dk_3 (dk_at dksX1_isGun_0 1 rfl rfl)
theorem dX1_isGun_2 : decode cX1_isGun 2 = .ok (.aload_n 0, 1) := dk_42 (dk_at dksX1_isGun_0 2 rfl rfl)
theorem dX1_isGun_3 : decode cX1_isGun 3 = .ok (.getfield 29, 3) := dk_180 0 29 (dk_at dksX1_isGun_0 3 rfl rfl)
theorem dX1_isGun_6 : decode cX1_isGun 6 = .ok (.getfield 76, 3) := dk_180 0 76 (dk_at dksX1_isGun_0 6 rfl rfl)
theorem dX1_isGun_9 : decode cX1_isGun 9 = .ok (.iconst 1, 1) := dk_4 (dk_at dksX1_isGun_0 9 rfl rfl)
theorem dX1_isGun_10 : decode cX1_isGun 10 = .ok (.isub, 1) := dk_100 (dk_at dksX1_isGun_0 10 rfl rfl)
theorem dX1_isGun_11 : decode cX1_isGun 11 = .ok (.invokestatic 68, 3) := dk_184 0 68 (dk_at dksX1_isGun_0 11 rfl rfl)
theorem dX1_isGun_14 : decode cX1_isGun 14 = .ok (.invokestatic 72, 3) := dk_184 0 72 (dk_at dksX1_isGun_0 14 rfl rfl)
theorem dX1_isGun_17 : decode cX1_isGun 17 = .ok (.return_, 1) := dk_177 (dk_at dksX1_isGun_0 17 rfl rfl)
abbrev cX1_look : ByteArray := prog_1_method_27_code
def yX1_look : MethodName := ⟨RX1, "look", "(II)I"⟩
def dkwX1_look_5 : List UInt8 := [172, 42, 180, 0, 29, 45, 3, 182, 0, 187, 172, 187, 0, 65, 89, 183, 0, 67, 191]
abbrev dktX1_look_5 : List UInt8 := dkwX1_look_5 ++ []
def dkwX1_look_4 : List UInt8 := [167, 0, 4, 3, 172, 45, 180, 0, 184, 172, 45, 180, 0, 185, 172, 42, 180, 0, 29, 45, 4, 182, 0, 187]
abbrev dktX1_look_4 : List UInt8 := dkwX1_look_4 ++ dktX1_look_5
def dkwX1_look_3 : List UInt8 := [45, 180, 0, 163, 172, 45, 180, 0, 174, 172, 45, 180, 0, 177, 172, 45, 180, 0, 180, 153, 0, 7, 4]
abbrev dktX1_look_3 : List UInt8 := dkwX1_look_3 ++ dktX1_look_4
def dkwX1_look_2 : List UInt8 := [170, 0, 0, 0, 0, 0, 0, 106, 0, 0, 0, 0, 0, 0, 0, 7, 0, 0, 0, 48, 0, 0, 0, 53, 0, 0, 0, 58, 0, 0, 0, 63, 0, 0, 0, 76, 0, 0, 0, 81, 0, 0, 0, 86, 0, 0, 0, 96]
abbrev dktX1_look_2 : List UInt8 := dkwX1_look_2 ++ dktX1_look_3
def dkwX1_look_1 : List UInt8 := [27, 50, 78, 28]
abbrev dktX1_look_1 : List UInt8 := dkwX1_look_1 ++ dktX1_look_2
def dkwX1_look_0 : List UInt8 := [27, 3, 42, 180, 0, 29, 180, 0, 156, 4, 100, 184, 0, 68, 184, 0, 72, 42, 180, 0, 29, 180, 0, 159]
abbrev dktX1_look_0 : List UInt8 := dkwX1_look_0 ++ dktX1_look_1
theorem dksX1_look_0 : cX1_look.data.toList.drop 0 = dktX1_look_0 := by decide +kernel
theorem dksX1_look_1 : cX1_look.data.toList.drop 24 = dktX1_look_1 := dk_seg dksX1_look_0 24 rfl rfl
theorem dksX1_look_2 : cX1_look.data.toList.drop 28 = dktX1_look_2 := dk_seg dksX1_look_1 4 rfl rfl
theorem dksX1_look_3 : cX1_look.data.toList.drop 76 = dktX1_look_3 := dk_seg dksX1_look_2 48 rfl rfl
theorem dksX1_look_4 : cX1_look.data.toList.drop 99 = dktX1_look_4 := dk_seg dksX1_look_3 23 rfl rfl
theorem dksX1_look_5 : cX1_look.data.toList.drop 123 = dktX1_look_5 := dk_seg dksX1_look_4 24 rfl rfl
theorem dX1_look_0 : decode cX1_look 0 = .ok (.iload_n 1, 1) := dk_27 (dk_at dksX1_look_0 0 rfl rfl)
theorem dX1_look_1 : decode cX1_look 1 = .ok (.iconst 0, 1) := dk_3 (dk_at dksX1_look_0 1 rfl rfl)
theorem dX1_look_2 : decode cX1_look 2 = .ok (.aload_n 0, 1) := dk_42 (dk_at dksX1_look_0 2 rfl rfl)
theorem dX1_look_3 : decode cX1_look 3 = .ok (.getfield 29, 3) := dk_180 0 29 (dk_at dksX1_look_0 3 rfl rfl)
theorem dX1_look_6 : decode cX1_look 6 = .ok (.getfield 156, 3) := dk_180 0 156 (dk_at dksX1_look_0 6 rfl rfl)
theorem dX1_look_9 : decode cX1_look 9 = .ok (.iconst 1, 1) := dk_4 (dk_at dksX1_look_0 9 rfl rfl)
theorem dX1_look_10 : decode cX1_look 10 = .ok (.isub, 1) := dk_100 (dk_at dksX1_look_0 10 rfl rfl)
theorem dX1_look_11 : decode cX1_look 11 = .ok (.invokestatic 68, 3) := dk_184 0 68 (dk_at dksX1_look_0 11 rfl rfl)
theorem dX1_look_14 : decode cX1_look 14 = .ok (.invokestatic 72, 3) := dk_184 0 72 (dk_at dksX1_look_0 14 rfl rfl)
theorem dX1_look_17 : decode cX1_look 17 = .ok (.aload_n 0, 1) := dk_42 (dk_at dksX1_look_0 17 rfl rfl)
theorem dX1_look_18 : decode cX1_look 18 = .ok (.getfield 29, 3) := dk_180 0 29 (dk_at dksX1_look_0 18 rfl rfl)
theorem dX1_look_21 : decode cX1_look 21 = .ok (.getfield 159, 3) := dk_180 0 159 (dk_at dksX1_look_0 21 rfl rfl)
theorem dX1_look_24 : decode cX1_look 24 = .ok (.iload_n 1, 1) := dk_27 (dk_at dksX1_look_1 0 rfl rfl)
theorem dX1_look_25 : decode cX1_look 25 = .ok (.aaload, 1) := dk_50 (dk_at dksX1_look_1 1 rfl rfl)
theorem dX1_look_26 : decode cX1_look 26 = .ok (.astore_n 3, 1) := dk_78 (dk_at dksX1_look_1 2 rfl rfl)
theorem dX1_look_27 : decode cX1_look 27 = .ok (.iload_n 2, 1) := dk_28 (dk_at dksX1_look_1 3 rfl rfl)
theorem dX1_look_28 : decode cX1_look 28 = .ok (.tableswitch 106 0 7 #[48, 53, 58, 63, 76, 81, 86, 96], 48) := by decide +kernel
theorem dX1_look_76 : decode cX1_look 76 = .ok (.aload_n 3, 1) := dk_45 (dk_at dksX1_look_3 0 rfl rfl)
theorem dX1_look_77 : decode cX1_look 77 = .ok (.getfield 163, 3) := dk_180 0 163 (dk_at dksX1_look_3 1 rfl rfl)
theorem dX1_look_80 : decode cX1_look 80 = .ok (.ireturn, 1) := dk_172 (dk_at dksX1_look_3 4 rfl rfl)
theorem dX1_look_81 : decode cX1_look 81 = .ok (.aload_n 3, 1) := dk_45 (dk_at dksX1_look_3 5 rfl rfl)
theorem dX1_look_82 : decode cX1_look 82 = .ok (.getfield 174, 3) := dk_180 0 174 (dk_at dksX1_look_3 6 rfl rfl)
theorem dX1_look_85 : decode cX1_look 85 = .ok (.ireturn, 1) := dk_172 (dk_at dksX1_look_3 9 rfl rfl)
theorem dX1_look_86 : decode cX1_look 86 = .ok (.aload_n 3, 1) := dk_45 (dk_at dksX1_look_3 10 rfl rfl)
theorem dX1_look_87 : decode cX1_look 87 = .ok (.getfield 177, 3) := dk_180 0 177 (dk_at dksX1_look_3 11 rfl rfl)
theorem dX1_look_90 : decode cX1_look 90 = .ok (.ireturn, 1) := dk_172 (dk_at dksX1_look_3 14 rfl rfl)
theorem dX1_look_91 : decode cX1_look 91 = .ok (.aload_n 3, 1) := dk_45 (dk_at dksX1_look_3 15 rfl rfl)
theorem dX1_look_92 : decode cX1_look 92 = .ok (.getfield 180, 3) := dk_180 0 180 (dk_at dksX1_look_3 16 rfl rfl)
theorem dX1_look_95 : decode cX1_look 95 = .ok (.ifCond .eq 7, 3) := dk_153 0 7 (dk_at dksX1_look_3 19 rfl rfl)
theorem dX1_look_98 : decode cX1_look 98 = .ok (.iconst 1, 1) := dk_4 (dk_at dksX1_look_3 22 rfl rfl)
theorem dX1_look_99 : decode cX1_look 99 = .ok (.goto 4, 3) := dk_167 0 4 (dk_at dksX1_look_4 0 rfl rfl)
theorem dX1_look_102 : decode cX1_look 102 = .ok (.iconst 0, 1) := dk_3 (dk_at dksX1_look_4 3 rfl rfl)
theorem dX1_look_103 : decode cX1_look 103 = .ok (.ireturn, 1) := dk_172 (dk_at dksX1_look_4 4 rfl rfl)
theorem dX1_look_104 : decode cX1_look 104 = .ok (.aload_n 3, 1) := dk_45 (dk_at dksX1_look_4 5 rfl rfl)
theorem dX1_look_105 : decode cX1_look 105 = .ok (.getfield 184, 3) := dk_180 0 184 (dk_at dksX1_look_4 6 rfl rfl)
theorem dX1_look_108 : decode cX1_look 108 = .ok (.ireturn, 1) := dk_172 (dk_at dksX1_look_4 9 rfl rfl)
theorem dX1_look_109 : decode cX1_look 109 = .ok (.aload_n 3, 1) := dk_45 (dk_at dksX1_look_4 10 rfl rfl)
theorem dX1_look_110 : decode cX1_look 110 = .ok (.getfield 185, 3) := dk_180 0 185 (dk_at dksX1_look_4 11 rfl rfl)
theorem dX1_look_113 : decode cX1_look 113 = .ok (.ireturn, 1) := dk_172 (dk_at dksX1_look_4 14 rfl rfl)
theorem dX1_look_114 : decode cX1_look 114 = .ok (.aload_n 0, 1) := dk_42 (dk_at dksX1_look_4 15 rfl rfl)
theorem dX1_look_115 : decode cX1_look 115 = .ok (.getfield 29, 3) := dk_180 0 29 (dk_at dksX1_look_4 16 rfl rfl)
theorem dX1_look_118 : decode cX1_look 118 = .ok (.aload_n 3, 1) := dk_45 (dk_at dksX1_look_4 19 rfl rfl)
theorem dX1_look_119 : decode cX1_look 119 = .ok (.iconst 1, 1) := dk_4 (dk_at dksX1_look_4 20 rfl rfl)
theorem dX1_look_120 : decode cX1_look 120 = .ok (.invokevirtual 187, 3) := dk_182 0 187 (dk_at dksX1_look_4 21 rfl rfl)
theorem dX1_look_123 : decode cX1_look 123 = .ok (.ireturn, 1) := dk_172 (dk_at dksX1_look_5 0 rfl rfl)
theorem dX1_look_124 : decode cX1_look 124 = .ok (.aload_n 0, 1) := dk_42 (dk_at dksX1_look_5 1 rfl rfl)
theorem dX1_look_125 : decode cX1_look 125 = .ok (.getfield 29, 3) := dk_180 0 29 (dk_at dksX1_look_5 2 rfl rfl)
theorem dX1_look_128 : decode cX1_look 128 = .ok (.aload_n 3, 1) := dk_45 (dk_at dksX1_look_5 5 rfl rfl)
theorem dX1_look_129 : decode cX1_look 129 = .ok (.iconst 0, 1) := dk_3 (dk_at dksX1_look_5 6 rfl rfl)
theorem dX1_look_130 : decode cX1_look 130 = .ok (.invokevirtual 187, 3) := dk_182 0 187 (dk_at dksX1_look_5 7 rfl rfl)
theorem dX1_look_133 : decode cX1_look 133 = .ok (.ireturn, 1) := dk_172 (dk_at dksX1_look_5 10 rfl rfl)
theorem dX1_look_134 : decode cX1_look 134 = .ok (.new 65, 3) := dk_187 0 65 (dk_at dksX1_look_5 11 rfl rfl)
theorem dX1_look_137 : decode cX1_look 137 = .ok (.dup, 1) := dk_89 (dk_at dksX1_look_5 14 rfl rfl)
theorem dX1_look_138 : decode cX1_look 138 = .ok (.invokespecial 67, 3) := dk_183 0 67 (dk_at dksX1_look_5 15 rfl rfl)
theorem dX1_look_141 : decode cX1_look 141 = .ok (.athrow, 1) := dk_191 (dk_at dksX1_look_5 18 rfl rfl)
abbrev cX1_run : ByteArray := prog_1_method_29_code
def yX1_run : MethodName := ⟨RX1, "run", "(I)I"⟩
def dkwX1_run_2 : List UInt8 := [182, 0, 197, 132, 2, 1, 167, 255, 241, 42, 180, 0, 29, 180, 0, 194, 172]
abbrev dktX1_run_2 : List UInt8 := dkwX1_run_2 ++ []
def dkwX1_run_1 : List UInt8 := [163, 0, 7, 4, 167, 0, 4, 3, 184, 0, 103, 3, 61, 28, 27, 162, 0, 16, 42, 180, 0, 29]
abbrev dktX1_run_1 : List UInt8 := dkwX1_run_1 ++ dktX1_run_2
def dkwX1_run_0 : List UInt8 := [27, 4, 16, 60, 184, 0, 68, 153, 0, 22, 42, 180, 0, 29, 180, 0, 194, 27, 96, 17, 0, 239]
abbrev dktX1_run_0 : List UInt8 := dkwX1_run_0 ++ dktX1_run_1
theorem dksX1_run_0 : cX1_run.data.toList.drop 0 = dktX1_run_0 := by decide +kernel
theorem dksX1_run_1 : cX1_run.data.toList.drop 22 = dktX1_run_1 := dk_seg dksX1_run_0 22 rfl rfl
theorem dksX1_run_2 : cX1_run.data.toList.drop 44 = dktX1_run_2 := dk_seg dksX1_run_1 22 rfl rfl
theorem dX1_run_0 : decode cX1_run 0 = .ok (.iload_n 1, 1) := dk_27 (dk_at dksX1_run_0 0 rfl rfl)
theorem dX1_run_1 : decode cX1_run 1 = .ok (.iconst 1, 1) := dk_4 (dk_at dksX1_run_0 1 rfl rfl)
theorem dX1_run_2 : decode cX1_run 2 = .ok (.bipush 60, 2) := dk_16 60 (dk_at dksX1_run_0 2 rfl rfl)
theorem dX1_run_4 : decode cX1_run 4 = .ok (.invokestatic 68, 3) := dk_184 0 68 (dk_at dksX1_run_0 4 rfl rfl)
theorem dX1_run_7 : decode cX1_run 7 = .ok (.ifCond .eq 22, 3) := dk_153 0 22 (dk_at dksX1_run_0 7 rfl rfl)
theorem dX1_run_10 : decode cX1_run 10 = .ok (.aload_n 0, 1) := dk_42 (dk_at dksX1_run_0 10 rfl rfl)
theorem dX1_run_11 : decode cX1_run 11 = .ok (.getfield 29, 3) := dk_180 0 29 (dk_at dksX1_run_0 11 rfl rfl)
theorem dX1_run_14 : decode cX1_run 14 = .ok (.getfield 194, 3) := dk_180 0 194 (dk_at dksX1_run_0 14 rfl rfl)
theorem dX1_run_17 : decode cX1_run 17 = .ok (.iload_n 1, 1) := dk_27 (dk_at dksX1_run_0 17 rfl rfl)
theorem dX1_run_18 : decode cX1_run 18 = .ok (.iadd, 1) := dk_96 (dk_at dksX1_run_0 18 rfl rfl)
theorem dX1_run_19 : decode cX1_run 19 = .ok (.sipush 239, 3) := dk_17 0 239 (dk_at dksX1_run_0 19 rfl rfl)
theorem dX1_run_22 : decode cX1_run 22 = .ok (.if_icmp .gt 7, 3) := dk_163 0 7 (dk_at dksX1_run_1 0 rfl rfl)
theorem dX1_run_25 : decode cX1_run 25 = .ok (.iconst 1, 1) := dk_4 (dk_at dksX1_run_1 3 rfl rfl)
theorem dX1_run_26 : decode cX1_run 26 = .ok (.goto 4, 3) := dk_167 0 4 (dk_at dksX1_run_1 4 rfl rfl)
theorem dX1_run_29 : decode cX1_run 29 = .ok (.iconst 0, 1) := dk_3 (dk_at dksX1_run_1 7 rfl rfl)
theorem dX1_run_30 : decode cX1_run 30 = .ok (.invokestatic 103, 3) := dk_184 0 103 (dk_at dksX1_run_1 8 rfl rfl)
theorem dX1_run_33 : decode cX1_run 33 = .ok (.iconst 0, 1) := dk_3 (dk_at dksX1_run_1 11 rfl rfl)
theorem dX1_run_34 : decode cX1_run 34 = .ok (.istore_n 2, 1) := dk_61 (dk_at dksX1_run_1 12 rfl rfl)
theorem dX1_run_35 : decode cX1_run 35 = .ok (.iload_n 2, 1) := dk_28 (dk_at dksX1_run_1 13 rfl rfl)
theorem dX1_run_36 : decode cX1_run 36 = .ok (.iload_n 1, 1) := dk_27 (dk_at dksX1_run_1 14 rfl rfl)
theorem dX1_run_37 : decode cX1_run 37 = .ok (.if_icmp .ge 16, 3) := dk_162 0 16 (dk_at dksX1_run_1 15 rfl rfl)
theorem dX1_run_40 : decode cX1_run 40 = .ok (.aload_n 0, 1) := dk_42 (dk_at dksX1_run_1 18 rfl rfl)
theorem dX1_run_41 : decode cX1_run 41 = .ok (.getfield 29, 3) := dk_180 0 29 (dk_at dksX1_run_1 19 rfl rfl)
theorem dX1_run_44 : decode cX1_run 44 = .ok (.invokevirtual 197, 3) := dk_182 0 197 (dk_at dksX1_run_2 0 rfl rfl)
theorem dX1_run_47 : decode cX1_run 47 = .ok (.iinc 2 1, 3) := dk_132 2 1 (dk_at dksX1_run_2 3 rfl rfl)
theorem dX1_run_50 : decode cX1_run 50 = .ok (.goto (-15), 3) := dk_167 255 241 (dk_at dksX1_run_2 6 rfl rfl)
theorem dX1_run_53 : decode cX1_run 53 = .ok (.aload_n 0, 1) := dk_42 (dk_at dksX1_run_2 9 rfl rfl)
theorem dX1_run_54 : decode cX1_run 54 = .ok (.getfield 29, 3) := dk_180 0 29 (dk_at dksX1_run_2 10 rfl rfl)
theorem dX1_run_57 : decode cX1_run 57 = .ok (.getfield 194, 3) := dk_180 0 194 (dk_at dksX1_run_2 13 rfl rfl)
theorem dX1_run_60 : decode cX1_run 60 = .ok (.ireturn, 1) := dk_172 (dk_at dksX1_run_2 16 rfl rfl)
abbrev cX1_found : ByteArray := prog_1_method_31_code
def yX1_found : MethodName := ⟨RX1, "found", "(III)I"⟩
def dkwX1_found_2 : List UInt8 := [3, 184, 0, 118, 42, 187, 0, 201, 89, 27, 28, 29, 3, 17, 0, 239, 183, 0, 203, 182, 0, 204, 172]
abbrev dktX1_found_2 : List UInt8 := dkwX1_found_2 ++ []
def dkwX1_found_1 : List UInt8 := [4, 167, 0, 4, 3, 184, 0, 103, 42, 180, 0, 29, 180, 0, 79, 16, 120, 162, 0, 7, 4, 167, 0, 4]
abbrev dktX1_found_1 : List UInt8 := dkwX1_found_1 ++ dktX1_found_2
def dkwX1_found_0 : List UInt8 := [27, 184, 0, 100, 28, 3, 16, 9, 184, 0, 68, 153, 0, 17, 29, 4, 18, 200, 184, 0, 68, 153, 0, 7]
abbrev dktX1_found_0 : List UInt8 := dkwX1_found_0 ++ dktX1_found_1
theorem dksX1_found_0 : cX1_found.data.toList.drop 0 = dktX1_found_0 := by decide +kernel
theorem dksX1_found_1 : cX1_found.data.toList.drop 24 = dktX1_found_1 := dk_seg dksX1_found_0 24 rfl rfl
theorem dksX1_found_2 : cX1_found.data.toList.drop 48 = dktX1_found_2 := dk_seg dksX1_found_1 24 rfl rfl
theorem dX1_found_0 : decode cX1_found 0 = .ok (.iload_n 1, 1) := dk_27 (dk_at dksX1_found_0 0 rfl rfl)
theorem dX1_found_1 : decode cX1_found 1 = .ok (.invokestatic 100, 3) := dk_184 0 100 (dk_at dksX1_found_0 1 rfl rfl)
theorem dX1_found_4 : decode cX1_found 4 = .ok (.iload_n 2, 1) := dk_28 (dk_at dksX1_found_0 4 rfl rfl)
theorem dX1_found_5 : decode cX1_found 5 = .ok (.iconst 0, 1) := dk_3 (dk_at dksX1_found_0 5 rfl rfl)
theorem dX1_found_6 : decode cX1_found 6 = .ok (.bipush 9, 2) := dk_16 9 (dk_at dksX1_found_0 6 rfl rfl)
theorem dX1_found_8 : decode cX1_found 8 = .ok (.invokestatic 68, 3) := dk_184 0 68 (dk_at dksX1_found_0 8 rfl rfl)
theorem dX1_found_11 : decode cX1_found 11 = .ok (.ifCond .eq 17, 3) := dk_153 0 17 (dk_at dksX1_found_0 11 rfl rfl)
theorem dX1_found_14 : decode cX1_found 14 = .ok (.iload_n 3, 1) := dk_29 (dk_at dksX1_found_0 14 rfl rfl)
theorem dX1_found_15 : decode cX1_found 15 = .ok (.iconst 1, 1) := dk_4 (dk_at dksX1_found_0 15 rfl rfl)
theorem dX1_found_16 : decode cX1_found 16 = .ok (.ldc 200, 2) := dk_18 200 (dk_at dksX1_found_0 16 rfl rfl)
theorem dX1_found_18 : decode cX1_found 18 = .ok (.invokestatic 68, 3) := dk_184 0 68 (dk_at dksX1_found_0 18 rfl rfl)
theorem dX1_found_21 : decode cX1_found 21 = .ok (.ifCond .eq 7, 3) := dk_153 0 7 (dk_at dksX1_found_0 21 rfl rfl)
theorem dX1_found_24 : decode cX1_found 24 = .ok (.iconst 1, 1) := dk_4 (dk_at dksX1_found_1 0 rfl rfl)
theorem dX1_found_25 : decode cX1_found 25 = .ok (.goto 4, 3) := dk_167 0 4 (dk_at dksX1_found_1 1 rfl rfl)
theorem dX1_found_28 : decode cX1_found 28 = .ok (.iconst 0, 1) := dk_3 (dk_at dksX1_found_1 4 rfl rfl)
theorem dX1_found_29 : decode cX1_found 29 = .ok (.invokestatic 103, 3) := dk_184 0 103 (dk_at dksX1_found_1 5 rfl rfl)
theorem dX1_found_32 : decode cX1_found 32 = .ok (.aload_n 0, 1) := dk_42 (dk_at dksX1_found_1 8 rfl rfl)
theorem dX1_found_33 : decode cX1_found 33 = .ok (.getfield 29, 3) := dk_180 0 29 (dk_at dksX1_found_1 9 rfl rfl)
theorem dX1_found_36 : decode cX1_found 36 = .ok (.getfield 79, 3) := dk_180 0 79 (dk_at dksX1_found_1 12 rfl rfl)
theorem dX1_found_39 : decode cX1_found 39 = .ok (.bipush 120, 2) := dk_16 120 (dk_at dksX1_found_1 15 rfl rfl)
theorem dX1_found_41 : decode cX1_found 41 = .ok (.if_icmp .ge 7, 3) := dk_162 0 7 (dk_at dksX1_found_1 17 rfl rfl)
theorem dX1_found_44 : decode cX1_found 44 = .ok (.iconst 1, 1) := dk_4 (dk_at dksX1_found_1 20 rfl rfl)
theorem dX1_found_45 : decode cX1_found 45 = .ok (.goto 4, 3) := dk_167 0 4 (dk_at dksX1_found_1 21 rfl rfl)
theorem dX1_found_48 : decode cX1_found 48 = .ok (.iconst 0, 1) := dk_3 (dk_at dksX1_found_2 0 rfl rfl)
theorem dX1_found_49 : decode cX1_found 49 = .ok (.invokestatic 118, 3) := dk_184 0 118 (dk_at dksX1_found_2 1 rfl rfl)
theorem dX1_found_52 : decode cX1_found 52 = .ok (.aload_n 0, 1) := dk_42 (dk_at dksX1_found_2 4 rfl rfl)
theorem dX1_found_53 : decode cX1_found 53 = .ok (.new 201, 3) := dk_187 0 201 (dk_at dksX1_found_2 5 rfl rfl)
theorem dX1_found_56 : decode cX1_found 56 = .ok (.dup, 1) := dk_89 (dk_at dksX1_found_2 8 rfl rfl)
theorem dX1_found_57 : decode cX1_found 57 = .ok (.iload_n 1, 1) := dk_27 (dk_at dksX1_found_2 9 rfl rfl)
theorem dX1_found_58 : decode cX1_found 58 = .ok (.iload_n 2, 1) := dk_28 (dk_at dksX1_found_2 10 rfl rfl)
theorem dX1_found_59 : decode cX1_found 59 = .ok (.iload_n 3, 1) := dk_29 (dk_at dksX1_found_2 11 rfl rfl)
theorem dX1_found_60 : decode cX1_found 60 = .ok (.iconst 0, 1) := dk_3 (dk_at dksX1_found_2 12 rfl rfl)
theorem dX1_found_61 : decode cX1_found 61 = .ok (.sipush 239, 3) := dk_17 0 239 (dk_at dksX1_found_2 13 rfl rfl)
theorem dX1_found_64 : decode cX1_found 64 = .ok (.invokespecial 203, 3) := dk_183 0 203 (dk_at dksX1_found_2 16 rfl rfl)
theorem dX1_found_67 : decode cX1_found 67 = .ok (.invokevirtual 204, 3) := dk_182 0 204 (dk_at dksX1_found_2 19 rfl rfl)
theorem dX1_found_70 : decode cX1_found 70 = .ok (.ireturn, 1) := dk_172 (dk_at dksX1_found_2 22 rfl rfl)
abbrev cX1_comes : ByteArray := prog_1_method_30_code
def yX1_comes : MethodName := ⟨RX1, "comes", "(LGrassField$Find;)I"⟩
def dkwX1_comes_1 : List UInt8 := [4, 96, 181, 0, 79, 42, 180, 0, 29, 180, 0, 79, 4, 100, 172]
abbrev dktX1_comes_1 : List UInt8 := dkwX1_comes_1 ++ []
def dkwX1_comes_0 : List UInt8 := [42, 180, 0, 29, 180, 0, 82, 42, 180, 0, 29, 180, 0, 79, 43, 83, 42, 180, 0, 29, 89, 180, 0, 79]
abbrev dktX1_comes_0 : List UInt8 := dkwX1_comes_0 ++ dktX1_comes_1
theorem dksX1_comes_0 : cX1_comes.data.toList.drop 0 = dktX1_comes_0 := by decide +kernel
theorem dksX1_comes_1 : cX1_comes.data.toList.drop 24 = dktX1_comes_1 := dk_seg dksX1_comes_0 24 rfl rfl
theorem dX1_comes_0 : decode cX1_comes 0 = .ok (.aload_n 0, 1) := dk_42 (dk_at dksX1_comes_0 0 rfl rfl)
theorem dX1_comes_1 : decode cX1_comes 1 = .ok (.getfield 29, 3) := dk_180 0 29 (dk_at dksX1_comes_0 1 rfl rfl)
theorem dX1_comes_4 : decode cX1_comes 4 = .ok (.getfield 82, 3) := dk_180 0 82 (dk_at dksX1_comes_0 4 rfl rfl)
theorem dX1_comes_7 : decode cX1_comes 7 = .ok (.aload_n 0, 1) := dk_42 (dk_at dksX1_comes_0 7 rfl rfl)
theorem dX1_comes_8 : decode cX1_comes 8 = .ok (.getfield 29, 3) := dk_180 0 29 (dk_at dksX1_comes_0 8 rfl rfl)
theorem dX1_comes_11 : decode cX1_comes 11 = .ok (.getfield 79, 3) := dk_180 0 79 (dk_at dksX1_comes_0 11 rfl rfl)
theorem dX1_comes_14 : decode cX1_comes 14 = .ok (.aload_n 1, 1) := dk_43 (dk_at dksX1_comes_0 14 rfl rfl)
theorem dX1_comes_15 : decode cX1_comes 15 = .ok (.aastore, 1) := dk_83 (dk_at dksX1_comes_0 15 rfl rfl)
theorem dX1_comes_16 : decode cX1_comes 16 = .ok (.aload_n 0, 1) := dk_42 (dk_at dksX1_comes_0 16 rfl rfl)
theorem dX1_comes_17 : decode cX1_comes 17 = .ok (.getfield 29, 3) := dk_180 0 29 (dk_at dksX1_comes_0 17 rfl rfl)
theorem dX1_comes_20 : decode cX1_comes 20 = .ok (.dup, 1) := dk_89 (dk_at dksX1_comes_0 20 rfl rfl)
theorem dX1_comes_21 : decode cX1_comes 21 = .ok (.getfield 79, 3) := dk_180 0 79 (dk_at dksX1_comes_0 21 rfl rfl)
theorem dX1_comes_24 : decode cX1_comes 24 = .ok (.iconst 1, 1) := dk_4 (dk_at dksX1_comes_1 0 rfl rfl)
theorem dX1_comes_25 : decode cX1_comes 25 = .ok (.iadd, 1) := dk_96 (dk_at dksX1_comes_1 1 rfl rfl)
theorem dX1_comes_26 : decode cX1_comes 26 = .ok (.putfield 79, 3) := dk_181 0 79 (dk_at dksX1_comes_1 2 rfl rfl)
theorem dX1_comes_29 : decode cX1_comes 29 = .ok (.aload_n 0, 1) := dk_42 (dk_at dksX1_comes_1 5 rfl rfl)
theorem dX1_comes_30 : decode cX1_comes 30 = .ok (.getfield 29, 3) := dk_180 0 29 (dk_at dksX1_comes_1 6 rfl rfl)
theorem dX1_comes_33 : decode cX1_comes 33 = .ok (.getfield 79, 3) := dk_180 0 79 (dk_at dksX1_comes_1 9 rfl rfl)
theorem dX1_comes_36 : decode cX1_comes 36 = .ok (.iconst 1, 1) := dk_4 (dk_at dksX1_comes_1 12 rfl rfl)
theorem dX1_comes_37 : decode cX1_comes 37 = .ok (.isub, 1) := dk_100 (dk_at dksX1_comes_1 13 rfl rfl)
theorem dX1_comes_38 : decode cX1_comes 38 = .ok (.ireturn, 1) := dk_172 (dk_at dksX1_comes_1 14 rfl rfl)
abbrev cX1_other : ByteArray := prog_1_method_32_code
def yX1_other : MethodName := ⟨RX1, "other", "(IIII)I"⟩
def dkwX1_other_5 : List UInt8 := [29, 21, 4, 183, 0, 215, 167, 0, 14, 187, 0, 216, 89, 28, 29, 21, 4, 183, 0, 218, 182, 0, 204, 172]
abbrev dktX1_other_5 : List UInt8 := dkwX1_other_5 ++ []
def dkwX1_other_4 : List UInt8 := [187, 0, 208, 89, 28, 29, 21, 4, 183, 0, 210, 167, 0, 33, 27, 5, 160, 0, 17, 187, 0, 213, 89, 28]
abbrev dktX1_other_4 : List UInt8 := dkwX1_other_4 ++ dktX1_other_5
def dkwX1_other_3 : List UInt8 := [180, 0, 79, 16, 120, 162, 0, 7, 4, 167, 0, 4, 3, 184, 0, 118, 42, 27, 4, 160, 0, 17]
abbrev dktX1_other_3 : List UInt8 := dkwX1_other_3 ++ dktX1_other_4
def dkwX1_other_2 : List UInt8 := [6, 160, 0, 15, 21, 4, 184, 0, 114, 153, 0, 7, 4, 167, 0, 4, 3, 184, 0, 103, 42, 180, 0, 29]
abbrev dktX1_other_2 : List UInt8 := dkwX1_other_2 ++ dktX1_other_3
def dkwX1_other_1 : List UInt8 := [184, 0, 68, 154, 0, 33, 27, 5, 160, 0, 15, 21, 4, 4, 17, 0, 255, 184, 0, 68, 154, 0, 16, 27]
abbrev dktX1_other_1 : List UInt8 := dkwX1_other_1 ++ dktX1_other_2
def dkwX1_other_0 : List UInt8 := [28, 184, 0, 100, 29, 3, 16, 9, 184, 0, 68, 153, 0, 52, 27, 4, 160, 0, 13, 21, 4, 3, 4]
abbrev dktX1_other_0 : List UInt8 := dkwX1_other_0 ++ dktX1_other_1
theorem dksX1_other_0 : cX1_other.data.toList.drop 0 = dktX1_other_0 := by decide +kernel
theorem dksX1_other_1 : cX1_other.data.toList.drop 23 = dktX1_other_1 := dk_seg dksX1_other_0 23 rfl rfl
theorem dksX1_other_2 : cX1_other.data.toList.drop 47 = dktX1_other_2 := dk_seg dksX1_other_1 24 rfl rfl
theorem dksX1_other_3 : cX1_other.data.toList.drop 71 = dktX1_other_3 := dk_seg dksX1_other_2 24 rfl rfl
theorem dksX1_other_4 : cX1_other.data.toList.drop 93 = dktX1_other_4 := dk_seg dksX1_other_3 22 rfl rfl
theorem dksX1_other_5 : cX1_other.data.toList.drop 117 = dktX1_other_5 := dk_seg dksX1_other_4 24 rfl rfl
theorem dX1_other_0 : decode cX1_other 0 = .ok (.iload_n 2, 1) := dk_28 (dk_at dksX1_other_0 0 rfl rfl)
theorem dX1_other_1 : decode cX1_other 1 = .ok (.invokestatic 100, 3) := dk_184 0 100 (dk_at dksX1_other_0 1 rfl rfl)
theorem dX1_other_4 : decode cX1_other 4 = .ok (.iload_n 3, 1) := dk_29 (dk_at dksX1_other_0 4 rfl rfl)
theorem dX1_other_5 : decode cX1_other 5 = .ok (.iconst 0, 1) := dk_3 (dk_at dksX1_other_0 5 rfl rfl)
theorem dX1_other_6 : decode cX1_other 6 = .ok (.bipush 9, 2) := dk_16 9 (dk_at dksX1_other_0 6 rfl rfl)
theorem dX1_other_8 : decode cX1_other 8 = .ok (.invokestatic 68, 3) := dk_184 0 68 (dk_at dksX1_other_0 8 rfl rfl)
theorem dX1_other_11 : decode cX1_other 11 = .ok (.ifCond .eq 52, 3) := dk_153 0 52 (dk_at dksX1_other_0 11 rfl rfl)
theorem dX1_other_14 : decode cX1_other 14 = .ok (.iload_n 1, 1) := dk_27 (dk_at dksX1_other_0 14 rfl rfl)
theorem dX1_other_15 : decode cX1_other 15 = .ok (.iconst 1, 1) := dk_4 (dk_at dksX1_other_0 15 rfl rfl)
theorem dX1_other_16 : decode cX1_other 16 = .ok (.if_icmp .ne 13, 3) := dk_160 0 13 (dk_at dksX1_other_0 16 rfl rfl)
theorem dX1_other_19 : decode cX1_other 19 = .ok (.iload 4, 2) := dk_21 4 (dk_at dksX1_other_0 19 rfl rfl)
theorem dX1_other_21 : decode cX1_other 21 = .ok (.iconst 0, 1) := dk_3 (dk_at dksX1_other_0 21 rfl rfl)
theorem dX1_other_22 : decode cX1_other 22 = .ok (.iconst 1, 1) := dk_4 (dk_at dksX1_other_0 22 rfl rfl)
theorem dX1_other_23 : decode cX1_other 23 = .ok (.invokestatic 68, 3) := dk_184 0 68 (dk_at dksX1_other_1 0 rfl rfl)
theorem dX1_other_26 : decode cX1_other 26 = .ok (.ifCond .ne 33, 3) := dk_154 0 33 (dk_at dksX1_other_1 3 rfl rfl)
theorem dX1_other_29 : decode cX1_other 29 = .ok (.iload_n 1, 1) := dk_27 (dk_at dksX1_other_1 6 rfl rfl)
theorem dX1_other_30 : decode cX1_other 30 = .ok (.iconst 2, 1) := dk_5 (dk_at dksX1_other_1 7 rfl rfl)
theorem dX1_other_31 : decode cX1_other 31 = .ok (.if_icmp .ne 15, 3) := dk_160 0 15 (dk_at dksX1_other_1 8 rfl rfl)
theorem dX1_other_34 : decode cX1_other 34 = .ok (.iload 4, 2) := dk_21 4 (dk_at dksX1_other_1 11 rfl rfl)
theorem dX1_other_36 : decode cX1_other 36 = .ok (.iconst 1, 1) := dk_4 (dk_at dksX1_other_1 13 rfl rfl)
theorem dX1_other_37 : decode cX1_other 37 = .ok (.sipush 255, 3) := dk_17 0 255 (dk_at dksX1_other_1 14 rfl rfl)
theorem dX1_other_40 : decode cX1_other 40 = .ok (.invokestatic 68, 3) := dk_184 0 68 (dk_at dksX1_other_1 17 rfl rfl)
theorem dX1_other_43 : decode cX1_other 43 = .ok (.ifCond .ne 16, 3) := dk_154 0 16 (dk_at dksX1_other_1 20 rfl rfl)
theorem dX1_other_46 : decode cX1_other 46 = .ok (.iload_n 1, 1) := dk_27 (dk_at dksX1_other_1 23 rfl rfl)
theorem dX1_other_47 : decode cX1_other 47 = .ok (.iconst 3, 1) := dk_6 (dk_at dksX1_other_2 0 rfl rfl)
theorem dX1_other_48 : decode cX1_other 48 = .ok (.if_icmp .ne 15, 3) := dk_160 0 15 (dk_at dksX1_other_2 1 rfl rfl)
theorem dX1_other_51 : decode cX1_other 51 = .ok (.iload 4, 2) := dk_21 4 (dk_at dksX1_other_2 4 rfl rfl)
theorem dX1_other_53 : decode cX1_other 53 = .ok (.invokestatic 114, 3) := dk_184 0 114 (dk_at dksX1_other_2 6 rfl rfl)
theorem dX1_other_56 : decode cX1_other 56 = .ok (.ifCond .eq 7, 3) := dk_153 0 7 (dk_at dksX1_other_2 9 rfl rfl)
theorem dX1_other_59 : decode cX1_other 59 = .ok (.iconst 1, 1) := dk_4 (dk_at dksX1_other_2 12 rfl rfl)
theorem dX1_other_60 : decode cX1_other 60 = .ok (.goto 4, 3) := dk_167 0 4 (dk_at dksX1_other_2 13 rfl rfl)
theorem dX1_other_63 : decode cX1_other 63 = .ok (.iconst 0, 1) := dk_3 (dk_at dksX1_other_2 16 rfl rfl)
theorem dX1_other_64 : decode cX1_other 64 = .ok (.invokestatic 103, 3) := dk_184 0 103 (dk_at dksX1_other_2 17 rfl rfl)
theorem dX1_other_67 : decode cX1_other 67 = .ok (.aload_n 0, 1) := dk_42 (dk_at dksX1_other_2 20 rfl rfl)
theorem dX1_other_68 : decode cX1_other 68 = .ok (.getfield 29, 3) := dk_180 0 29 (dk_at dksX1_other_2 21 rfl rfl)
theorem dX1_other_71 : decode cX1_other 71 = .ok (.getfield 79, 3) := dk_180 0 79 (dk_at dksX1_other_3 0 rfl rfl)
theorem dX1_other_74 : decode cX1_other 74 = .ok (.bipush 120, 2) := dk_16 120 (dk_at dksX1_other_3 3 rfl rfl)
theorem dX1_other_76 : decode cX1_other 76 = .ok (.if_icmp .ge 7, 3) := dk_162 0 7 (dk_at dksX1_other_3 5 rfl rfl)
theorem dX1_other_79 : decode cX1_other 79 = .ok (.iconst 1, 1) := dk_4 (dk_at dksX1_other_3 8 rfl rfl)
theorem dX1_other_80 : decode cX1_other 80 = .ok (.goto 4, 3) := dk_167 0 4 (dk_at dksX1_other_3 9 rfl rfl)
theorem dX1_other_83 : decode cX1_other 83 = .ok (.iconst 0, 1) := dk_3 (dk_at dksX1_other_3 12 rfl rfl)
theorem dX1_other_84 : decode cX1_other 84 = .ok (.invokestatic 118, 3) := dk_184 0 118 (dk_at dksX1_other_3 13 rfl rfl)
theorem dX1_other_87 : decode cX1_other 87 = .ok (.aload_n 0, 1) := dk_42 (dk_at dksX1_other_3 16 rfl rfl)
theorem dX1_other_88 : decode cX1_other 88 = .ok (.iload_n 1, 1) := dk_27 (dk_at dksX1_other_3 17 rfl rfl)
theorem dX1_other_89 : decode cX1_other 89 = .ok (.iconst 1, 1) := dk_4 (dk_at dksX1_other_3 18 rfl rfl)
theorem dX1_other_90 : decode cX1_other 90 = .ok (.if_icmp .ne 17, 3) := dk_160 0 17 (dk_at dksX1_other_3 19 rfl rfl)
theorem dX1_other_93 : decode cX1_other 93 = .ok (.new 208, 3) := dk_187 0 208 (dk_at dksX1_other_4 0 rfl rfl)
theorem dX1_other_96 : decode cX1_other 96 = .ok (.dup, 1) := dk_89 (dk_at dksX1_other_4 3 rfl rfl)
theorem dX1_other_97 : decode cX1_other 97 = .ok (.iload_n 2, 1) := dk_28 (dk_at dksX1_other_4 4 rfl rfl)
theorem dX1_other_98 : decode cX1_other 98 = .ok (.iload_n 3, 1) := dk_29 (dk_at dksX1_other_4 5 rfl rfl)
theorem dX1_other_99 : decode cX1_other 99 = .ok (.iload 4, 2) := dk_21 4 (dk_at dksX1_other_4 6 rfl rfl)
theorem dX1_other_101 : decode cX1_other 101 = .ok (.invokespecial 210, 3) := dk_183 0 210 (dk_at dksX1_other_4 8 rfl rfl)
theorem dX1_other_104 : decode cX1_other 104 = .ok (.goto 33, 3) := dk_167 0 33 (dk_at dksX1_other_4 11 rfl rfl)
theorem dX1_other_107 : decode cX1_other 107 = .ok (.iload_n 1, 1) := dk_27 (dk_at dksX1_other_4 14 rfl rfl)
theorem dX1_other_108 : decode cX1_other 108 = .ok (.iconst 2, 1) := dk_5 (dk_at dksX1_other_4 15 rfl rfl)
theorem dX1_other_109 : decode cX1_other 109 = .ok (.if_icmp .ne 17, 3) := dk_160 0 17 (dk_at dksX1_other_4 16 rfl rfl)
theorem dX1_other_112 : decode cX1_other 112 = .ok (.new 213, 3) := dk_187 0 213 (dk_at dksX1_other_4 19 rfl rfl)
theorem dX1_other_115 : decode cX1_other 115 = .ok (.dup, 1) := dk_89 (dk_at dksX1_other_4 22 rfl rfl)
theorem dX1_other_116 : decode cX1_other 116 = .ok (.iload_n 2, 1) := dk_28 (dk_at dksX1_other_4 23 rfl rfl)
theorem dX1_other_117 : decode cX1_other 117 = .ok (.iload_n 3, 1) := dk_29 (dk_at dksX1_other_5 0 rfl rfl)
theorem dX1_other_118 : decode cX1_other 118 = .ok (.iload 4, 2) := dk_21 4 (dk_at dksX1_other_5 1 rfl rfl)
theorem dX1_other_120 : decode cX1_other 120 = .ok (.invokespecial 215, 3) := dk_183 0 215 (dk_at dksX1_other_5 3 rfl rfl)
theorem dX1_other_123 : decode cX1_other 123 = .ok (.goto 14, 3) := dk_167 0 14 (dk_at dksX1_other_5 6 rfl rfl)
theorem dX1_other_126 : decode cX1_other 126 = .ok (.new 216, 3) := dk_187 0 216 (dk_at dksX1_other_5 9 rfl rfl)
theorem dX1_other_129 : decode cX1_other 129 = .ok (.dup, 1) := dk_89 (dk_at dksX1_other_5 12 rfl rfl)
theorem dX1_other_130 : decode cX1_other 130 = .ok (.iload_n 2, 1) := dk_28 (dk_at dksX1_other_5 13 rfl rfl)
theorem dX1_other_131 : decode cX1_other 131 = .ok (.iload_n 3, 1) := dk_29 (dk_at dksX1_other_5 14 rfl rfl)
theorem dX1_other_132 : decode cX1_other 132 = .ok (.iload 4, 2) := dk_21 4 (dk_at dksX1_other_5 15 rfl rfl)
theorem dX1_other_134 : decode cX1_other 134 = .ok (.invokespecial 218, 3) := dk_183 0 218 (dk_at dksX1_other_5 17 rfl rfl)
theorem dX1_other_137 : decode cX1_other 137 = .ok (.invokevirtual 204, 3) := dk_182 0 204 (dk_at dksX1_other_5 20 rfl rfl)
theorem dX1_other_140 : decode cX1_other 140 = .ok (.ireturn, 1) := dk_172 (dk_at dksX1_other_5 23 rfl rfl)
abbrev cX1_about : ByteArray := prog_1_method_33_code
def yX1_about : MethodName := ⟨RX1, "about", "(II)I"⟩
def dkwX1_about_6 : List UInt8 := [191]
abbrev dktX1_about_6 : List UInt8 := dkwX1_about_6 ++ []
def dkwX1_about_5 : List UInt8 := [153, 0, 13, 45, 192, 0, 201, 180, 0, 244, 167, 0, 6, 17, 0, 239, 172, 187, 0, 65, 89, 183, 0, 67]
abbrev dktX1_about_5 : List UInt8 := dkwX1_about_5 ++ dktX1_about_6
def dkwX1_about_4 : List UInt8 := [193, 0, 201, 153, 0, 13, 45, 192, 0, 201, 180, 0, 241, 167, 0, 4, 3, 172, 45, 193, 0, 201]
abbrev dktX1_about_4 : List UInt8 := dkwX1_about_4 ++ dktX1_about_5
def dkwX1_about_3 : List UInt8 := [27, 182, 0, 236, 153, 0, 7, 4, 167, 0, 4, 3, 172, 42, 180, 0, 29, 45, 182, 0, 239, 172, 45]
abbrev dktX1_about_3 : List UInt8 := dkwX1_about_3 ++ dktX1_about_4
def dkwX1_about_2 : List UInt8 := [45, 182, 0, 223, 172, 45, 182, 0, 228, 172, 45, 182, 0, 230, 172, 45, 182, 0, 233, 172, 42, 180, 0, 29]
abbrev dktX1_about_2 : List UInt8 := dkwX1_about_2 ++ dktX1_about_3
def dkwX1_about_1 : List UInt8 := [170, 0, 0, 0, 131, 0, 0, 0, 0, 0, 0, 0, 7, 0, 0, 0, 45, 0, 0, 0, 50, 0, 0, 0, 55, 0, 0, 0, 60, 0, 0, 0, 65, 0, 0, 0, 82, 0, 0, 0, 91, 0, 0, 0, 110]
abbrev dktX1_about_1 : List UInt8 := dkwX1_about_1 ++ dktX1_about_2
def dkwX1_about_0 : List UInt8 := [42, 27, 182, 0, 219, 78, 28]
abbrev dktX1_about_0 : List UInt8 := dkwX1_about_0 ++ dktX1_about_1
theorem dksX1_about_0 : cX1_about.data.toList.drop 0 = dktX1_about_0 := by decide +kernel
theorem dksX1_about_1 : cX1_about.data.toList.drop 7 = dktX1_about_1 := dk_seg dksX1_about_0 7 rfl rfl
theorem dksX1_about_2 : cX1_about.data.toList.drop 52 = dktX1_about_2 := dk_seg dksX1_about_1 45 rfl rfl
theorem dksX1_about_3 : cX1_about.data.toList.drop 76 = dktX1_about_3 := dk_seg dksX1_about_2 24 rfl rfl
theorem dksX1_about_4 : cX1_about.data.toList.drop 99 = dktX1_about_4 := dk_seg dksX1_about_3 23 rfl rfl
theorem dksX1_about_5 : cX1_about.data.toList.drop 121 = dktX1_about_5 := dk_seg dksX1_about_4 22 rfl rfl
theorem dksX1_about_6 : cX1_about.data.toList.drop 145 = dktX1_about_6 := dk_seg dksX1_about_5 24 rfl rfl
theorem dX1_about_0 : decode cX1_about 0 = .ok (.aload_n 0, 1) := dk_42 (dk_at dksX1_about_0 0 rfl rfl)
theorem dX1_about_1 : decode cX1_about 1 = .ok (.iload_n 1, 1) := dk_27 (dk_at dksX1_about_0 1 rfl rfl)
theorem dX1_about_2 : decode cX1_about 2 = .ok (.invokevirtual 219, 3) := dk_182 0 219 (dk_at dksX1_about_0 2 rfl rfl)
theorem dX1_about_5 : decode cX1_about 5 = .ok (.astore_n 3, 1) := dk_78 (dk_at dksX1_about_0 5 rfl rfl)
theorem dX1_about_6 : decode cX1_about 6 = .ok (.iload_n 2, 1) := dk_28 (dk_at dksX1_about_0 6 rfl rfl)
theorem dX1_about_7 : decode cX1_about 7 = .ok (.tableswitch 131 0 7 #[45, 50, 55, 60, 65, 82, 91, 110], 45) := by decide +kernel
theorem dX1_about_52 : decode cX1_about 52 = .ok (.aload_n 3, 1) := dk_45 (dk_at dksX1_about_2 0 rfl rfl)
theorem dX1_about_53 : decode cX1_about 53 = .ok (.invokevirtual 223, 3) := dk_182 0 223 (dk_at dksX1_about_2 1 rfl rfl)
theorem dX1_about_56 : decode cX1_about 56 = .ok (.ireturn, 1) := dk_172 (dk_at dksX1_about_2 4 rfl rfl)
theorem dX1_about_57 : decode cX1_about 57 = .ok (.aload_n 3, 1) := dk_45 (dk_at dksX1_about_2 5 rfl rfl)
theorem dX1_about_58 : decode cX1_about 58 = .ok (.invokevirtual 228, 3) := dk_182 0 228 (dk_at dksX1_about_2 6 rfl rfl)
theorem dX1_about_61 : decode cX1_about 61 = .ok (.ireturn, 1) := dk_172 (dk_at dksX1_about_2 9 rfl rfl)
theorem dX1_about_62 : decode cX1_about 62 = .ok (.aload_n 3, 1) := dk_45 (dk_at dksX1_about_2 10 rfl rfl)
theorem dX1_about_63 : decode cX1_about 63 = .ok (.invokevirtual 230, 3) := dk_182 0 230 (dk_at dksX1_about_2 11 rfl rfl)
theorem dX1_about_66 : decode cX1_about 66 = .ok (.ireturn, 1) := dk_172 (dk_at dksX1_about_2 14 rfl rfl)
theorem dX1_about_67 : decode cX1_about 67 = .ok (.aload_n 3, 1) := dk_45 (dk_at dksX1_about_2 15 rfl rfl)
theorem dX1_about_68 : decode cX1_about 68 = .ok (.invokevirtual 233, 3) := dk_182 0 233 (dk_at dksX1_about_2 16 rfl rfl)
theorem dX1_about_71 : decode cX1_about 71 = .ok (.ireturn, 1) := dk_172 (dk_at dksX1_about_2 19 rfl rfl)
theorem dX1_about_72 : decode cX1_about 72 = .ok (.aload_n 0, 1) := dk_42 (dk_at dksX1_about_2 20 rfl rfl)
theorem dX1_about_73 : decode cX1_about 73 = .ok (.getfield 29, 3) := dk_180 0 29 (dk_at dksX1_about_2 21 rfl rfl)
theorem dX1_about_76 : decode cX1_about 76 = .ok (.iload_n 1, 1) := dk_27 (dk_at dksX1_about_3 0 rfl rfl)
theorem dX1_about_77 : decode cX1_about 77 = .ok (.invokevirtual 236, 3) := dk_182 0 236 (dk_at dksX1_about_3 1 rfl rfl)
theorem dX1_about_80 : decode cX1_about 80 = .ok (.ifCond .eq 7, 3) := dk_153 0 7 (dk_at dksX1_about_3 4 rfl rfl)
theorem dX1_about_83 : decode cX1_about 83 = .ok (.iconst 1, 1) := dk_4 (dk_at dksX1_about_3 7 rfl rfl)
theorem dX1_about_84 : decode cX1_about 84 = .ok (.goto 4, 3) := dk_167 0 4 (dk_at dksX1_about_3 8 rfl rfl)
theorem dX1_about_87 : decode cX1_about 87 = .ok (.iconst 0, 1) := dk_3 (dk_at dksX1_about_3 11 rfl rfl)
theorem dX1_about_88 : decode cX1_about 88 = .ok (.ireturn, 1) := dk_172 (dk_at dksX1_about_3 12 rfl rfl)
theorem dX1_about_89 : decode cX1_about 89 = .ok (.aload_n 0, 1) := dk_42 (dk_at dksX1_about_3 13 rfl rfl)
theorem dX1_about_90 : decode cX1_about 90 = .ok (.getfield 29, 3) := dk_180 0 29 (dk_at dksX1_about_3 14 rfl rfl)
theorem dX1_about_93 : decode cX1_about 93 = .ok (.aload_n 3, 1) := dk_45 (dk_at dksX1_about_3 17 rfl rfl)
theorem dX1_about_94 : decode cX1_about 94 = .ok (.invokevirtual 239, 3) := dk_182 0 239 (dk_at dksX1_about_3 18 rfl rfl)
theorem dX1_about_97 : decode cX1_about 97 = .ok (.ireturn, 1) := dk_172 (dk_at dksX1_about_3 21 rfl rfl)
theorem dX1_about_98 : decode cX1_about 98 = .ok (.aload_n 3, 1) := dk_45 (dk_at dksX1_about_3 22 rfl rfl)
theorem dX1_about_99 : decode cX1_about 99 = .ok (.instanceof 201, 3) := dk_193 0 201 (dk_at dksX1_about_4 0 rfl rfl)
theorem dX1_about_102 : decode cX1_about 102 = .ok (.ifCond .eq 13, 3) := dk_153 0 13 (dk_at dksX1_about_4 3 rfl rfl)
theorem dX1_about_105 : decode cX1_about 105 = .ok (.aload_n 3, 1) := dk_45 (dk_at dksX1_about_4 6 rfl rfl)
theorem dX1_about_106 : decode cX1_about 106 = .ok (.checkcast 201, 3) := dk_192 0 201 (dk_at dksX1_about_4 7 rfl rfl)
theorem dX1_about_109 : decode cX1_about 109 = .ok (.getfield 241, 3) := dk_180 0 241 (dk_at dksX1_about_4 10 rfl rfl)
theorem dX1_about_112 : decode cX1_about 112 = .ok (.goto 4, 3) := dk_167 0 4 (dk_at dksX1_about_4 13 rfl rfl)
theorem dX1_about_115 : decode cX1_about 115 = .ok (.iconst 0, 1) := dk_3 (dk_at dksX1_about_4 16 rfl rfl)
theorem dX1_about_116 : decode cX1_about 116 = .ok (.ireturn, 1) := dk_172 (dk_at dksX1_about_4 17 rfl rfl)
theorem dX1_about_117 : decode cX1_about 117 = .ok (.aload_n 3, 1) := dk_45 (dk_at dksX1_about_4 18 rfl rfl)
theorem dX1_about_118 : decode cX1_about 118 = .ok (.instanceof 201, 3) := dk_193 0 201 (dk_at dksX1_about_4 19 rfl rfl)
theorem dX1_about_121 : decode cX1_about 121 = .ok (.ifCond .eq 13, 3) := dk_153 0 13 (dk_at dksX1_about_5 0 rfl rfl)
theorem dX1_about_124 : decode cX1_about 124 = .ok (.aload_n 3, 1) := dk_45 (dk_at dksX1_about_5 3 rfl rfl)
theorem dX1_about_125 : decode cX1_about 125 = .ok (.checkcast 201, 3) := dk_192 0 201 (dk_at dksX1_about_5 4 rfl rfl)
theorem dX1_about_128 : decode cX1_about 128 = .ok (.getfield 244, 3) := dk_180 0 244 (dk_at dksX1_about_5 7 rfl rfl)
theorem dX1_about_131 : decode cX1_about 131 = .ok (.goto 6, 3) := dk_167 0 6 (dk_at dksX1_about_5 10 rfl rfl)
theorem dX1_about_134 : decode cX1_about 134 = .ok (.sipush 239, 3) := dk_17 0 239 (dk_at dksX1_about_5 13 rfl rfl)
theorem dX1_about_137 : decode cX1_about 137 = .ok (.ireturn, 1) := dk_172 (dk_at dksX1_about_5 16 rfl rfl)
theorem dX1_about_138 : decode cX1_about 138 = .ok (.new 65, 3) := dk_187 0 65 (dk_at dksX1_about_5 17 rfl rfl)
theorem dX1_about_141 : decode cX1_about 141 = .ok (.dup, 1) := dk_89 (dk_at dksX1_about_5 20 rfl rfl)
theorem dX1_about_142 : decode cX1_about 142 = .ok (.invokespecial 67, 3) := dk_183 0 67 (dk_at dksX1_about_5 21 rfl rfl)
theorem dX1_about_145 : decode cX1_about 145 = .ok (.athrow, 1) := dk_191 (dk_at dksX1_about_6 0 rfl rfl)
abbrev cX1_findAt : ByteArray := prog_1_method_12_code
def yX1_findAt : MethodName := ⟨RX1, "findAt", "(I)LGrassField$Find;"⟩
def dkwX1_findAt_1 : List UInt8 := [27, 50, 176]
abbrev dktX1_findAt_1 : List UInt8 := dkwX1_findAt_1 ++ []
def dkwX1_findAt_0 : List UInt8 := [27, 3, 42, 180, 0, 29, 180, 0, 79, 4, 100, 184, 0, 68, 184, 0, 72, 42, 180, 0, 29, 180, 0, 82]
abbrev dktX1_findAt_0 : List UInt8 := dkwX1_findAt_0 ++ dktX1_findAt_1
theorem dksX1_findAt_0 : cX1_findAt.data.toList.drop 0 = dktX1_findAt_0 := by decide +kernel
theorem dksX1_findAt_1 : cX1_findAt.data.toList.drop 24 = dktX1_findAt_1 := dk_seg dksX1_findAt_0 24 rfl rfl
theorem dX1_findAt_0 : decode cX1_findAt 0 = .ok (.iload_n 1, 1) := dk_27 (dk_at dksX1_findAt_0 0 rfl rfl)
theorem dX1_findAt_1 : decode cX1_findAt 1 = .ok (.iconst 0, 1) := dk_3 (dk_at dksX1_findAt_0 1 rfl rfl)
theorem dX1_findAt_2 : decode cX1_findAt 2 = .ok (.aload_n 0, 1) := dk_42 (dk_at dksX1_findAt_0 2 rfl rfl)
theorem dX1_findAt_3 : decode cX1_findAt 3 = .ok (.getfield 29, 3) := dk_180 0 29 (dk_at dksX1_findAt_0 3 rfl rfl)
theorem dX1_findAt_6 : decode cX1_findAt 6 = .ok (.getfield 79, 3) := dk_180 0 79 (dk_at dksX1_findAt_0 6 rfl rfl)
theorem dX1_findAt_9 : decode cX1_findAt 9 = .ok (.iconst 1, 1) := dk_4 (dk_at dksX1_findAt_0 9 rfl rfl)
theorem dX1_findAt_10 : decode cX1_findAt 10 = .ok (.isub, 1) := dk_100 (dk_at dksX1_findAt_0 10 rfl rfl)
theorem dX1_findAt_11 : decode cX1_findAt 11 = .ok (.invokestatic 68, 3) := dk_184 0 68 (dk_at dksX1_findAt_0 11 rfl rfl)
theorem dX1_findAt_14 : decode cX1_findAt 14 = .ok (.invokestatic 72, 3) := dk_184 0 72 (dk_at dksX1_findAt_0 14 rfl rfl)
theorem dX1_findAt_17 : decode cX1_findAt 17 = .ok (.aload_n 0, 1) := dk_42 (dk_at dksX1_findAt_0 17 rfl rfl)
theorem dX1_findAt_18 : decode cX1_findAt 18 = .ok (.getfield 29, 3) := dk_180 0 29 (dk_at dksX1_findAt_0 18 rfl rfl)
theorem dX1_findAt_21 : decode cX1_findAt 21 = .ok (.getfield 82, 3) := dk_180 0 82 (dk_at dksX1_findAt_0 21 rfl rfl)
theorem dX1_findAt_24 : decode cX1_findAt 24 = .ok (.iload_n 1, 1) := dk_27 (dk_at dksX1_findAt_1 0 rfl rfl)
theorem dX1_findAt_25 : decode cX1_findAt 25 = .ok (.aaload, 1) := dk_50 (dk_at dksX1_findAt_1 1 rfl rfl)
theorem dX1_findAt_26 : decode cX1_findAt 26 = .ok (.areturn, 1) := dk_176 (dk_at dksX1_findAt_1 2 rfl rfl)
abbrev cX1_when : ByteArray := prog_1_method_34_code
def yX1_when : MethodName := ⟨RX1, "when", "(III)V"⟩
def dkwX1_when_3 : List UInt8 := [182, 0, 233, 28, 29, 183, 0, 203, 83, 177]
abbrev dktX1_when_3 : List UInt8 := dkwX1_when_3 ++ []
def dkwX1_when_2 : List UInt8 := [180, 0, 29, 180, 0, 82, 27, 187, 0, 201, 89, 25, 4, 182, 0, 228, 25, 4, 182, 0, 230, 25, 4]
abbrev dktX1_when_2 : List UInt8 := dkwX1_when_2 ++ dktX1_when_3
def dkwX1_when_1 : List UInt8 := [153, 0, 18, 29, 28, 17, 0, 239, 184, 0, 68, 153, 0, 7, 4, 167, 0, 4, 3, 184, 0, 103, 42]
abbrev dktX1_when_1 : List UInt8 := dkwX1_when_1 ++ dktX1_when_2
def dkwX1_when_0 : List UInt8 := [42, 27, 182, 0, 219, 58, 4, 25, 4, 182, 0, 223, 154, 0, 29, 28, 3, 17, 0, 239, 184, 0, 68]
abbrev dktX1_when_0 : List UInt8 := dkwX1_when_0 ++ dktX1_when_1
theorem dksX1_when_0 : cX1_when.data.toList.drop 0 = dktX1_when_0 := by decide +kernel
theorem dksX1_when_1 : cX1_when.data.toList.drop 23 = dktX1_when_1 := dk_seg dksX1_when_0 23 rfl rfl
theorem dksX1_when_2 : cX1_when.data.toList.drop 46 = dktX1_when_2 := dk_seg dksX1_when_1 23 rfl rfl
theorem dksX1_when_3 : cX1_when.data.toList.drop 69 = dktX1_when_3 := dk_seg dksX1_when_2 23 rfl rfl
theorem dX1_when_0 : decode cX1_when 0 = .ok (.aload_n 0, 1) := dk_42 (dk_at dksX1_when_0 0 rfl rfl)
theorem dX1_when_1 : decode cX1_when 1 = .ok (.iload_n 1, 1) := dk_27 (dk_at dksX1_when_0 1 rfl rfl)
theorem dX1_when_2 : decode cX1_when 2 = .ok (.invokevirtual 219, 3) := dk_182 0 219 (dk_at dksX1_when_0 2 rfl rfl)
theorem dX1_when_5 : decode cX1_when 5 = .ok (.astore 4, 2) := dk_58 4 (dk_at dksX1_when_0 5 rfl rfl)
theorem dX1_when_7 : decode cX1_when 7 = .ok (.aload 4, 2) := dk_25 4 (dk_at dksX1_when_0 7 rfl rfl)
theorem dX1_when_9 : decode cX1_when 9 = .ok (.invokevirtual 223, 3) := dk_182 0 223 (dk_at dksX1_when_0 9 rfl rfl)
theorem dX1_when_12 : decode cX1_when 12 = .ok (.ifCond .ne 29, 3) := dk_154 0 29 (dk_at dksX1_when_0 12 rfl rfl)
theorem dX1_when_15 : decode cX1_when 15 = .ok (.iload_n 2, 1) := dk_28 (dk_at dksX1_when_0 15 rfl rfl)
theorem dX1_when_16 : decode cX1_when 16 = .ok (.iconst 0, 1) := dk_3 (dk_at dksX1_when_0 16 rfl rfl)
theorem dX1_when_17 : decode cX1_when 17 = .ok (.sipush 239, 3) := dk_17 0 239 (dk_at dksX1_when_0 17 rfl rfl)
theorem dX1_when_20 : decode cX1_when 20 = .ok (.invokestatic 68, 3) := dk_184 0 68 (dk_at dksX1_when_0 20 rfl rfl)
theorem dX1_when_23 : decode cX1_when 23 = .ok (.ifCond .eq 18, 3) := dk_153 0 18 (dk_at dksX1_when_1 0 rfl rfl)
theorem dX1_when_26 : decode cX1_when 26 = .ok (.iload_n 3, 1) := dk_29 (dk_at dksX1_when_1 3 rfl rfl)
theorem dX1_when_27 : decode cX1_when 27 = .ok (.iload_n 2, 1) := dk_28 (dk_at dksX1_when_1 4 rfl rfl)
theorem dX1_when_28 : decode cX1_when 28 = .ok (.sipush 239, 3) := dk_17 0 239 (dk_at dksX1_when_1 5 rfl rfl)
theorem dX1_when_31 : decode cX1_when 31 = .ok (.invokestatic 68, 3) := dk_184 0 68 (dk_at dksX1_when_1 8 rfl rfl)
theorem dX1_when_34 : decode cX1_when 34 = .ok (.ifCond .eq 7, 3) := dk_153 0 7 (dk_at dksX1_when_1 11 rfl rfl)
theorem dX1_when_37 : decode cX1_when 37 = .ok (.iconst 1, 1) := dk_4 (dk_at dksX1_when_1 14 rfl rfl)
theorem dX1_when_38 : decode cX1_when 38 = .ok (.goto 4, 3) := dk_167 0 4 (dk_at dksX1_when_1 15 rfl rfl)
theorem dX1_when_41 : decode cX1_when 41 = .ok (.iconst 0, 1) := dk_3 (dk_at dksX1_when_1 18 rfl rfl)
theorem dX1_when_42 : decode cX1_when 42 = .ok (.invokestatic 103, 3) := dk_184 0 103 (dk_at dksX1_when_1 19 rfl rfl)
theorem dX1_when_45 : decode cX1_when 45 = .ok (.aload_n 0, 1) := dk_42 (dk_at dksX1_when_1 22 rfl rfl)
theorem dX1_when_46 : decode cX1_when 46 = .ok (.getfield 29, 3) := dk_180 0 29 (dk_at dksX1_when_2 0 rfl rfl)
theorem dX1_when_49 : decode cX1_when 49 = .ok (.getfield 82, 3) := dk_180 0 82 (dk_at dksX1_when_2 3 rfl rfl)
theorem dX1_when_52 : decode cX1_when 52 = .ok (.iload_n 1, 1) := dk_27 (dk_at dksX1_when_2 6 rfl rfl)
theorem dX1_when_53 : decode cX1_when 53 = .ok (.new 201, 3) := dk_187 0 201 (dk_at dksX1_when_2 7 rfl rfl)
theorem dX1_when_56 : decode cX1_when 56 = .ok (.dup, 1) := dk_89 (dk_at dksX1_when_2 10 rfl rfl)
theorem dX1_when_57 : decode cX1_when 57 = .ok (.aload 4, 2) := dk_25 4 (dk_at dksX1_when_2 11 rfl rfl)
theorem dX1_when_59 : decode cX1_when 59 = .ok (.invokevirtual 228, 3) := dk_182 0 228 (dk_at dksX1_when_2 13 rfl rfl)
theorem dX1_when_62 : decode cX1_when 62 = .ok (.aload 4, 2) := dk_25 4 (dk_at dksX1_when_2 16 rfl rfl)
theorem dX1_when_64 : decode cX1_when 64 = .ok (.invokevirtual 230, 3) := dk_182 0 230 (dk_at dksX1_when_2 18 rfl rfl)
theorem dX1_when_67 : decode cX1_when 67 = .ok (.aload 4, 2) := dk_25 4 (dk_at dksX1_when_2 21 rfl rfl)
theorem dX1_when_69 : decode cX1_when 69 = .ok (.invokevirtual 233, 3) := dk_182 0 233 (dk_at dksX1_when_3 0 rfl rfl)
theorem dX1_when_72 : decode cX1_when 72 = .ok (.iload_n 2, 1) := dk_28 (dk_at dksX1_when_3 3 rfl rfl)
theorem dX1_when_73 : decode cX1_when 73 = .ok (.iload_n 3, 1) := dk_29 (dk_at dksX1_when_3 4 rfl rfl)
theorem dX1_when_74 : decode cX1_when 74 = .ok (.invokespecial 203, 3) := dk_183 0 203 (dk_at dksX1_when_3 5 rfl rfl)
theorem dX1_when_77 : decode cX1_when 77 = .ok (.aastore, 1) := dk_83 (dk_at dksX1_when_3 8 rfl rfl)
theorem dX1_when_78 : decode cX1_when 78 = .ok (.return_, 1) := dk_177 (dk_at dksX1_when_3 9 rfl rfl)
abbrev cX1_machine : ByteArray := prog_1_method_35_code
def yX1_machine : MethodName := ⟨RX1, "machine", "(II)V"⟩
def dkwX1_machine_1 : List UInt8 := [184, 0, 103, 42, 180, 0, 29, 27, 181, 0, 247, 42, 180, 0, 29, 28, 181, 0, 250, 177]
abbrev dktX1_machine_1 : List UInt8 := dkwX1_machine_1 ++ []
def dkwX1_machine_0 : List UInt8 := [27, 3, 16, 9, 184, 0, 68, 153, 0, 16, 28, 3, 6, 184, 0, 68, 153, 0, 7, 4, 167, 0, 4, 3]
abbrev dktX1_machine_0 : List UInt8 := dkwX1_machine_0 ++ dktX1_machine_1
theorem dksX1_machine_0 : cX1_machine.data.toList.drop 0 = dktX1_machine_0 := by decide +kernel
theorem dksX1_machine_1 : cX1_machine.data.toList.drop 24 = dktX1_machine_1 := dk_seg dksX1_machine_0 24 rfl rfl
theorem dX1_machine_0 : decode cX1_machine 0 = .ok (.iload_n 1, 1) := dk_27 (dk_at dksX1_machine_0 0 rfl rfl)
theorem dX1_machine_1 : decode cX1_machine 1 = .ok (.iconst 0, 1) := dk_3 (dk_at dksX1_machine_0 1 rfl rfl)
theorem dX1_machine_2 : decode cX1_machine 2 = .ok (.bipush 9, 2) := dk_16 9 (dk_at dksX1_machine_0 2 rfl rfl)
theorem dX1_machine_4 : decode cX1_machine 4 = .ok (.invokestatic 68, 3) := dk_184 0 68 (dk_at dksX1_machine_0 4 rfl rfl)
theorem dX1_machine_7 : decode cX1_machine 7 = .ok (.ifCond .eq 16, 3) := dk_153 0 16 (dk_at dksX1_machine_0 7 rfl rfl)
theorem dX1_machine_10 : decode cX1_machine 10 = .ok (.iload_n 2, 1) := dk_28 (dk_at dksX1_machine_0 10 rfl rfl)
theorem dX1_machine_11 : decode cX1_machine 11 = .ok (.iconst 0, 1) := dk_3 (dk_at dksX1_machine_0 11 rfl rfl)
theorem dX1_machine_12 : decode cX1_machine 12 = .ok (.iconst 3, 1) := dk_6 (dk_at dksX1_machine_0 12 rfl rfl)
theorem dX1_machine_13 : decode cX1_machine 13 = .ok (.invokestatic 68, 3) := dk_184 0 68 (dk_at dksX1_machine_0 13 rfl rfl)
theorem dX1_machine_16 : decode cX1_machine 16 = .ok (.ifCond .eq 7, 3) := dk_153 0 7 (dk_at dksX1_machine_0 16 rfl rfl)
theorem dX1_machine_19 : decode cX1_machine 19 = .ok (.iconst 1, 1) := dk_4 (dk_at dksX1_machine_0 19 rfl rfl)
theorem dX1_machine_20 : decode cX1_machine 20 = .ok (.goto 4, 3) := dk_167 0 4 (dk_at dksX1_machine_0 20 rfl rfl)
theorem dX1_machine_23 : decode cX1_machine 23 = .ok (.iconst 0, 1) := dk_3 (dk_at dksX1_machine_0 23 rfl rfl)
theorem dX1_machine_24 : decode cX1_machine 24 = .ok (.invokestatic 103, 3) := dk_184 0 103 (dk_at dksX1_machine_1 0 rfl rfl)
theorem dX1_machine_27 : decode cX1_machine 27 = .ok (.aload_n 0, 1) := dk_42 (dk_at dksX1_machine_1 3 rfl rfl)
theorem dX1_machine_28 : decode cX1_machine 28 = .ok (.getfield 29, 3) := dk_180 0 29 (dk_at dksX1_machine_1 4 rfl rfl)
theorem dX1_machine_31 : decode cX1_machine 31 = .ok (.iload_n 1, 1) := dk_27 (dk_at dksX1_machine_1 7 rfl rfl)
theorem dX1_machine_32 : decode cX1_machine 32 = .ok (.putfield 247, 3) := dk_181 0 247 (dk_at dksX1_machine_1 8 rfl rfl)
theorem dX1_machine_35 : decode cX1_machine 35 = .ok (.aload_n 0, 1) := dk_42 (dk_at dksX1_machine_1 11 rfl rfl)
theorem dX1_machine_36 : decode cX1_machine 36 = .ok (.getfield 29, 3) := dk_180 0 29 (dk_at dksX1_machine_1 12 rfl rfl)
theorem dX1_machine_39 : decode cX1_machine 39 = .ok (.iload_n 2, 1) := dk_28 (dk_at dksX1_machine_1 15 rfl rfl)
theorem dX1_machine_40 : decode cX1_machine 40 = .ok (.putfield 250, 3) := dk_181 0 250 (dk_at dksX1_machine_1 16 rfl rfl)
theorem dX1_machine_43 : decode cX1_machine 43 = .ok (.return_, 1) := dk_177 (dk_at dksX1_machine_1 19 rfl rfl)
abbrev cX1_walk : ByteArray := prog_1_method_36_code
def yX1_walk : MethodName := ⟨RX1, "walk", "(I)I"⟩
def dkwX1_walk_1 : List UInt8 := [181, 1, 3, 42, 180, 0, 29, 182, 1, 0, 28, 100, 172]
abbrev dktX1_walk_1 : List UInt8 := dkwX1_walk_1 ++ []
def dkwX1_walk_0 : List UInt8 := [27, 184, 0, 253, 42, 180, 0, 29, 182, 1, 0, 61, 42, 180, 0, 29, 89, 180, 1, 3, 4, 27, 120, 128]
abbrev dktX1_walk_0 : List UInt8 := dkwX1_walk_0 ++ dktX1_walk_1
theorem dksX1_walk_0 : cX1_walk.data.toList.drop 0 = dktX1_walk_0 := by decide +kernel
theorem dksX1_walk_1 : cX1_walk.data.toList.drop 24 = dktX1_walk_1 := dk_seg dksX1_walk_0 24 rfl rfl
theorem dX1_walk_0 : decode cX1_walk 0 = .ok (.iload_n 1, 1) := dk_27 (dk_at dksX1_walk_0 0 rfl rfl)
theorem dX1_walk_1 : decode cX1_walk 1 = .ok (.invokestatic 253, 3) := dk_184 0 253 (dk_at dksX1_walk_0 1 rfl rfl)
theorem dX1_walk_4 : decode cX1_walk 4 = .ok (.aload_n 0, 1) := dk_42 (dk_at dksX1_walk_0 4 rfl rfl)
theorem dX1_walk_5 : decode cX1_walk 5 = .ok (.getfield 29, 3) := dk_180 0 29 (dk_at dksX1_walk_0 5 rfl rfl)
theorem dX1_walk_8 : decode cX1_walk 8 = .ok (.invokevirtual 256, 3) := dk_182 1 0 (dk_at dksX1_walk_0 8 rfl rfl)
theorem dX1_walk_11 : decode cX1_walk 11 = .ok (.istore_n 2, 1) := dk_61 (dk_at dksX1_walk_0 11 rfl rfl)
theorem dX1_walk_12 : decode cX1_walk 12 = .ok (.aload_n 0, 1) := dk_42 (dk_at dksX1_walk_0 12 rfl rfl)
theorem dX1_walk_13 : decode cX1_walk 13 = .ok (.getfield 29, 3) := dk_180 0 29 (dk_at dksX1_walk_0 13 rfl rfl)
theorem dX1_walk_16 : decode cX1_walk 16 = .ok (.dup, 1) := dk_89 (dk_at dksX1_walk_0 16 rfl rfl)
theorem dX1_walk_17 : decode cX1_walk 17 = .ok (.getfield 259, 3) := dk_180 1 3 (dk_at dksX1_walk_0 17 rfl rfl)
theorem dX1_walk_20 : decode cX1_walk 20 = .ok (.iconst 1, 1) := dk_4 (dk_at dksX1_walk_0 20 rfl rfl)
theorem dX1_walk_21 : decode cX1_walk 21 = .ok (.iload_n 1, 1) := dk_27 (dk_at dksX1_walk_0 21 rfl rfl)
theorem dX1_walk_22 : decode cX1_walk 22 = .ok (.ishl, 1) := dk_120 (dk_at dksX1_walk_0 22 rfl rfl)
theorem dX1_walk_23 : decode cX1_walk 23 = .ok (.ior, 1) := dk_128 (dk_at dksX1_walk_0 23 rfl rfl)
theorem dX1_walk_24 : decode cX1_walk 24 = .ok (.putfield 259, 3) := dk_181 1 3 (dk_at dksX1_walk_1 0 rfl rfl)
theorem dX1_walk_27 : decode cX1_walk 27 = .ok (.aload_n 0, 1) := dk_42 (dk_at dksX1_walk_1 3 rfl rfl)
theorem dX1_walk_28 : decode cX1_walk 28 = .ok (.getfield 29, 3) := dk_180 0 29 (dk_at dksX1_walk_1 4 rfl rfl)
theorem dX1_walk_31 : decode cX1_walk 31 = .ok (.invokevirtual 256, 3) := dk_182 1 0 (dk_at dksX1_walk_1 7 rfl rfl)
theorem dX1_walk_34 : decode cX1_walk 34 = .ok (.iload_n 2, 1) := dk_28 (dk_at dksX1_walk_1 10 rfl rfl)
theorem dX1_walk_35 : decode cX1_walk 35 = .ok (.isub, 1) := dk_100 (dk_at dksX1_walk_1 11 rfl rfl)
theorem dX1_walk_36 : decode cX1_walk 36 = .ok (.ireturn, 1) := dk_172 (dk_at dksX1_walk_1 12 rfl rfl)
abbrev cX1_isRow : ByteArray := prog_1_method_9_code
def yX1_isRow : MethodName := ⟨RX1, "isRow", "(I)V"⟩
def dkwX1_isRow_0 : List UInt8 := [26, 3, 16, 15, 184, 0, 68, 184, 0, 72, 177]
abbrev dktX1_isRow_0 : List UInt8 := dkwX1_isRow_0 ++ []
theorem dksX1_isRow_0 : cX1_isRow.data.toList.drop 0 = dktX1_isRow_0 := by decide +kernel
theorem dX1_isRow_0 : decode cX1_isRow 0 = .ok (.iload_n 0, 1) := dk_26 (dk_at dksX1_isRow_0 0 rfl rfl)
theorem dX1_isRow_1 : decode cX1_isRow 1 = .ok (.iconst 0, 1) := dk_3 (dk_at dksX1_isRow_0 1 rfl rfl)
theorem dX1_isRow_2 : decode cX1_isRow 2 = .ok (.bipush 15, 2) := dk_16 15 (dk_at dksX1_isRow_0 2 rfl rfl)
theorem dX1_isRow_4 : decode cX1_isRow 4 = .ok (.invokestatic 68, 3) := dk_184 0 68 (dk_at dksX1_isRow_0 4 rfl rfl)
theorem dX1_isRow_7 : decode cX1_isRow 7 = .ok (.invokestatic 72, 3) := dk_184 0 72 (dk_at dksX1_isRow_0 7 rfl rfl)
theorem dX1_isRow_10 : decode cX1_isRow 10 = .ok (.return_, 1) := dk_177 (dk_at dksX1_isRow_0 10 rfl rfl)
abbrev cX1_needed : ByteArray := prog_1_method_38_code
def yX1_needed : MethodName := ⟨RX1, "needed", "(II)I"⟩
def dkwX1_needed_0 : List UInt8 := [27, 184, 0, 100, 28, 184, 0, 100, 42, 180, 0, 29, 27, 28, 182, 1, 6, 172]
abbrev dktX1_needed_0 : List UInt8 := dkwX1_needed_0 ++ []
theorem dksX1_needed_0 : cX1_needed.data.toList.drop 0 = dktX1_needed_0 := by decide +kernel
theorem dX1_needed_0 : decode cX1_needed 0 = .ok (.iload_n 1, 1) := dk_27 (dk_at dksX1_needed_0 0 rfl rfl)
theorem dX1_needed_1 : decode cX1_needed 1 = .ok (.invokestatic 100, 3) := dk_184 0 100 (dk_at dksX1_needed_0 1 rfl rfl)
theorem dX1_needed_4 : decode cX1_needed 4 = .ok (.iload_n 2, 1) := dk_28 (dk_at dksX1_needed_0 4 rfl rfl)
theorem dX1_needed_5 : decode cX1_needed 5 = .ok (.invokestatic 100, 3) := dk_184 0 100 (dk_at dksX1_needed_0 5 rfl rfl)
theorem dX1_needed_8 : decode cX1_needed 8 = .ok (.aload_n 0, 1) := dk_42 (dk_at dksX1_needed_0 8 rfl rfl)
theorem dX1_needed_9 : decode cX1_needed 9 = .ok (.getfield 29, 3) := dk_180 0 29 (dk_at dksX1_needed_0 9 rfl rfl)
theorem dX1_needed_12 : decode cX1_needed 12 = .ok (.iload_n 1, 1) := dk_27 (dk_at dksX1_needed_0 12 rfl rfl)
theorem dX1_needed_13 : decode cX1_needed 13 = .ok (.iload_n 2, 1) := dk_28 (dk_at dksX1_needed_0 13 rfl rfl)
theorem dX1_needed_14 : decode cX1_needed 14 = .ok (.invokevirtual 262, 3) := dk_182 1 6 (dk_at dksX1_needed_0 14 rfl rfl)
theorem dX1_needed_17 : decode cX1_needed 17 = .ok (.ireturn, 1) := dk_172 (dk_at dksX1_needed_0 17 rfl rfl)
abbrev cX1_same : ByteArray := prog_1_method_39_code
def yX1_same : MethodName := ⟨RX1, "same", "(III)I"⟩
def dkwX1_same_3 : List UInt8 := [21, 4, 21, 5, 126, 184, 1, 15, 167, 0, 14, 21, 4, 184, 1, 15, 21, 5, 184, 1, 15, 104, 172]
abbrev dktX1_same_3 : List UInt8 := dkwX1_same_3 ++ []
def dkwX1_same_2 : List UInt8 := [153, 0, 7, 4, 167, 0, 4, 3, 184, 0, 103, 29, 3, 4, 184, 0, 68, 184, 1, 12, 29, 154, 0, 14]
abbrev dktX1_same_2 : List UInt8 := dkwX1_same_2 ++ dktX1_same_3
def dkwX1_same_1 : List UInt8 := [182, 0, 239, 54, 5, 42, 180, 0, 29, 27, 182, 1, 9, 153, 0, 18, 42, 180, 0, 29, 28, 182, 1, 9]
abbrev dktX1_same_1 : List UInt8 := dkwX1_same_1 ++ dktX1_same_2
def dkwX1_same_0 : List UInt8 := [42, 180, 0, 29, 42, 27, 182, 0, 219, 182, 0, 239, 54, 4, 42, 180, 0, 29, 42, 28, 182, 0, 219]
abbrev dktX1_same_0 : List UInt8 := dkwX1_same_0 ++ dktX1_same_1
theorem dksX1_same_0 : cX1_same.data.toList.drop 0 = dktX1_same_0 := by decide +kernel
theorem dksX1_same_1 : cX1_same.data.toList.drop 23 = dktX1_same_1 := dk_seg dksX1_same_0 23 rfl rfl
theorem dksX1_same_2 : cX1_same.data.toList.drop 47 = dktX1_same_2 := dk_seg dksX1_same_1 24 rfl rfl
theorem dksX1_same_3 : cX1_same.data.toList.drop 71 = dktX1_same_3 := dk_seg dksX1_same_2 24 rfl rfl
theorem dX1_same_0 : decode cX1_same 0 = .ok (.aload_n 0, 1) := dk_42 (dk_at dksX1_same_0 0 rfl rfl)
theorem dX1_same_1 : decode cX1_same 1 = .ok (.getfield 29, 3) := dk_180 0 29 (dk_at dksX1_same_0 1 rfl rfl)
theorem dX1_same_4 : decode cX1_same 4 = .ok (.aload_n 0, 1) := dk_42 (dk_at dksX1_same_0 4 rfl rfl)
theorem dX1_same_5 : decode cX1_same 5 = .ok (.iload_n 1, 1) := dk_27 (dk_at dksX1_same_0 5 rfl rfl)
theorem dX1_same_6 : decode cX1_same 6 = .ok (.invokevirtual 219, 3) := dk_182 0 219 (dk_at dksX1_same_0 6 rfl rfl)
theorem dX1_same_9 : decode cX1_same 9 = .ok (.invokevirtual 239, 3) := dk_182 0 239 (dk_at dksX1_same_0 9 rfl rfl)
theorem dX1_same_12 : decode cX1_same 12 = .ok (.istore 4, 2) := dk_54 4 (dk_at dksX1_same_0 12 rfl rfl)
theorem dX1_same_14 : decode cX1_same 14 = .ok (.aload_n 0, 1) := dk_42 (dk_at dksX1_same_0 14 rfl rfl)
theorem dX1_same_15 : decode cX1_same 15 = .ok (.getfield 29, 3) := dk_180 0 29 (dk_at dksX1_same_0 15 rfl rfl)
theorem dX1_same_18 : decode cX1_same 18 = .ok (.aload_n 0, 1) := dk_42 (dk_at dksX1_same_0 18 rfl rfl)
theorem dX1_same_19 : decode cX1_same 19 = .ok (.iload_n 2, 1) := dk_28 (dk_at dksX1_same_0 19 rfl rfl)
theorem dX1_same_20 : decode cX1_same 20 = .ok (.invokevirtual 219, 3) := dk_182 0 219 (dk_at dksX1_same_0 20 rfl rfl)
theorem dX1_same_23 : decode cX1_same 23 = .ok (.invokevirtual 239, 3) := dk_182 0 239 (dk_at dksX1_same_1 0 rfl rfl)
theorem dX1_same_26 : decode cX1_same 26 = .ok (.istore 5, 2) := dk_54 5 (dk_at dksX1_same_1 3 rfl rfl)
theorem dX1_same_28 : decode cX1_same 28 = .ok (.aload_n 0, 1) := dk_42 (dk_at dksX1_same_1 5 rfl rfl)
theorem dX1_same_29 : decode cX1_same 29 = .ok (.getfield 29, 3) := dk_180 0 29 (dk_at dksX1_same_1 6 rfl rfl)
theorem dX1_same_32 : decode cX1_same 32 = .ok (.iload_n 1, 1) := dk_27 (dk_at dksX1_same_1 9 rfl rfl)
theorem dX1_same_33 : decode cX1_same 33 = .ok (.invokevirtual 265, 3) := dk_182 1 9 (dk_at dksX1_same_1 10 rfl rfl)
theorem dX1_same_36 : decode cX1_same 36 = .ok (.ifCond .eq 18, 3) := dk_153 0 18 (dk_at dksX1_same_1 13 rfl rfl)
theorem dX1_same_39 : decode cX1_same 39 = .ok (.aload_n 0, 1) := dk_42 (dk_at dksX1_same_1 16 rfl rfl)
theorem dX1_same_40 : decode cX1_same 40 = .ok (.getfield 29, 3) := dk_180 0 29 (dk_at dksX1_same_1 17 rfl rfl)
theorem dX1_same_43 : decode cX1_same 43 = .ok (.iload_n 2, 1) := dk_28 (dk_at dksX1_same_1 20 rfl rfl)
theorem dX1_same_44 : decode cX1_same 44 = .ok (.invokevirtual 265, 3) := dk_182 1 9 (dk_at dksX1_same_1 21 rfl rfl)
theorem dX1_same_47 : decode cX1_same 47 = .ok (.ifCond .eq 7, 3) := dk_153 0 7 (dk_at dksX1_same_2 0 rfl rfl)
theorem dX1_same_50 : decode cX1_same 50 = .ok (.iconst 1, 1) := dk_4 (dk_at dksX1_same_2 3 rfl rfl)
theorem dX1_same_51 : decode cX1_same 51 = .ok (.goto 4, 3) := dk_167 0 4 (dk_at dksX1_same_2 4 rfl rfl)
theorem dX1_same_54 : decode cX1_same 54 = .ok (.iconst 0, 1) := dk_3 (dk_at dksX1_same_2 7 rfl rfl)
theorem dX1_same_55 : decode cX1_same 55 = .ok (.invokestatic 103, 3) := dk_184 0 103 (dk_at dksX1_same_2 8 rfl rfl)
theorem dX1_same_58 : decode cX1_same 58 = .ok (.iload_n 3, 1) := dk_29 (dk_at dksX1_same_2 11 rfl rfl)
theorem dX1_same_59 : decode cX1_same 59 = .ok (.iconst 0, 1) := dk_3 (dk_at dksX1_same_2 12 rfl rfl)
theorem dX1_same_60 : decode cX1_same 60 = .ok (.iconst 1, 1) := dk_4 (dk_at dksX1_same_2 13 rfl rfl)
theorem dX1_same_61 : decode cX1_same 61 = .ok (.invokestatic 68, 3) := dk_184 0 68 (dk_at dksX1_same_2 14 rfl rfl)
theorem dX1_same_64 : decode cX1_same 64 = .ok (.invokestatic 268, 3) := dk_184 1 12 (dk_at dksX1_same_2 17 rfl rfl)
theorem dX1_same_67 : decode cX1_same 67 = .ok (.iload_n 3, 1) := dk_29 (dk_at dksX1_same_2 20 rfl rfl)
theorem dX1_same_68 : decode cX1_same 68 = .ok (.ifCond .ne 14, 3) := dk_154 0 14 (dk_at dksX1_same_2 21 rfl rfl)
theorem dX1_same_71 : decode cX1_same 71 = .ok (.iload 4, 2) := dk_21 4 (dk_at dksX1_same_3 0 rfl rfl)
theorem dX1_same_73 : decode cX1_same 73 = .ok (.iload 5, 2) := dk_21 5 (dk_at dksX1_same_3 2 rfl rfl)
theorem dX1_same_75 : decode cX1_same 75 = .ok (.iand, 1) := dk_126 (dk_at dksX1_same_3 4 rfl rfl)
theorem dX1_same_76 : decode cX1_same 76 = .ok (.invokestatic 271, 3) := dk_184 1 15 (dk_at dksX1_same_3 5 rfl rfl)
theorem dX1_same_79 : decode cX1_same 79 = .ok (.goto 14, 3) := dk_167 0 14 (dk_at dksX1_same_3 8 rfl rfl)
theorem dX1_same_82 : decode cX1_same 82 = .ok (.iload 4, 2) := dk_21 4 (dk_at dksX1_same_3 11 rfl rfl)
theorem dX1_same_84 : decode cX1_same 84 = .ok (.invokestatic 271, 3) := dk_184 1 15 (dk_at dksX1_same_3 13 rfl rfl)
theorem dX1_same_87 : decode cX1_same 87 = .ok (.iload 5, 2) := dk_21 5 (dk_at dksX1_same_3 16 rfl rfl)
theorem dX1_same_89 : decode cX1_same 89 = .ok (.invokestatic 271, 3) := dk_184 1 15 (dk_at dksX1_same_3 18 rfl rfl)
theorem dX1_same_92 : decode cX1_same 92 = .ok (.imul, 1) := dk_104 (dk_at dksX1_same_3 21 rfl rfl)
theorem dX1_same_93 : decode cX1_same 93 = .ok (.ireturn, 1) := dk_172 (dk_at dksX1_same_3 22 rfl rfl)
abbrev cX1_thereIs : ByteArray := prog_1_method_6_code
def yX1_thereIs : MethodName := ⟨RX1, "thereIs", "(Z)V"⟩
def dkwX1_thereIs_0 : List UInt8 := [26, 154, 0, 11, 187, 0, 65, 89, 183, 0, 67, 191, 177]
abbrev dktX1_thereIs_0 : List UInt8 := dkwX1_thereIs_0 ++ []
theorem dksX1_thereIs_0 : cX1_thereIs.data.toList.drop 0 = dktX1_thereIs_0 := by decide +kernel
theorem dX1_thereIs_0 : decode cX1_thereIs 0 = .ok (.iload_n 0, 1) := dk_26 (dk_at dksX1_thereIs_0 0 rfl rfl)
theorem dX1_thereIs_1 : decode cX1_thereIs 1 = .ok (.ifCond .ne 11, 3) := dk_154 0 11 (dk_at dksX1_thereIs_0 1 rfl rfl)
theorem dX1_thereIs_4 : decode cX1_thereIs 4 = .ok (.new 65, 3) := dk_187 0 65 (dk_at dksX1_thereIs_0 4 rfl rfl)
theorem dX1_thereIs_7 : decode cX1_thereIs 7 = .ok (.dup, 1) := dk_89 (dk_at dksX1_thereIs_0 7 rfl rfl)
theorem dX1_thereIs_8 : decode cX1_thereIs 8 = .ok (.invokespecial 67, 3) := dk_183 0 67 (dk_at dksX1_thereIs_0 8 rfl rfl)
theorem dX1_thereIs_11 : decode cX1_thereIs 11 = .ok (.athrow, 1) := dk_191 (dk_at dksX1_thereIs_0 11 rfl rfl)
theorem dX1_thereIs_12 : decode cX1_thereIs 12 = .ok (.return_, 1) := dk_177 (dk_at dksX1_thereIs_0 12 rfl rfl)
abbrev cX1_later : ByteArray := prog_1_method_40_code
def yX1_later : MethodName := ⟨RX1, "later", "(I)I"⟩
def dkwX1_later_10 : List UInt8 := [29, 96, 167, 0, 14, 27, 4, 160, 0, 7, 29, 167, 0, 5, 21, 4, 172]
abbrev dktX1_later_10 : List UInt8 := dkwX1_later_10 ++ []
def dkwX1_later_9 : List UInt8 := [21, 7, 154, 0, 7, 4, 167, 0, 4, 3, 96, 54, 4, 132, 5, 1, 167, 255, 54, 27, 154, 0, 9, 28]
abbrev dktX1_later_9 : List UInt8 := dkwX1_later_9 ++ dktX1_later_10
def dkwX1_later_8 : List UInt8 := [54, 8, 132, 9, 1, 167, 255, 196, 29, 21, 8, 153, 0, 7, 4, 167, 0, 4, 3, 96, 62, 21, 4]
abbrev dktX1_later_8 : List UInt8 := dkwX1_later_8 ++ dktX1_later_9
def dkwX1_later_7 : List UInt8 := [180, 0, 121, 21, 9, 50, 180, 1, 20, 42, 180, 0, 29, 180, 0, 130, 164, 0, 7, 4, 167, 0, 4, 3]
abbrev dktX1_later_7 : List UInt8 := dkwX1_later_7 ++ dktX1_later_8
def dkwX1_later_6 : List UInt8 := [162, 0, 54, 21, 8, 153, 0, 40, 21, 7, 21, 9, 122, 4, 126, 153, 0, 26, 42, 180, 0, 29]
abbrev dktX1_later_6 : List UInt8 := dkwX1_later_6 ++ dktX1_later_7
def dkwX1_later_5 : List UInt8 := [153, 0, 7, 4, 167, 0, 4, 3, 54, 8, 3, 54, 9, 21, 9, 42, 180, 0, 29, 180, 0, 76]
abbrev dktX1_later_5 : List UInt8 := dkwX1_later_5 ++ dktX1_later_6
def dkwX1_later_4 : List UInt8 := [182, 0, 223, 153, 0, 6, 167, 0, 120, 42, 180, 0, 29, 25, 6, 182, 0, 239, 54, 7, 21, 7]
abbrev dktX1_later_4 : List UInt8 := dkwX1_later_4 ++ dktX1_later_5
def dkwX1_later_3 : List UInt8 := [182, 0, 233, 42, 180, 0, 29, 180, 0, 130, 164, 0, 7, 4, 167, 0, 4, 3, 96, 61, 25, 6]
abbrev dktX1_later_3 : List UInt8 := dkwX1_later_3 ++ dktX1_later_4
def dkwX1_later_2 : List UInt8 := [42, 180, 0, 29, 180, 0, 82, 21, 5, 50, 58, 6, 28, 25, 6, 182, 0, 223, 6, 160, 0, 22, 25, 6]
abbrev dktX1_later_2 : List UInt8 := dkwX1_later_2 ++ dktX1_later_3
def dkwX1_later_1 : List UInt8 := [180, 0, 29, 180, 0, 79, 162, 0, 196, 42, 180, 0, 29, 21, 5, 182, 0, 236, 154, 0, 6, 167, 0, 175]
abbrev dktX1_later_1 : List UInt8 := dkwX1_later_1 ++ dktX1_later_2
def dkwX1_later_0 : List UInt8 := [27, 3, 5, 184, 0, 68, 184, 1, 12, 3, 61, 3, 62, 3, 54, 4, 3, 54, 5, 21, 5, 42]
abbrev dktX1_later_0 : List UInt8 := dkwX1_later_0 ++ dktX1_later_1
theorem dksX1_later_0 : cX1_later.data.toList.drop 0 = dktX1_later_0 := by decide +kernel
theorem dksX1_later_1 : cX1_later.data.toList.drop 22 = dktX1_later_1 := dk_seg dksX1_later_0 22 rfl rfl
theorem dksX1_later_2 : cX1_later.data.toList.drop 46 = dktX1_later_2 := dk_seg dksX1_later_1 24 rfl rfl
theorem dksX1_later_3 : cX1_later.data.toList.drop 70 = dktX1_later_3 := dk_seg dksX1_later_2 24 rfl rfl
theorem dksX1_later_4 : cX1_later.data.toList.drop 92 = dktX1_later_4 := dk_seg dksX1_later_3 22 rfl rfl
theorem dksX1_later_5 : cX1_later.data.toList.drop 114 = dktX1_later_5 := dk_seg dksX1_later_4 22 rfl rfl
theorem dksX1_later_6 : cX1_later.data.toList.drop 136 = dktX1_later_6 := dk_seg dksX1_later_5 22 rfl rfl
theorem dksX1_later_7 : cX1_later.data.toList.drop 158 = dktX1_later_7 := dk_seg dksX1_later_6 22 rfl rfl
theorem dksX1_later_8 : cX1_later.data.toList.drop 182 = dktX1_later_8 := dk_seg dksX1_later_7 24 rfl rfl
theorem dksX1_later_9 : cX1_later.data.toList.drop 205 = dktX1_later_9 := dk_seg dksX1_later_8 23 rfl rfl
theorem dksX1_later_10 : cX1_later.data.toList.drop 229 = dktX1_later_10 := dk_seg dksX1_later_9 24 rfl rfl
theorem dX1_later_0 : decode cX1_later 0 = .ok (.iload_n 1, 1) := dk_27 (dk_at dksX1_later_0 0 rfl rfl)
theorem dX1_later_1 : decode cX1_later 1 = .ok (.iconst 0, 1) := dk_3 (dk_at dksX1_later_0 1 rfl rfl)
theorem dX1_later_2 : decode cX1_later 2 = .ok (.iconst 2, 1) := dk_5 (dk_at dksX1_later_0 2 rfl rfl)
theorem dX1_later_3 : decode cX1_later 3 = .ok (.invokestatic 68, 3) := dk_184 0 68 (dk_at dksX1_later_0 3 rfl rfl)
theorem dX1_later_6 : decode cX1_later 6 = .ok (.invokestatic 268, 3) := dk_184 1 12 (dk_at dksX1_later_0 6 rfl rfl)
theorem dX1_later_9 : decode cX1_later 9 = .ok (.iconst 0, 1) := dk_3 (dk_at dksX1_later_0 9 rfl rfl)
theorem dX1_later_10 : decode cX1_later 10 = .ok (.istore_n 2, 1) := dk_61 (dk_at dksX1_later_0 10 rfl rfl)
theorem dX1_later_11 : decode cX1_later 11 = .ok (.iconst 0, 1) := dk_3 (dk_at dksX1_later_0 11 rfl rfl)
theorem dX1_later_12 : decode cX1_later 12 = .ok (.istore_n 3, 1) := dk_62 (dk_at dksX1_later_0 12 rfl rfl)
theorem dX1_later_13 : decode cX1_later 13 = .ok (.iconst 0, 1) := dk_3 (dk_at dksX1_later_0 13 rfl rfl)
theorem dX1_later_14 : decode cX1_later 14 = .ok (.istore 4, 2) := dk_54 4 (dk_at dksX1_later_0 14 rfl rfl)
theorem dX1_later_16 : decode cX1_later 16 = .ok (.iconst 0, 1) := dk_3 (dk_at dksX1_later_0 16 rfl rfl)
theorem dX1_later_17 : decode cX1_later 17 = .ok (.istore 5, 2) := dk_54 5 (dk_at dksX1_later_0 17 rfl rfl)
theorem dX1_later_19 : decode cX1_later 19 = .ok (.iload 5, 2) := dk_21 5 (dk_at dksX1_later_0 19 rfl rfl)
theorem dX1_later_21 : decode cX1_later 21 = .ok (.aload_n 0, 1) := dk_42 (dk_at dksX1_later_0 21 rfl rfl)
theorem dX1_later_22 : decode cX1_later 22 = .ok (.getfield 29, 3) := dk_180 0 29 (dk_at dksX1_later_1 0 rfl rfl)
theorem dX1_later_25 : decode cX1_later 25 = .ok (.getfield 79, 3) := dk_180 0 79 (dk_at dksX1_later_1 3 rfl rfl)
theorem dX1_later_28 : decode cX1_later 28 = .ok (.if_icmp .ge 196, 3) := dk_162 0 196 (dk_at dksX1_later_1 6 rfl rfl)
theorem dX1_later_31 : decode cX1_later 31 = .ok (.aload_n 0, 1) := dk_42 (dk_at dksX1_later_1 9 rfl rfl)
theorem dX1_later_32 : decode cX1_later 32 = .ok (.getfield 29, 3) := dk_180 0 29 (dk_at dksX1_later_1 10 rfl rfl)
theorem dX1_later_35 : decode cX1_later 35 = .ok (.iload 5, 2) := dk_21 5 (dk_at dksX1_later_1 13 rfl rfl)
theorem dX1_later_37 : decode cX1_later 37 = .ok (.invokevirtual 236, 3) := dk_182 0 236 (dk_at dksX1_later_1 15 rfl rfl)
theorem dX1_later_40 : decode cX1_later 40 = .ok (.ifCond .ne 6, 3) := dk_154 0 6 (dk_at dksX1_later_1 18 rfl rfl)
theorem dX1_later_43 : decode cX1_later 43 = .ok (.goto 175, 3) := dk_167 0 175 (dk_at dksX1_later_1 21 rfl rfl)
theorem dX1_later_46 : decode cX1_later 46 = .ok (.aload_n 0, 1) := dk_42 (dk_at dksX1_later_2 0 rfl rfl)
theorem dX1_later_47 : decode cX1_later 47 = .ok (.getfield 29, 3) := dk_180 0 29 (dk_at dksX1_later_2 1 rfl rfl)
theorem dX1_later_50 : decode cX1_later 50 = .ok (.getfield 82, 3) := dk_180 0 82 (dk_at dksX1_later_2 4 rfl rfl)
theorem dX1_later_53 : decode cX1_later 53 = .ok (.iload 5, 2) := dk_21 5 (dk_at dksX1_later_2 7 rfl rfl)
theorem dX1_later_55 : decode cX1_later 55 = .ok (.aaload, 1) := dk_50 (dk_at dksX1_later_2 9 rfl rfl)
theorem dX1_later_56 : decode cX1_later 56 = .ok (.astore 6, 2) := dk_58 6 (dk_at dksX1_later_2 10 rfl rfl)
theorem dX1_later_58 : decode cX1_later 58 = .ok (.iload_n 2, 1) := dk_28 (dk_at dksX1_later_2 12 rfl rfl)
theorem dX1_later_59 : decode cX1_later 59 = .ok (.aload 6, 2) := dk_25 6 (dk_at dksX1_later_2 13 rfl rfl)
theorem dX1_later_61 : decode cX1_later 61 = .ok (.invokevirtual 223, 3) := dk_182 0 223 (dk_at dksX1_later_2 15 rfl rfl)
theorem dX1_later_64 : decode cX1_later 64 = .ok (.iconst 3, 1) := dk_6 (dk_at dksX1_later_2 18 rfl rfl)
theorem dX1_later_65 : decode cX1_later 65 = .ok (.if_icmp .ne 22, 3) := dk_160 0 22 (dk_at dksX1_later_2 19 rfl rfl)
theorem dX1_later_68 : decode cX1_later 68 = .ok (.aload 6, 2) := dk_25 6 (dk_at dksX1_later_2 22 rfl rfl)
theorem dX1_later_70 : decode cX1_later 70 = .ok (.invokevirtual 233, 3) := dk_182 0 233 (dk_at dksX1_later_3 0 rfl rfl)
theorem dX1_later_73 : decode cX1_later 73 = .ok (.aload_n 0, 1) := dk_42 (dk_at dksX1_later_3 3 rfl rfl)
theorem dX1_later_74 : decode cX1_later 74 = .ok (.getfield 29, 3) := dk_180 0 29 (dk_at dksX1_later_3 4 rfl rfl)
theorem dX1_later_77 : decode cX1_later 77 = .ok (.getfield 130, 3) := dk_180 0 130 (dk_at dksX1_later_3 7 rfl rfl)
theorem dX1_later_80 : decode cX1_later 80 = .ok (.if_icmp .le 7, 3) := dk_164 0 7 (dk_at dksX1_later_3 10 rfl rfl)
theorem dX1_later_83 : decode cX1_later 83 = .ok (.iconst 1, 1) := dk_4 (dk_at dksX1_later_3 13 rfl rfl)
theorem dX1_later_84 : decode cX1_later 84 = .ok (.goto 4, 3) := dk_167 0 4 (dk_at dksX1_later_3 14 rfl rfl)
theorem dX1_later_87 : decode cX1_later 87 = .ok (.iconst 0, 1) := dk_3 (dk_at dksX1_later_3 17 rfl rfl)
theorem dX1_later_88 : decode cX1_later 88 = .ok (.iadd, 1) := dk_96 (dk_at dksX1_later_3 18 rfl rfl)
theorem dX1_later_89 : decode cX1_later 89 = .ok (.istore_n 2, 1) := dk_61 (dk_at dksX1_later_3 19 rfl rfl)
theorem dX1_later_90 : decode cX1_later 90 = .ok (.aload 6, 2) := dk_25 6 (dk_at dksX1_later_3 20 rfl rfl)
theorem dX1_later_92 : decode cX1_later 92 = .ok (.invokevirtual 223, 3) := dk_182 0 223 (dk_at dksX1_later_4 0 rfl rfl)
theorem dX1_later_95 : decode cX1_later 95 = .ok (.ifCond .eq 6, 3) := dk_153 0 6 (dk_at dksX1_later_4 3 rfl rfl)
theorem dX1_later_98 : decode cX1_later 98 = .ok (.goto 120, 3) := dk_167 0 120 (dk_at dksX1_later_4 6 rfl rfl)
theorem dX1_later_101 : decode cX1_later 101 = .ok (.aload_n 0, 1) := dk_42 (dk_at dksX1_later_4 9 rfl rfl)
theorem dX1_later_102 : decode cX1_later 102 = .ok (.getfield 29, 3) := dk_180 0 29 (dk_at dksX1_later_4 10 rfl rfl)
theorem dX1_later_105 : decode cX1_later 105 = .ok (.aload 6, 2) := dk_25 6 (dk_at dksX1_later_4 13 rfl rfl)
theorem dX1_later_107 : decode cX1_later 107 = .ok (.invokevirtual 239, 3) := dk_182 0 239 (dk_at dksX1_later_4 15 rfl rfl)
theorem dX1_later_110 : decode cX1_later 110 = .ok (.istore 7, 2) := dk_54 7 (dk_at dksX1_later_4 18 rfl rfl)
theorem dX1_later_112 : decode cX1_later 112 = .ok (.iload 7, 2) := dk_21 7 (dk_at dksX1_later_4 20 rfl rfl)
theorem dX1_later_114 : decode cX1_later 114 = .ok (.ifCond .eq 7, 3) := dk_153 0 7 (dk_at dksX1_later_5 0 rfl rfl)
theorem dX1_later_117 : decode cX1_later 117 = .ok (.iconst 1, 1) := dk_4 (dk_at dksX1_later_5 3 rfl rfl)
theorem dX1_later_118 : decode cX1_later 118 = .ok (.goto 4, 3) := dk_167 0 4 (dk_at dksX1_later_5 4 rfl rfl)
theorem dX1_later_121 : decode cX1_later 121 = .ok (.iconst 0, 1) := dk_3 (dk_at dksX1_later_5 7 rfl rfl)
theorem dX1_later_122 : decode cX1_later 122 = .ok (.istore 8, 2) := dk_54 8 (dk_at dksX1_later_5 8 rfl rfl)
theorem dX1_later_124 : decode cX1_later 124 = .ok (.iconst 0, 1) := dk_3 (dk_at dksX1_later_5 10 rfl rfl)
theorem dX1_later_125 : decode cX1_later 125 = .ok (.istore 9, 2) := dk_54 9 (dk_at dksX1_later_5 11 rfl rfl)
theorem dX1_later_127 : decode cX1_later 127 = .ok (.iload 9, 2) := dk_21 9 (dk_at dksX1_later_5 13 rfl rfl)
theorem dX1_later_129 : decode cX1_later 129 = .ok (.aload_n 0, 1) := dk_42 (dk_at dksX1_later_5 15 rfl rfl)
theorem dX1_later_130 : decode cX1_later 130 = .ok (.getfield 29, 3) := dk_180 0 29 (dk_at dksX1_later_5 16 rfl rfl)
theorem dX1_later_133 : decode cX1_later 133 = .ok (.getfield 76, 3) := dk_180 0 76 (dk_at dksX1_later_5 19 rfl rfl)
theorem dX1_later_136 : decode cX1_later 136 = .ok (.if_icmp .ge 54, 3) := dk_162 0 54 (dk_at dksX1_later_6 0 rfl rfl)
theorem dX1_later_139 : decode cX1_later 139 = .ok (.iload 8, 2) := dk_21 8 (dk_at dksX1_later_6 3 rfl rfl)
theorem dX1_later_141 : decode cX1_later 141 = .ok (.ifCond .eq 40, 3) := dk_153 0 40 (dk_at dksX1_later_6 5 rfl rfl)
theorem dX1_later_144 : decode cX1_later 144 = .ok (.iload 7, 2) := dk_21 7 (dk_at dksX1_later_6 8 rfl rfl)
theorem dX1_later_146 : decode cX1_later 146 = .ok (.iload 9, 2) := dk_21 9 (dk_at dksX1_later_6 10 rfl rfl)
theorem dX1_later_148 : decode cX1_later 148 = .ok (.ishr, 1) := dk_122 (dk_at dksX1_later_6 12 rfl rfl)
theorem dX1_later_149 : decode cX1_later 149 = .ok (.iconst 1, 1) := dk_4 (dk_at dksX1_later_6 13 rfl rfl)
theorem dX1_later_150 : decode cX1_later 150 = .ok (.iand, 1) := dk_126 (dk_at dksX1_later_6 14 rfl rfl)
theorem dX1_later_151 : decode cX1_later 151 = .ok (.ifCond .eq 26, 3) := dk_153 0 26 (dk_at dksX1_later_6 15 rfl rfl)
theorem dX1_later_154 : decode cX1_later 154 = .ok (.aload_n 0, 1) := dk_42 (dk_at dksX1_later_6 18 rfl rfl)
theorem dX1_later_155 : decode cX1_later 155 = .ok (.getfield 29, 3) := dk_180 0 29 (dk_at dksX1_later_6 19 rfl rfl)
theorem dX1_later_158 : decode cX1_later 158 = .ok (.getfield 121, 3) := dk_180 0 121 (dk_at dksX1_later_7 0 rfl rfl)
theorem dX1_later_161 : decode cX1_later 161 = .ok (.iload 9, 2) := dk_21 9 (dk_at dksX1_later_7 3 rfl rfl)
theorem dX1_later_163 : decode cX1_later 163 = .ok (.aaload, 1) := dk_50 (dk_at dksX1_later_7 5 rfl rfl)
theorem dX1_later_164 : decode cX1_later 164 = .ok (.getfield 276, 3) := dk_180 1 20 (dk_at dksX1_later_7 6 rfl rfl)
theorem dX1_later_167 : decode cX1_later 167 = .ok (.aload_n 0, 1) := dk_42 (dk_at dksX1_later_7 9 rfl rfl)
theorem dX1_later_168 : decode cX1_later 168 = .ok (.getfield 29, 3) := dk_180 0 29 (dk_at dksX1_later_7 10 rfl rfl)
theorem dX1_later_171 : decode cX1_later 171 = .ok (.getfield 130, 3) := dk_180 0 130 (dk_at dksX1_later_7 13 rfl rfl)
theorem dX1_later_174 : decode cX1_later 174 = .ok (.if_icmp .le 7, 3) := dk_164 0 7 (dk_at dksX1_later_7 16 rfl rfl)
theorem dX1_later_177 : decode cX1_later 177 = .ok (.iconst 1, 1) := dk_4 (dk_at dksX1_later_7 19 rfl rfl)
theorem dX1_later_178 : decode cX1_later 178 = .ok (.goto 4, 3) := dk_167 0 4 (dk_at dksX1_later_7 20 rfl rfl)
theorem dX1_later_181 : decode cX1_later 181 = .ok (.iconst 0, 1) := dk_3 (dk_at dksX1_later_7 23 rfl rfl)
theorem dX1_later_182 : decode cX1_later 182 = .ok (.istore 8, 2) := dk_54 8 (dk_at dksX1_later_8 0 rfl rfl)
theorem dX1_later_184 : decode cX1_later 184 = .ok (.iinc 9 1, 3) := dk_132 9 1 (dk_at dksX1_later_8 2 rfl rfl)
theorem dX1_later_187 : decode cX1_later 187 = .ok (.goto (-60), 3) := dk_167 255 196 (dk_at dksX1_later_8 5 rfl rfl)
theorem dX1_later_190 : decode cX1_later 190 = .ok (.iload_n 3, 1) := dk_29 (dk_at dksX1_later_8 8 rfl rfl)
theorem dX1_later_191 : decode cX1_later 191 = .ok (.iload 8, 2) := dk_21 8 (dk_at dksX1_later_8 9 rfl rfl)
theorem dX1_later_193 : decode cX1_later 193 = .ok (.ifCond .eq 7, 3) := dk_153 0 7 (dk_at dksX1_later_8 11 rfl rfl)
theorem dX1_later_196 : decode cX1_later 196 = .ok (.iconst 1, 1) := dk_4 (dk_at dksX1_later_8 14 rfl rfl)
theorem dX1_later_197 : decode cX1_later 197 = .ok (.goto 4, 3) := dk_167 0 4 (dk_at dksX1_later_8 15 rfl rfl)
theorem dX1_later_200 : decode cX1_later 200 = .ok (.iconst 0, 1) := dk_3 (dk_at dksX1_later_8 18 rfl rfl)
theorem dX1_later_201 : decode cX1_later 201 = .ok (.iadd, 1) := dk_96 (dk_at dksX1_later_8 19 rfl rfl)
theorem dX1_later_202 : decode cX1_later 202 = .ok (.istore_n 3, 1) := dk_62 (dk_at dksX1_later_8 20 rfl rfl)
theorem dX1_later_203 : decode cX1_later 203 = .ok (.iload 4, 2) := dk_21 4 (dk_at dksX1_later_8 21 rfl rfl)
theorem dX1_later_205 : decode cX1_later 205 = .ok (.iload 7, 2) := dk_21 7 (dk_at dksX1_later_9 0 rfl rfl)
theorem dX1_later_207 : decode cX1_later 207 = .ok (.ifCond .ne 7, 3) := dk_154 0 7 (dk_at dksX1_later_9 2 rfl rfl)
theorem dX1_later_210 : decode cX1_later 210 = .ok (.iconst 1, 1) := dk_4 (dk_at dksX1_later_9 5 rfl rfl)
theorem dX1_later_211 : decode cX1_later 211 = .ok (.goto 4, 3) := dk_167 0 4 (dk_at dksX1_later_9 6 rfl rfl)
theorem dX1_later_214 : decode cX1_later 214 = .ok (.iconst 0, 1) := dk_3 (dk_at dksX1_later_9 9 rfl rfl)
theorem dX1_later_215 : decode cX1_later 215 = .ok (.iadd, 1) := dk_96 (dk_at dksX1_later_9 10 rfl rfl)
theorem dX1_later_216 : decode cX1_later 216 = .ok (.istore 4, 2) := dk_54 4 (dk_at dksX1_later_9 11 rfl rfl)
theorem dX1_later_218 : decode cX1_later 218 = .ok (.iinc 5 1, 3) := dk_132 5 1 (dk_at dksX1_later_9 13 rfl rfl)
theorem dX1_later_221 : decode cX1_later 221 = .ok (.goto (-202), 3) := dk_167 255 54 (dk_at dksX1_later_9 16 rfl rfl)
theorem dX1_later_224 : decode cX1_later 224 = .ok (.iload_n 1, 1) := dk_27 (dk_at dksX1_later_9 19 rfl rfl)
theorem dX1_later_225 : decode cX1_later 225 = .ok (.ifCond .ne 9, 3) := dk_154 0 9 (dk_at dksX1_later_9 20 rfl rfl)
theorem dX1_later_228 : decode cX1_later 228 = .ok (.iload_n 2, 1) := dk_28 (dk_at dksX1_later_9 23 rfl rfl)
theorem dX1_later_229 : decode cX1_later 229 = .ok (.iload_n 3, 1) := dk_29 (dk_at dksX1_later_10 0 rfl rfl)
theorem dX1_later_230 : decode cX1_later 230 = .ok (.iadd, 1) := dk_96 (dk_at dksX1_later_10 1 rfl rfl)
theorem dX1_later_231 : decode cX1_later 231 = .ok (.goto 14, 3) := dk_167 0 14 (dk_at dksX1_later_10 2 rfl rfl)
theorem dX1_later_234 : decode cX1_later 234 = .ok (.iload_n 1, 1) := dk_27 (dk_at dksX1_later_10 5 rfl rfl)
theorem dX1_later_235 : decode cX1_later 235 = .ok (.iconst 1, 1) := dk_4 (dk_at dksX1_later_10 6 rfl rfl)
theorem dX1_later_236 : decode cX1_later 236 = .ok (.if_icmp .ne 7, 3) := dk_160 0 7 (dk_at dksX1_later_10 7 rfl rfl)
theorem dX1_later_239 : decode cX1_later 239 = .ok (.iload_n 3, 1) := dk_29 (dk_at dksX1_later_10 10 rfl rfl)
theorem dX1_later_240 : decode cX1_later 240 = .ok (.goto 5, 3) := dk_167 0 5 (dk_at dksX1_later_10 11 rfl rfl)
theorem dX1_later_243 : decode cX1_later 243 = .ok (.iload 4, 2) := dk_21 4 (dk_at dksX1_later_10 14 rfl rfl)
theorem dX1_later_245 : decode cX1_later 245 = .ok (.ireturn, 1) := dk_172 (dk_at dksX1_later_10 16 rfl rfl)
abbrev cX1_way : ByteArray := prog_1_method_41_code
def yX1_way : MethodName := ⟨RX1, "way", "(II)I"⟩
def dkwX1_way_2 : List UInt8 := [182, 1, 29, 167, 0, 10, 42, 180, 0, 41, 182, 1, 32, 172]
abbrev dktX1_way_2 : List UInt8 := dkwX1_way_2 ++ []
def dkwX1_way_1 : List UInt8 := [154, 0, 13, 42, 180, 0, 41, 182, 1, 26, 167, 0, 25, 28, 4, 160, 0, 13, 42, 180, 0, 41]
abbrev dktX1_way_1 : List UInt8 := dkwX1_way_1 ++ dktX1_way_2
def dkwX1_way_0 : List UInt8 := [42, 27, 182, 0, 153, 28, 3, 5, 184, 0, 68, 184, 1, 12, 42, 180, 0, 41, 27, 182, 1, 23, 28]
abbrev dktX1_way_0 : List UInt8 := dkwX1_way_0 ++ dktX1_way_1
theorem dksX1_way_0 : cX1_way.data.toList.drop 0 = dktX1_way_0 := by decide +kernel
theorem dksX1_way_1 : cX1_way.data.toList.drop 23 = dktX1_way_1 := dk_seg dksX1_way_0 23 rfl rfl
theorem dksX1_way_2 : cX1_way.data.toList.drop 45 = dktX1_way_2 := dk_seg dksX1_way_1 22 rfl rfl
theorem dX1_way_0 : decode cX1_way 0 = .ok (.aload_n 0, 1) := dk_42 (dk_at dksX1_way_0 0 rfl rfl)
theorem dX1_way_1 : decode cX1_way 1 = .ok (.iload_n 1, 1) := dk_27 (dk_at dksX1_way_0 1 rfl rfl)
theorem dX1_way_2 : decode cX1_way 2 = .ok (.invokevirtual 153, 3) := dk_182 0 153 (dk_at dksX1_way_0 2 rfl rfl)
theorem dX1_way_5 : decode cX1_way 5 = .ok (.iload_n 2, 1) := dk_28 (dk_at dksX1_way_0 5 rfl rfl)
theorem dX1_way_6 : decode cX1_way 6 = .ok (.iconst 0, 1) := dk_3 (dk_at dksX1_way_0 6 rfl rfl)
theorem dX1_way_7 : decode cX1_way 7 = .ok (.iconst 2, 1) := dk_5 (dk_at dksX1_way_0 7 rfl rfl)
theorem dX1_way_8 : decode cX1_way 8 = .ok (.invokestatic 68, 3) := dk_184 0 68 (dk_at dksX1_way_0 8 rfl rfl)
theorem dX1_way_11 : decode cX1_way 11 = .ok (.invokestatic 268, 3) := dk_184 1 12 (dk_at dksX1_way_0 11 rfl rfl)
theorem dX1_way_14 : decode cX1_way 14 = .ok (.aload_n 0, 1) := dk_42 (dk_at dksX1_way_0 14 rfl rfl)
theorem dX1_way_15 : decode cX1_way 15 = .ok (.getfield 41, 3) := dk_180 0 41 (dk_at dksX1_way_0 15 rfl rfl)
theorem dX1_way_18 : decode cX1_way 18 = .ok (.iload_n 1, 1) := dk_27 (dk_at dksX1_way_0 18 rfl rfl)
theorem dX1_way_19 : decode cX1_way 19 = .ok (.invokevirtual 279, 3) := dk_182 1 23 (dk_at dksX1_way_0 19 rfl rfl)
theorem dX1_way_22 : decode cX1_way 22 = .ok (.iload_n 2, 1) := dk_28 (dk_at dksX1_way_0 22 rfl rfl)
theorem dX1_way_23 : decode cX1_way 23 = .ok (.ifCond .ne 13, 3) := dk_154 0 13 (dk_at dksX1_way_1 0 rfl rfl)
theorem dX1_way_26 : decode cX1_way 26 = .ok (.aload_n 0, 1) := dk_42 (dk_at dksX1_way_1 3 rfl rfl)
theorem dX1_way_27 : decode cX1_way 27 = .ok (.getfield 41, 3) := dk_180 0 41 (dk_at dksX1_way_1 4 rfl rfl)
theorem dX1_way_30 : decode cX1_way 30 = .ok (.invokevirtual 282, 3) := dk_182 1 26 (dk_at dksX1_way_1 7 rfl rfl)
theorem dX1_way_33 : decode cX1_way 33 = .ok (.goto 25, 3) := dk_167 0 25 (dk_at dksX1_way_1 10 rfl rfl)
theorem dX1_way_36 : decode cX1_way 36 = .ok (.iload_n 2, 1) := dk_28 (dk_at dksX1_way_1 13 rfl rfl)
theorem dX1_way_37 : decode cX1_way 37 = .ok (.iconst 1, 1) := dk_4 (dk_at dksX1_way_1 14 rfl rfl)
theorem dX1_way_38 : decode cX1_way 38 = .ok (.if_icmp .ne 13, 3) := dk_160 0 13 (dk_at dksX1_way_1 15 rfl rfl)
theorem dX1_way_41 : decode cX1_way 41 = .ok (.aload_n 0, 1) := dk_42 (dk_at dksX1_way_1 18 rfl rfl)
theorem dX1_way_42 : decode cX1_way 42 = .ok (.getfield 41, 3) := dk_180 0 41 (dk_at dksX1_way_1 19 rfl rfl)
theorem dX1_way_45 : decode cX1_way 45 = .ok (.invokevirtual 285, 3) := dk_182 1 29 (dk_at dksX1_way_2 0 rfl rfl)
theorem dX1_way_48 : decode cX1_way 48 = .ok (.goto 10, 3) := dk_167 0 10 (dk_at dksX1_way_2 3 rfl rfl)
theorem dX1_way_51 : decode cX1_way 51 = .ok (.aload_n 0, 1) := dk_42 (dk_at dksX1_way_2 6 rfl rfl)
theorem dX1_way_52 : decode cX1_way 52 = .ok (.getfield 41, 3) := dk_180 0 41 (dk_at dksX1_way_2 7 rfl rfl)
theorem dX1_way_55 : decode cX1_way 55 = .ok (.invokevirtual 288, 3) := dk_182 1 32 (dk_at dksX1_way_2 10 rfl rfl)
theorem dX1_way_58 : decode cX1_way 58 = .ok (.ireturn, 1) := dk_172 (dk_at dksX1_way_2 13 rfl rfl)
abbrev cX1_held : ByteArray := prog_1_method_45_code
def yX1_held : MethodName := ⟨RX1, "held", "(IIIZ)I"⟩
def dkwX1_held_3 : List UInt8 := [180, 0, 45, 21, 5, 46, 172, 132, 5, 1, 167, 255, 215, 2, 172]
abbrev dktX1_held_3 : List UInt8 := dkwX1_held_3 ++ []
def dkwX1_held_2 : List UInt8 := [162, 0, 36, 42, 21, 5, 182, 1, 41, 42, 21, 5, 4, 100, 182, 1, 41, 29, 96, 164, 0, 11, 42]
abbrev dktX1_held_2 : List UInt8 := dkwX1_held_2 ++ dktX1_held_3
def dkwX1_held_1 : List UInt8 := [21, 4, 154, 0, 9, 42, 29, 182, 1, 54, 172, 4, 54, 5, 21, 5, 4, 96, 42, 180, 1, 35]
abbrev dktX1_held_1 : List UInt8 := dkwX1_held_1 ++ dktX1_held_2
def dkwX1_held_0 : List UInt8 := [27, 184, 1, 47, 28, 184, 0, 253, 29, 3, 16, 15, 184, 0, 68, 184, 0, 103, 42, 27, 28, 182, 1, 50]
abbrev dktX1_held_0 : List UInt8 := dkwX1_held_0 ++ dktX1_held_1
theorem dksX1_held_0 : cX1_held.data.toList.drop 0 = dktX1_held_0 := by decide +kernel
theorem dksX1_held_1 : cX1_held.data.toList.drop 24 = dktX1_held_1 := dk_seg dksX1_held_0 24 rfl rfl
theorem dksX1_held_2 : cX1_held.data.toList.drop 46 = dktX1_held_2 := dk_seg dksX1_held_1 22 rfl rfl
theorem dksX1_held_3 : cX1_held.data.toList.drop 69 = dktX1_held_3 := dk_seg dksX1_held_2 23 rfl rfl
theorem dX1_held_0 : decode cX1_held 0 = .ok (.iload_n 1, 1) := dk_27 (dk_at dksX1_held_0 0 rfl rfl)
theorem dX1_held_1 : decode cX1_held 1 = .ok (.invokestatic 303, 3) := dk_184 1 47 (dk_at dksX1_held_0 1 rfl rfl)
theorem dX1_held_4 : decode cX1_held 4 = .ok (.iload_n 2, 1) := dk_28 (dk_at dksX1_held_0 4 rfl rfl)
theorem dX1_held_5 : decode cX1_held 5 = .ok (.invokestatic 253, 3) := dk_184 0 253 (dk_at dksX1_held_0 5 rfl rfl)
theorem dX1_held_8 : decode cX1_held 8 = .ok (.iload_n 3, 1) := dk_29 (dk_at dksX1_held_0 8 rfl rfl)
theorem dX1_held_9 : decode cX1_held 9 = .ok (.iconst 0, 1) := dk_3 (dk_at dksX1_held_0 9 rfl rfl)
theorem dX1_held_10 : decode cX1_held 10 = .ok (.bipush 15, 2) := dk_16 15 (dk_at dksX1_held_0 10 rfl rfl)
theorem dX1_held_12 : decode cX1_held 12 = .ok (.invokestatic 68, 3) := dk_184 0 68 (dk_at dksX1_held_0 12 rfl rfl)
theorem dX1_held_15 : decode cX1_held 15 = .ok (.invokestatic 103, 3) := dk_184 0 103 (dk_at dksX1_held_0 15 rfl rfl)
theorem dX1_held_18 : decode cX1_held 18 = .ok (.aload_n 0, 1) := dk_42 (dk_at dksX1_held_0 18 rfl rfl)
theorem dX1_held_19 : decode cX1_held 19 = .ok (.iload_n 1, 1) := dk_27 (dk_at dksX1_held_0 19 rfl rfl)
theorem dX1_held_20 : decode cX1_held 20 = .ok (.iload_n 2, 1) := dk_28 (dk_at dksX1_held_0 20 rfl rfl)
theorem dX1_held_21 : decode cX1_held 21 = .ok (.invokevirtual 306, 3) := dk_182 1 50 (dk_at dksX1_held_0 21 rfl rfl)
theorem dX1_held_24 : decode cX1_held 24 = .ok (.iload 4, 2) := dk_21 4 (dk_at dksX1_held_1 0 rfl rfl)
theorem dX1_held_26 : decode cX1_held 26 = .ok (.ifCond .ne 9, 3) := dk_154 0 9 (dk_at dksX1_held_1 2 rfl rfl)
theorem dX1_held_29 : decode cX1_held 29 = .ok (.aload_n 0, 1) := dk_42 (dk_at dksX1_held_1 5 rfl rfl)
theorem dX1_held_30 : decode cX1_held 30 = .ok (.iload_n 3, 1) := dk_29 (dk_at dksX1_held_1 6 rfl rfl)
theorem dX1_held_31 : decode cX1_held 31 = .ok (.invokevirtual 310, 3) := dk_182 1 54 (dk_at dksX1_held_1 7 rfl rfl)
theorem dX1_held_34 : decode cX1_held 34 = .ok (.ireturn, 1) := dk_172 (dk_at dksX1_held_1 10 rfl rfl)
theorem dX1_held_35 : decode cX1_held 35 = .ok (.iconst 1, 1) := dk_4 (dk_at dksX1_held_1 11 rfl rfl)
theorem dX1_held_36 : decode cX1_held 36 = .ok (.istore 5, 2) := dk_54 5 (dk_at dksX1_held_1 12 rfl rfl)
theorem dX1_held_38 : decode cX1_held 38 = .ok (.iload 5, 2) := dk_21 5 (dk_at dksX1_held_1 14 rfl rfl)
theorem dX1_held_40 : decode cX1_held 40 = .ok (.iconst 1, 1) := dk_4 (dk_at dksX1_held_1 16 rfl rfl)
theorem dX1_held_41 : decode cX1_held 41 = .ok (.iadd, 1) := dk_96 (dk_at dksX1_held_1 17 rfl rfl)
theorem dX1_held_42 : decode cX1_held 42 = .ok (.aload_n 0, 1) := dk_42 (dk_at dksX1_held_1 18 rfl rfl)
theorem dX1_held_43 : decode cX1_held 43 = .ok (.getfield 291, 3) := dk_180 1 35 (dk_at dksX1_held_1 19 rfl rfl)
theorem dX1_held_46 : decode cX1_held 46 = .ok (.if_icmp .ge 36, 3) := dk_162 0 36 (dk_at dksX1_held_2 0 rfl rfl)
theorem dX1_held_49 : decode cX1_held 49 = .ok (.aload_n 0, 1) := dk_42 (dk_at dksX1_held_2 3 rfl rfl)
theorem dX1_held_50 : decode cX1_held 50 = .ok (.iload 5, 2) := dk_21 5 (dk_at dksX1_held_2 4 rfl rfl)
theorem dX1_held_52 : decode cX1_held 52 = .ok (.invokevirtual 297, 3) := dk_182 1 41 (dk_at dksX1_held_2 6 rfl rfl)
theorem dX1_held_55 : decode cX1_held 55 = .ok (.aload_n 0, 1) := dk_42 (dk_at dksX1_held_2 9 rfl rfl)
theorem dX1_held_56 : decode cX1_held 56 = .ok (.iload 5, 2) := dk_21 5 (dk_at dksX1_held_2 10 rfl rfl)
theorem dX1_held_58 : decode cX1_held 58 = .ok (.iconst 1, 1) := dk_4 (dk_at dksX1_held_2 12 rfl rfl)
theorem dX1_held_59 : decode cX1_held 59 = .ok (.isub, 1) := dk_100 (dk_at dksX1_held_2 13 rfl rfl)
theorem dX1_held_60 : decode cX1_held 60 = .ok (.invokevirtual 297, 3) := dk_182 1 41 (dk_at dksX1_held_2 14 rfl rfl)
theorem dX1_held_63 : decode cX1_held 63 = .ok (.iload_n 3, 1) := dk_29 (dk_at dksX1_held_2 17 rfl rfl)
theorem dX1_held_64 : decode cX1_held 64 = .ok (.iadd, 1) := dk_96 (dk_at dksX1_held_2 18 rfl rfl)
theorem dX1_held_65 : decode cX1_held 65 = .ok (.if_icmp .le 11, 3) := dk_164 0 11 (dk_at dksX1_held_2 19 rfl rfl)
theorem dX1_held_68 : decode cX1_held 68 = .ok (.aload_n 0, 1) := dk_42 (dk_at dksX1_held_2 22 rfl rfl)
theorem dX1_held_69 : decode cX1_held 69 = .ok (.getfield 45, 3) := dk_180 0 45 (dk_at dksX1_held_3 0 rfl rfl)
theorem dX1_held_72 : decode cX1_held 72 = .ok (.iload 5, 2) := dk_21 5 (dk_at dksX1_held_3 3 rfl rfl)
theorem dX1_held_74 : decode cX1_held 74 = .ok (.iaload, 1) := dk_46 (dk_at dksX1_held_3 5 rfl rfl)
theorem dX1_held_75 : decode cX1_held 75 = .ok (.ireturn, 1) := dk_172 (dk_at dksX1_held_3 6 rfl rfl)
theorem dX1_held_76 : decode cX1_held 76 = .ok (.iinc 5 1, 3) := dk_132 5 1 (dk_at dksX1_held_3 7 rfl rfl)
theorem dX1_held_79 : decode cX1_held 79 = .ok (.goto (-41), 3) := dk_167 255 215 (dk_at dksX1_held_3 10 rfl rfl)
theorem dX1_held_82 : decode cX1_held 82 = .ok (.iconst (-1), 1) := dk_2 (dk_at dksX1_held_3 13 rfl rfl)
theorem dX1_held_83 : decode cX1_held 83 = .ok (.ireturn, 1) := dk_172 (dk_at dksX1_held_3 14 rfl rfl)
abbrev cX1_isSide : ByteArray := prog_1_method_10_code
def yX1_isSide : MethodName := ⟨RX1, "isSide", "(I)V"⟩
def dkwX1_isSide_0 : List UInt8 := [26, 3, 4, 184, 0, 68, 184, 0, 72, 177]
abbrev dktX1_isSide_0 : List UInt8 := dkwX1_isSide_0 ++ []
theorem dksX1_isSide_0 : cX1_isSide.data.toList.drop 0 = dktX1_isSide_0 := by decide +kernel
theorem dX1_isSide_0 : decode cX1_isSide 0 = .ok (.iload_n 0, 1) := dk_26 (dk_at dksX1_isSide_0 0 rfl rfl)
theorem dX1_isSide_1 : decode cX1_isSide 1 = .ok (.iconst 0, 1) := dk_3 (dk_at dksX1_isSide_0 1 rfl rfl)
theorem dX1_isSide_2 : decode cX1_isSide 2 = .ok (.iconst 1, 1) := dk_4 (dk_at dksX1_isSide_0 2 rfl rfl)
theorem dX1_isSide_3 : decode cX1_isSide 3 = .ok (.invokestatic 68, 3) := dk_184 0 68 (dk_at dksX1_isSide_0 3 rfl rfl)
theorem dX1_isSide_6 : decode cX1_isSide 6 = .ok (.invokestatic 72, 3) := dk_184 0 72 (dk_at dksX1_isSide_0 6 rfl rfl)
theorem dX1_isSide_9 : decode cX1_isSide 9 = .ok (.return_, 1) := dk_177 (dk_at dksX1_isSide_0 9 rfl rfl)
abbrev cX1_gathers : ByteArray := prog_1_method_42_code
def yX1_gathers : MethodName := ⟨RX1, "gathers", "(II)V"⟩
def dkwX1_gathers_6 : List UInt8 := [167, 255, 127, 177]
abbrev dktX1_gathers_6 : List UInt8 := dkwX1_gathers_6 ++ []
def dkwX1_gathers_5 : List UInt8 := [42, 180, 0, 45, 42, 180, 1, 35, 29, 79, 42, 89, 180, 1, 35, 4, 96, 181, 1, 35, 132, 3, 1]
abbrev dktX1_gathers_5 : List UInt8 := dkwX1_gathers_5 ++ dktX1_gathers_6
def dkwX1_gathers_4 : List UInt8 := [160, 0, 7, 4, 167, 0, 4, 3, 54, 4, 132, 5, 1, 167, 255, 173, 21, 4, 154, 0, 6, 167, 0, 23]
abbrev dktX1_gathers_4 : List UInt8 := dkwX1_gathers_4 ++ dktX1_gathers_5
def dkwX1_gathers_3 : List UInt8 := [160, 0, 29, 42, 180, 0, 29, 180, 0, 82, 21, 5, 50, 182, 0, 228, 16, 16, 28, 104, 29, 96]
abbrev dktX1_gathers_3 : List UInt8 := dkwX1_gathers_3 ++ dktX1_gathers_4
def dkwX1_gathers_2 : List UInt8 := [154, 0, 48, 21, 6, 2, 159, 0, 46, 42, 180, 0, 29, 180, 0, 121, 21, 6, 50, 180, 0, 168, 27]
abbrev dktX1_gathers_2 : List UInt8 := dkwX1_gathers_2 ++ dktX1_gathers_3
def dkwX1_gathers_1 : List UInt8 := [180, 0, 29, 180, 0, 79, 162, 0, 77, 42, 180, 0, 29, 21, 5, 182, 1, 38, 54, 6, 21, 4]
abbrev dktX1_gathers_1 : List UInt8 := dkwX1_gathers_1 ++ dktX1_gathers_2
def dkwX1_gathers_0 : List UInt8 := [42, 3, 181, 1, 35, 3, 62, 29, 16, 16, 162, 0, 129, 3, 54, 4, 3, 54, 5, 21, 5, 42]
abbrev dktX1_gathers_0 : List UInt8 := dkwX1_gathers_0 ++ dktX1_gathers_1
theorem dksX1_gathers_0 : cX1_gathers.data.toList.drop 0 = dktX1_gathers_0 := by decide +kernel
theorem dksX1_gathers_1 : cX1_gathers.data.toList.drop 22 = dktX1_gathers_1 := dk_seg dksX1_gathers_0 22 rfl rfl
theorem dksX1_gathers_2 : cX1_gathers.data.toList.drop 44 = dktX1_gathers_2 := dk_seg dksX1_gathers_1 22 rfl rfl
theorem dksX1_gathers_3 : cX1_gathers.data.toList.drop 67 = dktX1_gathers_3 := dk_seg dksX1_gathers_2 23 rfl rfl
theorem dksX1_gathers_4 : cX1_gathers.data.toList.drop 89 = dktX1_gathers_4 := dk_seg dksX1_gathers_3 22 rfl rfl
theorem dksX1_gathers_5 : cX1_gathers.data.toList.drop 113 = dktX1_gathers_5 := dk_seg dksX1_gathers_4 24 rfl rfl
theorem dksX1_gathers_6 : cX1_gathers.data.toList.drop 136 = dktX1_gathers_6 := dk_seg dksX1_gathers_5 23 rfl rfl
theorem dX1_gathers_0 : decode cX1_gathers 0 = .ok (.aload_n 0, 1) := dk_42 (dk_at dksX1_gathers_0 0 rfl rfl)
theorem dX1_gathers_1 : decode cX1_gathers 1 = .ok (.iconst 0, 1) := dk_3 (dk_at dksX1_gathers_0 1 rfl rfl)
theorem dX1_gathers_2 : decode cX1_gathers 2 = .ok (.putfield 291, 3) := dk_181 1 35 (dk_at dksX1_gathers_0 2 rfl rfl)
theorem dX1_gathers_5 : decode cX1_gathers 5 = .ok (.iconst 0, 1) := dk_3 (dk_at dksX1_gathers_0 5 rfl rfl)
theorem dX1_gathers_6 : decode cX1_gathers 6 = .ok (.istore_n 3, 1) := dk_62 (dk_at dksX1_gathers_0 6 rfl rfl)
theorem dX1_gathers_7 : decode cX1_gathers 7 = .ok (.iload_n 3, 1) := dk_29 (dk_at dksX1_gathers_0 7 rfl rfl)
theorem dX1_gathers_8 : decode cX1_gathers 8 = .ok (.bipush 16, 2) := dk_16 16 (dk_at dksX1_gathers_0 8 rfl rfl)
theorem dX1_gathers_10 : decode cX1_gathers 10 = .ok (.if_icmp .ge 129, 3) := dk_162 0 129 (dk_at dksX1_gathers_0 10 rfl rfl)
theorem dX1_gathers_13 : decode cX1_gathers 13 = .ok (.iconst 0, 1) := dk_3 (dk_at dksX1_gathers_0 13 rfl rfl)
theorem dX1_gathers_14 : decode cX1_gathers 14 = .ok (.istore 4, 2) := dk_54 4 (dk_at dksX1_gathers_0 14 rfl rfl)
theorem dX1_gathers_16 : decode cX1_gathers 16 = .ok (.iconst 0, 1) := dk_3 (dk_at dksX1_gathers_0 16 rfl rfl)
theorem dX1_gathers_17 : decode cX1_gathers 17 = .ok (.istore 5, 2) := dk_54 5 (dk_at dksX1_gathers_0 17 rfl rfl)
theorem dX1_gathers_19 : decode cX1_gathers 19 = .ok (.iload 5, 2) := dk_21 5 (dk_at dksX1_gathers_0 19 rfl rfl)
theorem dX1_gathers_21 : decode cX1_gathers 21 = .ok (.aload_n 0, 1) := dk_42 (dk_at dksX1_gathers_0 21 rfl rfl)
theorem dX1_gathers_22 : decode cX1_gathers 22 = .ok (.getfield 29, 3) := dk_180 0 29 (dk_at dksX1_gathers_1 0 rfl rfl)
theorem dX1_gathers_25 : decode cX1_gathers 25 = .ok (.getfield 79, 3) := dk_180 0 79 (dk_at dksX1_gathers_1 3 rfl rfl)
theorem dX1_gathers_28 : decode cX1_gathers 28 = .ok (.if_icmp .ge 77, 3) := dk_162 0 77 (dk_at dksX1_gathers_1 6 rfl rfl)
theorem dX1_gathers_31 : decode cX1_gathers 31 = .ok (.aload_n 0, 1) := dk_42 (dk_at dksX1_gathers_1 9 rfl rfl)
theorem dX1_gathers_32 : decode cX1_gathers 32 = .ok (.getfield 29, 3) := dk_180 0 29 (dk_at dksX1_gathers_1 10 rfl rfl)
theorem dX1_gathers_35 : decode cX1_gathers 35 = .ok (.iload 5, 2) := dk_21 5 (dk_at dksX1_gathers_1 13 rfl rfl)
theorem dX1_gathers_37 : decode cX1_gathers 37 = .ok (.invokevirtual 294, 3) := dk_182 1 38 (dk_at dksX1_gathers_1 15 rfl rfl)
theorem dX1_gathers_40 : decode cX1_gathers 40 = .ok (.istore 6, 2) := dk_54 6 (dk_at dksX1_gathers_1 18 rfl rfl)
theorem dX1_gathers_42 : decode cX1_gathers 42 = .ok (.iload 4, 2) := dk_21 4 (dk_at dksX1_gathers_1 20 rfl rfl)
theorem dX1_gathers_44 : decode cX1_gathers 44 = .ok (.ifCond .ne 48, 3) := dk_154 0 48 (dk_at dksX1_gathers_2 0 rfl rfl)
theorem dX1_gathers_47 : decode cX1_gathers 47 = .ok (.iload 6, 2) := dk_21 6 (dk_at dksX1_gathers_2 3 rfl rfl)
theorem dX1_gathers_49 : decode cX1_gathers 49 = .ok (.iconst (-1), 1) := dk_2 (dk_at dksX1_gathers_2 5 rfl rfl)
theorem dX1_gathers_50 : decode cX1_gathers 50 = .ok (.if_icmp .eq 46, 3) := dk_159 0 46 (dk_at dksX1_gathers_2 6 rfl rfl)
theorem dX1_gathers_53 : decode cX1_gathers 53 = .ok (.aload_n 0, 1) := dk_42 (dk_at dksX1_gathers_2 9 rfl rfl)
theorem dX1_gathers_54 : decode cX1_gathers 54 = .ok (.getfield 29, 3) := dk_180 0 29 (dk_at dksX1_gathers_2 10 rfl rfl)
theorem dX1_gathers_57 : decode cX1_gathers 57 = .ok (.getfield 121, 3) := dk_180 0 121 (dk_at dksX1_gathers_2 13 rfl rfl)
theorem dX1_gathers_60 : decode cX1_gathers 60 = .ok (.iload 6, 2) := dk_21 6 (dk_at dksX1_gathers_2 16 rfl rfl)
theorem dX1_gathers_62 : decode cX1_gathers 62 = .ok (.aaload, 1) := dk_50 (dk_at dksX1_gathers_2 18 rfl rfl)
theorem dX1_gathers_63 : decode cX1_gathers 63 = .ok (.getfield 168, 3) := dk_180 0 168 (dk_at dksX1_gathers_2 19 rfl rfl)
theorem dX1_gathers_66 : decode cX1_gathers 66 = .ok (.iload_n 1, 1) := dk_27 (dk_at dksX1_gathers_2 22 rfl rfl)
theorem dX1_gathers_67 : decode cX1_gathers 67 = .ok (.if_icmp .ne 29, 3) := dk_160 0 29 (dk_at dksX1_gathers_3 0 rfl rfl)
theorem dX1_gathers_70 : decode cX1_gathers 70 = .ok (.aload_n 0, 1) := dk_42 (dk_at dksX1_gathers_3 3 rfl rfl)
theorem dX1_gathers_71 : decode cX1_gathers 71 = .ok (.getfield 29, 3) := dk_180 0 29 (dk_at dksX1_gathers_3 4 rfl rfl)
theorem dX1_gathers_74 : decode cX1_gathers 74 = .ok (.getfield 82, 3) := dk_180 0 82 (dk_at dksX1_gathers_3 7 rfl rfl)
theorem dX1_gathers_77 : decode cX1_gathers 77 = .ok (.iload 5, 2) := dk_21 5 (dk_at dksX1_gathers_3 10 rfl rfl)
theorem dX1_gathers_79 : decode cX1_gathers 79 = .ok (.aaload, 1) := dk_50 (dk_at dksX1_gathers_3 12 rfl rfl)
theorem dX1_gathers_80 : decode cX1_gathers 80 = .ok (.invokevirtual 228, 3) := dk_182 0 228 (dk_at dksX1_gathers_3 13 rfl rfl)
theorem dX1_gathers_83 : decode cX1_gathers 83 = .ok (.bipush 16, 2) := dk_16 16 (dk_at dksX1_gathers_3 16 rfl rfl)
theorem dX1_gathers_85 : decode cX1_gathers 85 = .ok (.iload_n 2, 1) := dk_28 (dk_at dksX1_gathers_3 18 rfl rfl)
theorem dX1_gathers_86 : decode cX1_gathers 86 = .ok (.imul, 1) := dk_104 (dk_at dksX1_gathers_3 19 rfl rfl)
theorem dX1_gathers_87 : decode cX1_gathers 87 = .ok (.iload_n 3, 1) := dk_29 (dk_at dksX1_gathers_3 20 rfl rfl)
theorem dX1_gathers_88 : decode cX1_gathers 88 = .ok (.iadd, 1) := dk_96 (dk_at dksX1_gathers_3 21 rfl rfl)
theorem dX1_gathers_89 : decode cX1_gathers 89 = .ok (.if_icmp .ne 7, 3) := dk_160 0 7 (dk_at dksX1_gathers_4 0 rfl rfl)
theorem dX1_gathers_92 : decode cX1_gathers 92 = .ok (.iconst 1, 1) := dk_4 (dk_at dksX1_gathers_4 3 rfl rfl)
theorem dX1_gathers_93 : decode cX1_gathers 93 = .ok (.goto 4, 3) := dk_167 0 4 (dk_at dksX1_gathers_4 4 rfl rfl)
theorem dX1_gathers_96 : decode cX1_gathers 96 = .ok (.iconst 0, 1) := dk_3 (dk_at dksX1_gathers_4 7 rfl rfl)
theorem dX1_gathers_97 : decode cX1_gathers 97 = .ok (.istore 4, 2) := dk_54 4 (dk_at dksX1_gathers_4 8 rfl rfl)
theorem dX1_gathers_99 : decode cX1_gathers 99 = .ok (.iinc 5 1, 3) := dk_132 5 1 (dk_at dksX1_gathers_4 10 rfl rfl)
theorem dX1_gathers_102 : decode cX1_gathers 102 = .ok (.goto (-83), 3) := dk_167 255 173 (dk_at dksX1_gathers_4 13 rfl rfl)
theorem dX1_gathers_105 : decode cX1_gathers 105 = .ok (.iload 4, 2) := dk_21 4 (dk_at dksX1_gathers_4 16 rfl rfl)
theorem dX1_gathers_107 : decode cX1_gathers 107 = .ok (.ifCond .ne 6, 3) := dk_154 0 6 (dk_at dksX1_gathers_4 18 rfl rfl)
theorem dX1_gathers_110 : decode cX1_gathers 110 = .ok (.goto 23, 3) := dk_167 0 23 (dk_at dksX1_gathers_4 21 rfl rfl)
theorem dX1_gathers_113 : decode cX1_gathers 113 = .ok (.aload_n 0, 1) := dk_42 (dk_at dksX1_gathers_5 0 rfl rfl)
theorem dX1_gathers_114 : decode cX1_gathers 114 = .ok (.getfield 45, 3) := dk_180 0 45 (dk_at dksX1_gathers_5 1 rfl rfl)
theorem dX1_gathers_117 : decode cX1_gathers 117 = .ok (.aload_n 0, 1) := dk_42 (dk_at dksX1_gathers_5 4 rfl rfl)
theorem dX1_gathers_118 : decode cX1_gathers 118 = .ok (.getfield 291, 3) := dk_180 1 35 (dk_at dksX1_gathers_5 5 rfl rfl)
theorem dX1_gathers_121 : decode cX1_gathers 121 = .ok (.iload_n 3, 1) := dk_29 (dk_at dksX1_gathers_5 8 rfl rfl)
theorem dX1_gathers_122 : decode cX1_gathers 122 = .ok (.iastore, 1) := dk_79 (dk_at dksX1_gathers_5 9 rfl rfl)
theorem dX1_gathers_123 : decode cX1_gathers 123 = .ok (.aload_n 0, 1) := dk_42 (dk_at dksX1_gathers_5 10 rfl rfl)
theorem dX1_gathers_124 : decode cX1_gathers 124 = .ok (.dup, 1) := dk_89 (dk_at dksX1_gathers_5 11 rfl rfl)
theorem dX1_gathers_125 : decode cX1_gathers 125 = .ok (.getfield 291, 3) := dk_180 1 35 (dk_at dksX1_gathers_5 12 rfl rfl)
theorem dX1_gathers_128 : decode cX1_gathers 128 = .ok (.iconst 1, 1) := dk_4 (dk_at dksX1_gathers_5 15 rfl rfl)
theorem dX1_gathers_129 : decode cX1_gathers 129 = .ok (.iadd, 1) := dk_96 (dk_at dksX1_gathers_5 16 rfl rfl)
theorem dX1_gathers_130 : decode cX1_gathers 130 = .ok (.putfield 291, 3) := dk_181 1 35 (dk_at dksX1_gathers_5 17 rfl rfl)
theorem dX1_gathers_133 : decode cX1_gathers 133 = .ok (.iinc 3 1, 3) := dk_132 3 1 (dk_at dksX1_gathers_5 20 rfl rfl)
theorem dX1_gathers_136 : decode cX1_gathers 136 = .ok (.goto (-129), 3) := dk_167 255 127 (dk_at dksX1_gathers_6 0 rfl rfl)
theorem dX1_gathers_139 : decode cX1_gathers 139 = .ok (.return_, 1) := dk_177 (dk_at dksX1_gathers_6 3 rfl rfl)
abbrev cX1_longest : ByteArray := prog_1_method_44_code
def yX1_longest : MethodName := ⟨RX1, "longest", "(I)I"⟩
def dkwX1_longest_4 : List UInt8 := [167, 255, 193, 132, 3, 1, 167, 255, 160, 28, 172]
abbrev dktX1_longest_4 : List UInt8 := dkwX1_longest_4 ++ []
def dkwX1_longest_3 : List UInt8 := [21, 4, 100, 27, 164, 0, 6, 167, 0, 20, 28, 21, 6, 29, 100, 4, 96, 184, 0, 9, 61, 132, 6, 1]
abbrev dktX1_longest_3 : List UInt8 := dkwX1_longest_3 ++ dktX1_longest_4
def dkwX1_longest_2 : List UInt8 := [182, 1, 41, 184, 1, 44, 54, 4, 21, 5, 42, 21, 6, 182, 1, 41, 184, 0, 9, 54, 5, 21, 5]
abbrev dktX1_longest_2 : List UInt8 := dkwX1_longest_2 ++ dktX1_longest_3
def dkwX1_longest_1 : List UInt8 := [182, 1, 41, 54, 5, 29, 54, 6, 21, 6, 4, 96, 42, 180, 1, 35, 162, 0, 58, 21, 4, 42, 21, 6]
abbrev dktX1_longest_1 : List UInt8 := dkwX1_longest_1 ++ dktX1_longest_2
def dkwX1_longest_0 : List UInt8 := [3, 61, 3, 62, 29, 4, 96, 42, 180, 1, 35, 162, 0, 92, 42, 29, 182, 1, 41, 54, 4, 42, 29]
abbrev dktX1_longest_0 : List UInt8 := dkwX1_longest_0 ++ dktX1_longest_1
theorem dksX1_longest_0 : cX1_longest.data.toList.drop 0 = dktX1_longest_0 := by decide +kernel
theorem dksX1_longest_1 : cX1_longest.data.toList.drop 23 = dktX1_longest_1 := dk_seg dksX1_longest_0 23 rfl rfl
theorem dksX1_longest_2 : cX1_longest.data.toList.drop 47 = dktX1_longest_2 := dk_seg dksX1_longest_1 24 rfl rfl
theorem dksX1_longest_3 : cX1_longest.data.toList.drop 70 = dktX1_longest_3 := dk_seg dksX1_longest_2 23 rfl rfl
theorem dksX1_longest_4 : cX1_longest.data.toList.drop 94 = dktX1_longest_4 := dk_seg dksX1_longest_3 24 rfl rfl
theorem dX1_longest_0 : decode cX1_longest 0 = .ok (.iconst 0, 1) := dk_3 (dk_at dksX1_longest_0 0 rfl rfl)
theorem dX1_longest_1 : decode cX1_longest 1 = .ok (.istore_n 2, 1) := dk_61 (dk_at dksX1_longest_0 1 rfl rfl)
theorem dX1_longest_2 : decode cX1_longest 2 = .ok (.iconst 0, 1) := dk_3 (dk_at dksX1_longest_0 2 rfl rfl)
theorem dX1_longest_3 : decode cX1_longest 3 = .ok (.istore_n 3, 1) := dk_62 (dk_at dksX1_longest_0 3 rfl rfl)
theorem dX1_longest_4 : decode cX1_longest 4 = .ok (.iload_n 3, 1) := dk_29 (dk_at dksX1_longest_0 4 rfl rfl)
theorem dX1_longest_5 : decode cX1_longest 5 = .ok (.iconst 1, 1) := dk_4 (dk_at dksX1_longest_0 5 rfl rfl)
theorem dX1_longest_6 : decode cX1_longest 6 = .ok (.iadd, 1) := dk_96 (dk_at dksX1_longest_0 6 rfl rfl)
theorem dX1_longest_7 : decode cX1_longest 7 = .ok (.aload_n 0, 1) := dk_42 (dk_at dksX1_longest_0 7 rfl rfl)
theorem dX1_longest_8 : decode cX1_longest 8 = .ok (.getfield 291, 3) := dk_180 1 35 (dk_at dksX1_longest_0 8 rfl rfl)
theorem dX1_longest_11 : decode cX1_longest 11 = .ok (.if_icmp .ge 92, 3) := dk_162 0 92 (dk_at dksX1_longest_0 11 rfl rfl)
theorem dX1_longest_14 : decode cX1_longest 14 = .ok (.aload_n 0, 1) := dk_42 (dk_at dksX1_longest_0 14 rfl rfl)
theorem dX1_longest_15 : decode cX1_longest 15 = .ok (.iload_n 3, 1) := dk_29 (dk_at dksX1_longest_0 15 rfl rfl)
theorem dX1_longest_16 : decode cX1_longest 16 = .ok (.invokevirtual 297, 3) := dk_182 1 41 (dk_at dksX1_longest_0 16 rfl rfl)
theorem dX1_longest_19 : decode cX1_longest 19 = .ok (.istore 4, 2) := dk_54 4 (dk_at dksX1_longest_0 19 rfl rfl)
theorem dX1_longest_21 : decode cX1_longest 21 = .ok (.aload_n 0, 1) := dk_42 (dk_at dksX1_longest_0 21 rfl rfl)
theorem dX1_longest_22 : decode cX1_longest 22 = .ok (.iload_n 3, 1) := dk_29 (dk_at dksX1_longest_0 22 rfl rfl)
theorem dX1_longest_23 : decode cX1_longest 23 = .ok (.invokevirtual 297, 3) := dk_182 1 41 (dk_at dksX1_longest_1 0 rfl rfl)
theorem dX1_longest_26 : decode cX1_longest 26 = .ok (.istore 5, 2) := dk_54 5 (dk_at dksX1_longest_1 3 rfl rfl)
theorem dX1_longest_28 : decode cX1_longest 28 = .ok (.iload_n 3, 1) := dk_29 (dk_at dksX1_longest_1 5 rfl rfl)
theorem dX1_longest_29 : decode cX1_longest 29 = .ok (.istore 6, 2) := dk_54 6 (dk_at dksX1_longest_1 6 rfl rfl)
theorem dX1_longest_31 : decode cX1_longest 31 = .ok (.iload 6, 2) := dk_21 6 (dk_at dksX1_longest_1 8 rfl rfl)
theorem dX1_longest_33 : decode cX1_longest 33 = .ok (.iconst 1, 1) := dk_4 (dk_at dksX1_longest_1 10 rfl rfl)
theorem dX1_longest_34 : decode cX1_longest 34 = .ok (.iadd, 1) := dk_96 (dk_at dksX1_longest_1 11 rfl rfl)
theorem dX1_longest_35 : decode cX1_longest 35 = .ok (.aload_n 0, 1) := dk_42 (dk_at dksX1_longest_1 12 rfl rfl)
theorem dX1_longest_36 : decode cX1_longest 36 = .ok (.getfield 291, 3) := dk_180 1 35 (dk_at dksX1_longest_1 13 rfl rfl)
theorem dX1_longest_39 : decode cX1_longest 39 = .ok (.if_icmp .ge 58, 3) := dk_162 0 58 (dk_at dksX1_longest_1 16 rfl rfl)
theorem dX1_longest_42 : decode cX1_longest 42 = .ok (.iload 4, 2) := dk_21 4 (dk_at dksX1_longest_1 19 rfl rfl)
theorem dX1_longest_44 : decode cX1_longest 44 = .ok (.aload_n 0, 1) := dk_42 (dk_at dksX1_longest_1 21 rfl rfl)
theorem dX1_longest_45 : decode cX1_longest 45 = .ok (.iload 6, 2) := dk_21 6 (dk_at dksX1_longest_1 22 rfl rfl)
theorem dX1_longest_47 : decode cX1_longest 47 = .ok (.invokevirtual 297, 3) := dk_182 1 41 (dk_at dksX1_longest_2 0 rfl rfl)
theorem dX1_longest_50 : decode cX1_longest 50 = .ok (.invokestatic 300, 3) := dk_184 1 44 (dk_at dksX1_longest_2 3 rfl rfl)
theorem dX1_longest_53 : decode cX1_longest 53 = .ok (.istore 4, 2) := dk_54 4 (dk_at dksX1_longest_2 6 rfl rfl)
theorem dX1_longest_55 : decode cX1_longest 55 = .ok (.iload 5, 2) := dk_21 5 (dk_at dksX1_longest_2 8 rfl rfl)
theorem dX1_longest_57 : decode cX1_longest 57 = .ok (.aload_n 0, 1) := dk_42 (dk_at dksX1_longest_2 10 rfl rfl)
theorem dX1_longest_58 : decode cX1_longest 58 = .ok (.iload 6, 2) := dk_21 6 (dk_at dksX1_longest_2 11 rfl rfl)
theorem dX1_longest_60 : decode cX1_longest 60 = .ok (.invokevirtual 297, 3) := dk_182 1 41 (dk_at dksX1_longest_2 13 rfl rfl)
theorem dX1_longest_63 : decode cX1_longest 63 = .ok (.invokestatic 9, 3) := dk_184 0 9 (dk_at dksX1_longest_2 16 rfl rfl)
theorem dX1_longest_66 : decode cX1_longest 66 = .ok (.istore 5, 2) := dk_54 5 (dk_at dksX1_longest_2 19 rfl rfl)
theorem dX1_longest_68 : decode cX1_longest 68 = .ok (.iload 5, 2) := dk_21 5 (dk_at dksX1_longest_2 21 rfl rfl)
theorem dX1_longest_70 : decode cX1_longest 70 = .ok (.iload 4, 2) := dk_21 4 (dk_at dksX1_longest_3 0 rfl rfl)
theorem dX1_longest_72 : decode cX1_longest 72 = .ok (.isub, 1) := dk_100 (dk_at dksX1_longest_3 2 rfl rfl)
theorem dX1_longest_73 : decode cX1_longest 73 = .ok (.iload_n 1, 1) := dk_27 (dk_at dksX1_longest_3 3 rfl rfl)
theorem dX1_longest_74 : decode cX1_longest 74 = .ok (.if_icmp .le 6, 3) := dk_164 0 6 (dk_at dksX1_longest_3 4 rfl rfl)
theorem dX1_longest_77 : decode cX1_longest 77 = .ok (.goto 20, 3) := dk_167 0 20 (dk_at dksX1_longest_3 7 rfl rfl)
theorem dX1_longest_80 : decode cX1_longest 80 = .ok (.iload_n 2, 1) := dk_28 (dk_at dksX1_longest_3 10 rfl rfl)
theorem dX1_longest_81 : decode cX1_longest 81 = .ok (.iload 6, 2) := dk_21 6 (dk_at dksX1_longest_3 11 rfl rfl)
theorem dX1_longest_83 : decode cX1_longest 83 = .ok (.iload_n 3, 1) := dk_29 (dk_at dksX1_longest_3 13 rfl rfl)
theorem dX1_longest_84 : decode cX1_longest 84 = .ok (.isub, 1) := dk_100 (dk_at dksX1_longest_3 14 rfl rfl)
theorem dX1_longest_85 : decode cX1_longest 85 = .ok (.iconst 1, 1) := dk_4 (dk_at dksX1_longest_3 15 rfl rfl)
theorem dX1_longest_86 : decode cX1_longest 86 = .ok (.iadd, 1) := dk_96 (dk_at dksX1_longest_3 16 rfl rfl)
theorem dX1_longest_87 : decode cX1_longest 87 = .ok (.invokestatic 9, 3) := dk_184 0 9 (dk_at dksX1_longest_3 17 rfl rfl)
theorem dX1_longest_90 : decode cX1_longest 90 = .ok (.istore_n 2, 1) := dk_61 (dk_at dksX1_longest_3 20 rfl rfl)
theorem dX1_longest_91 : decode cX1_longest 91 = .ok (.iinc 6 1, 3) := dk_132 6 1 (dk_at dksX1_longest_3 21 rfl rfl)
theorem dX1_longest_94 : decode cX1_longest 94 = .ok (.goto (-63), 3) := dk_167 255 193 (dk_at dksX1_longest_4 0 rfl rfl)
theorem dX1_longest_97 : decode cX1_longest 97 = .ok (.iinc 3 1, 3) := dk_132 3 1 (dk_at dksX1_longest_4 3 rfl rfl)
theorem dX1_longest_100 : decode cX1_longest 100 = .ok (.goto (-96), 3) := dk_167 255 160 (dk_at dksX1_longest_4 6 rfl rfl)
theorem dX1_longest_103 : decode cX1_longest 103 = .ok (.iload_n 2, 1) := dk_28 (dk_at dksX1_longest_4 9 rfl rfl)
theorem dX1_longest_104 : decode cX1_longest 104 = .ok (.ireturn, 1) := dk_172 (dk_at dksX1_longest_4 10 rfl rfl)
abbrev cX1_step : ByteArray := prog_1_method_43_code
def yX1_step : MethodName := ⟨RX1, "step", "(I)I"⟩
def dkwX1_step_0 : List UInt8 := [42, 180, 0, 45, 27, 4, 96, 46, 42, 180, 0, 45, 27, 46, 100, 172]
abbrev dktX1_step_0 : List UInt8 := dkwX1_step_0 ++ []
theorem dksX1_step_0 : cX1_step.data.toList.drop 0 = dktX1_step_0 := by decide +kernel
theorem dX1_step_0 : decode cX1_step 0 = .ok (.aload_n 0, 1) := dk_42 (dk_at dksX1_step_0 0 rfl rfl)
theorem dX1_step_1 : decode cX1_step 1 = .ok (.getfield 45, 3) := dk_180 0 45 (dk_at dksX1_step_0 1 rfl rfl)
theorem dX1_step_4 : decode cX1_step 4 = .ok (.iload_n 1, 1) := dk_27 (dk_at dksX1_step_0 4 rfl rfl)
theorem dX1_step_5 : decode cX1_step 5 = .ok (.iconst 1, 1) := dk_4 (dk_at dksX1_step_0 5 rfl rfl)
theorem dX1_step_6 : decode cX1_step 6 = .ok (.iadd, 1) := dk_96 (dk_at dksX1_step_0 6 rfl rfl)
theorem dX1_step_7 : decode cX1_step 7 = .ok (.iaload, 1) := dk_46 (dk_at dksX1_step_0 7 rfl rfl)
theorem dX1_step_8 : decode cX1_step 8 = .ok (.aload_n 0, 1) := dk_42 (dk_at dksX1_step_0 8 rfl rfl)
theorem dX1_step_9 : decode cX1_step 9 = .ok (.getfield 45, 3) := dk_180 0 45 (dk_at dksX1_step_0 9 rfl rfl)
theorem dX1_step_12 : decode cX1_step 12 = .ok (.iload_n 1, 1) := dk_27 (dk_at dksX1_step_0 12 rfl rfl)
theorem dX1_step_13 : decode cX1_step 13 = .ok (.iaload, 1) := dk_46 (dk_at dksX1_step_0 13 rfl rfl)
theorem dX1_step_14 : decode cX1_step 14 = .ok (.isub, 1) := dk_100 (dk_at dksX1_step_0 14 rfl rfl)
theorem dX1_step_15 : decode cX1_step 15 = .ok (.ireturn, 1) := dk_172 (dk_at dksX1_step_0 15 rfl rfl)
abbrev cX1_heaps : ByteArray := prog_1_method_47_code
def yX1_heaps : MethodName := ⟨RX1, "heaps", "(IZ)I"⟩
def dkwX1_heaps_2 : List UInt8 := [167, 255, 232, 2, 172]
abbrev dktX1_heaps_2 : List UInt8 := dkwX1_heaps_2 ++ []
def dkwX1_heaps_1 : List UInt8 := [17, 1, 0, 162, 0, 23, 42, 180, 0, 29, 29, 182, 1, 57, 27, 161, 0, 5, 29, 172, 132, 3, 1]
abbrev dktX1_heaps_1 : List UInt8 := dkwX1_heaps_1 ++ dktX1_heaps_2
def dkwX1_heaps_0 : List UInt8 := [27, 4, 16, 99, 184, 0, 68, 184, 0, 103, 28, 154, 0, 9, 42, 27, 182, 1, 60, 172, 3, 62, 29]
abbrev dktX1_heaps_0 : List UInt8 := dkwX1_heaps_0 ++ dktX1_heaps_1
theorem dksX1_heaps_0 : cX1_heaps.data.toList.drop 0 = dktX1_heaps_0 := by decide +kernel
theorem dksX1_heaps_1 : cX1_heaps.data.toList.drop 23 = dktX1_heaps_1 := dk_seg dksX1_heaps_0 23 rfl rfl
theorem dksX1_heaps_2 : cX1_heaps.data.toList.drop 46 = dktX1_heaps_2 := dk_seg dksX1_heaps_1 23 rfl rfl
theorem dX1_heaps_0 : decode cX1_heaps 0 = .ok (.iload_n 1, 1) := dk_27 (dk_at dksX1_heaps_0 0 rfl rfl)
theorem dX1_heaps_1 : decode cX1_heaps 1 = .ok (.iconst 1, 1) := dk_4 (dk_at dksX1_heaps_0 1 rfl rfl)
theorem dX1_heaps_2 : decode cX1_heaps 2 = .ok (.bipush 99, 2) := dk_16 99 (dk_at dksX1_heaps_0 2 rfl rfl)
theorem dX1_heaps_4 : decode cX1_heaps 4 = .ok (.invokestatic 68, 3) := dk_184 0 68 (dk_at dksX1_heaps_0 4 rfl rfl)
theorem dX1_heaps_7 : decode cX1_heaps 7 = .ok (.invokestatic 103, 3) := dk_184 0 103 (dk_at dksX1_heaps_0 7 rfl rfl)
theorem dX1_heaps_10 : decode cX1_heaps 10 = .ok (.iload_n 2, 1) := dk_28 (dk_at dksX1_heaps_0 10 rfl rfl)
theorem dX1_heaps_11 : decode cX1_heaps 11 = .ok (.ifCond .ne 9, 3) := dk_154 0 9 (dk_at dksX1_heaps_0 11 rfl rfl)
theorem dX1_heaps_14 : decode cX1_heaps 14 = .ok (.aload_n 0, 1) := dk_42 (dk_at dksX1_heaps_0 14 rfl rfl)
theorem dX1_heaps_15 : decode cX1_heaps 15 = .ok (.iload_n 1, 1) := dk_27 (dk_at dksX1_heaps_0 15 rfl rfl)
theorem dX1_heaps_16 : decode cX1_heaps 16 = .ok (.invokevirtual 316, 3) := dk_182 1 60 (dk_at dksX1_heaps_0 16 rfl rfl)
theorem dX1_heaps_19 : decode cX1_heaps 19 = .ok (.ireturn, 1) := dk_172 (dk_at dksX1_heaps_0 19 rfl rfl)
theorem dX1_heaps_20 : decode cX1_heaps 20 = .ok (.iconst 0, 1) := dk_3 (dk_at dksX1_heaps_0 20 rfl rfl)
theorem dX1_heaps_21 : decode cX1_heaps 21 = .ok (.istore_n 3, 1) := dk_62 (dk_at dksX1_heaps_0 21 rfl rfl)
theorem dX1_heaps_22 : decode cX1_heaps 22 = .ok (.iload_n 3, 1) := dk_29 (dk_at dksX1_heaps_0 22 rfl rfl)
theorem dX1_heaps_23 : decode cX1_heaps 23 = .ok (.sipush 256, 3) := dk_17 1 0 (dk_at dksX1_heaps_1 0 rfl rfl)
theorem dX1_heaps_26 : decode cX1_heaps 26 = .ok (.if_icmp .ge 23, 3) := dk_162 0 23 (dk_at dksX1_heaps_1 3 rfl rfl)
theorem dX1_heaps_29 : decode cX1_heaps 29 = .ok (.aload_n 0, 1) := dk_42 (dk_at dksX1_heaps_1 6 rfl rfl)
theorem dX1_heaps_30 : decode cX1_heaps 30 = .ok (.getfield 29, 3) := dk_180 0 29 (dk_at dksX1_heaps_1 7 rfl rfl)
theorem dX1_heaps_33 : decode cX1_heaps 33 = .ok (.iload_n 3, 1) := dk_29 (dk_at dksX1_heaps_1 10 rfl rfl)
theorem dX1_heaps_34 : decode cX1_heaps 34 = .ok (.invokevirtual 313, 3) := dk_182 1 57 (dk_at dksX1_heaps_1 11 rfl rfl)
theorem dX1_heaps_37 : decode cX1_heaps 37 = .ok (.iload_n 1, 1) := dk_27 (dk_at dksX1_heaps_1 14 rfl rfl)
theorem dX1_heaps_38 : decode cX1_heaps 38 = .ok (.if_icmp .lt 5, 3) := dk_161 0 5 (dk_at dksX1_heaps_1 15 rfl rfl)
theorem dX1_heaps_41 : decode cX1_heaps 41 = .ok (.iload_n 3, 1) := dk_29 (dk_at dksX1_heaps_1 18 rfl rfl)
theorem dX1_heaps_42 : decode cX1_heaps 42 = .ok (.ireturn, 1) := dk_172 (dk_at dksX1_heaps_1 19 rfl rfl)
theorem dX1_heaps_43 : decode cX1_heaps 43 = .ok (.iinc 3 1, 3) := dk_132 3 1 (dk_at dksX1_heaps_1 20 rfl rfl)
theorem dX1_heaps_46 : decode cX1_heaps 46 = .ok (.goto (-24), 3) := dk_167 255 232 (dk_at dksX1_heaps_2 0 rfl rfl)
theorem dX1_heaps_49 : decode cX1_heaps 49 = .ok (.iconst (-1), 1) := dk_2 (dk_at dksX1_heaps_2 3 rfl rfl)
theorem dX1_heaps_50 : decode cX1_heaps 50 = .ok (.ireturn, 1) := dk_172 (dk_at dksX1_heaps_2 4 rfl rfl)
abbrev cX1_heapsOf : ByteArray := prog_1_method_46_code
def yX1_heapsOf : MethodName := ⟨RX1, "heapsOf", "(I)I"⟩
def dkwX1_heapsOf_1 : List UInt8 := [4, 167, 0, 4, 3, 96, 61, 132, 3, 1, 167, 255, 226, 28, 172]
abbrev dktX1_heapsOf_1 : List UInt8 := dkwX1_heapsOf_1 ++ []
def dkwX1_heapsOf_0 : List UInt8 := [3, 61, 3, 62, 29, 17, 1, 0, 162, 0, 29, 28, 42, 180, 0, 29, 29, 182, 1, 57, 27, 161, 0, 7]
abbrev dktX1_heapsOf_0 : List UInt8 := dkwX1_heapsOf_0 ++ dktX1_heapsOf_1
theorem dksX1_heapsOf_0 : cX1_heapsOf.data.toList.drop 0 = dktX1_heapsOf_0 := by decide +kernel
theorem dksX1_heapsOf_1 : cX1_heapsOf.data.toList.drop 24 = dktX1_heapsOf_1 := dk_seg dksX1_heapsOf_0 24 rfl rfl
theorem dX1_heapsOf_0 : decode cX1_heapsOf 0 = .ok (.iconst 0, 1) := dk_3 (dk_at dksX1_heapsOf_0 0 rfl rfl)
theorem dX1_heapsOf_1 : decode cX1_heapsOf 1 = .ok (.istore_n 2, 1) := dk_61 (dk_at dksX1_heapsOf_0 1 rfl rfl)
theorem dX1_heapsOf_2 : decode cX1_heapsOf 2 = .ok (.iconst 0, 1) := dk_3 (dk_at dksX1_heapsOf_0 2 rfl rfl)
theorem dX1_heapsOf_3 : decode cX1_heapsOf 3 = .ok (.istore_n 3, 1) := dk_62 (dk_at dksX1_heapsOf_0 3 rfl rfl)
theorem dX1_heapsOf_4 : decode cX1_heapsOf 4 = .ok (.iload_n 3, 1) := dk_29 (dk_at dksX1_heapsOf_0 4 rfl rfl)
theorem dX1_heapsOf_5 : decode cX1_heapsOf 5 = .ok (.sipush 256, 3) := dk_17 1 0 (dk_at dksX1_heapsOf_0 5 rfl rfl)
theorem dX1_heapsOf_8 : decode cX1_heapsOf 8 = .ok (.if_icmp .ge 29, 3) := dk_162 0 29 (dk_at dksX1_heapsOf_0 8 rfl rfl)
theorem dX1_heapsOf_11 : decode cX1_heapsOf 11 = .ok (.iload_n 2, 1) := dk_28 (dk_at dksX1_heapsOf_0 11 rfl rfl)
theorem dX1_heapsOf_12 : decode cX1_heapsOf 12 = .ok (.aload_n 0, 1) := dk_42 (dk_at dksX1_heapsOf_0 12 rfl rfl)
theorem dX1_heapsOf_13 : decode cX1_heapsOf 13 = .ok (.getfield 29, 3) := dk_180 0 29 (dk_at dksX1_heapsOf_0 13 rfl rfl)
theorem dX1_heapsOf_16 : decode cX1_heapsOf 16 = .ok (.iload_n 3, 1) := dk_29 (dk_at dksX1_heapsOf_0 16 rfl rfl)
theorem dX1_heapsOf_17 : decode cX1_heapsOf 17 = .ok (.invokevirtual 313, 3) := dk_182 1 57 (dk_at dksX1_heapsOf_0 17 rfl rfl)
theorem dX1_heapsOf_20 : decode cX1_heapsOf 20 = .ok (.iload_n 1, 1) := dk_27 (dk_at dksX1_heapsOf_0 20 rfl rfl)
theorem dX1_heapsOf_21 : decode cX1_heapsOf 21 = .ok (.if_icmp .lt 7, 3) := dk_161 0 7 (dk_at dksX1_heapsOf_0 21 rfl rfl)
theorem dX1_heapsOf_24 : decode cX1_heapsOf 24 = .ok (.iconst 1, 1) := dk_4 (dk_at dksX1_heapsOf_1 0 rfl rfl)
theorem dX1_heapsOf_25 : decode cX1_heapsOf 25 = .ok (.goto 4, 3) := dk_167 0 4 (dk_at dksX1_heapsOf_1 1 rfl rfl)
theorem dX1_heapsOf_28 : decode cX1_heapsOf 28 = .ok (.iconst 0, 1) := dk_3 (dk_at dksX1_heapsOf_1 4 rfl rfl)
theorem dX1_heapsOf_29 : decode cX1_heapsOf 29 = .ok (.iadd, 1) := dk_96 (dk_at dksX1_heapsOf_1 5 rfl rfl)
theorem dX1_heapsOf_30 : decode cX1_heapsOf 30 = .ok (.istore_n 2, 1) := dk_61 (dk_at dksX1_heapsOf_1 6 rfl rfl)
theorem dX1_heapsOf_31 : decode cX1_heapsOf 31 = .ok (.iinc 3 1, 3) := dk_132 3 1 (dk_at dksX1_heapsOf_1 7 rfl rfl)
theorem dX1_heapsOf_34 : decode cX1_heapsOf 34 = .ok (.goto (-30), 3) := dk_167 255 226 (dk_at dksX1_heapsOf_1 10 rfl rfl)
theorem dX1_heapsOf_37 : decode cX1_heapsOf 37 = .ok (.iload_n 2, 1) := dk_28 (dk_at dksX1_heapsOf_1 13 rfl rfl)
theorem dX1_heapsOf_38 : decode cX1_heapsOf 38 = .ok (.ireturn, 1) := dk_172 (dk_at dksX1_heapsOf_1 14 rfl rfl)
abbrev cX1_length : ByteArray := prog_1_method_48_code
def yX1_length : MethodName := ⟨RX1, "length", "(IIIZ)I"⟩
def dkwX1_length_6 : List UInt8 := [54, 6, 132, 7, 1, 167, 255, 159, 21, 6, 172]
abbrev dktX1_length_6 : List UInt8 := dkwX1_length_6 ++ []
def dkwX1_length_5 : List UInt8 := [54, 8, 132, 9, 1, 167, 255, 200, 21, 6, 21, 8, 21, 5, 96, 4, 100, 21, 5, 108, 184, 0, 9]
abbrev dktX1_length_5 : List UInt8 := dkwX1_length_5 ++ dktX1_length_6
def dkwX1_length_4 : List UInt8 := [27, 160, 0, 21, 42, 180, 0, 29, 21, 9, 182, 1, 38, 21, 7, 160, 0, 7, 4, 167, 0, 4, 3, 96]
abbrev dktX1_length_4 : List UInt8 := dkwX1_length_4 ++ dktX1_length_5
def dkwX1_length_3 : List UInt8 := [180, 0, 29, 180, 0, 79, 162, 0, 50, 21, 8, 42, 180, 0, 29, 180, 0, 121, 21, 7, 50, 180, 0, 168]
abbrev dktX1_length_3 : List UInt8 := dkwX1_length_3 ++ dktX1_length_4
def dkwX1_length_2 : List UInt8 := [54, 7, 21, 7, 42, 180, 0, 29, 180, 0, 76, 162, 0, 91, 3, 54, 8, 3, 54, 9, 21, 9, 42]
abbrev dktX1_length_2 : List UInt8 := dkwX1_length_2 ++ dktX1_length_3
def dkwX1_length_1 : List UInt8 := [4, 167, 0, 4, 3, 184, 0, 103, 21, 4, 153, 0, 7, 28, 167, 0, 4, 29, 54, 5, 3, 54, 6, 3]
abbrev dktX1_length_1 : List UInt8 := dkwX1_length_1 ++ dktX1_length_2
def dkwX1_length_0 : List UInt8 := [27, 184, 1, 47, 28, 4, 16, 9, 184, 0, 68, 153, 0, 17, 29, 28, 16, 9, 184, 0, 68, 153, 0, 7]
abbrev dktX1_length_0 : List UInt8 := dkwX1_length_0 ++ dktX1_length_1
theorem dksX1_length_0 : cX1_length.data.toList.drop 0 = dktX1_length_0 := by decide +kernel
theorem dksX1_length_1 : cX1_length.data.toList.drop 24 = dktX1_length_1 := dk_seg dksX1_length_0 24 rfl rfl
theorem dksX1_length_2 : cX1_length.data.toList.drop 48 = dktX1_length_2 := dk_seg dksX1_length_1 24 rfl rfl
theorem dksX1_length_3 : cX1_length.data.toList.drop 71 = dktX1_length_3 := dk_seg dksX1_length_2 23 rfl rfl
theorem dksX1_length_4 : cX1_length.data.toList.drop 95 = dktX1_length_4 := dk_seg dksX1_length_3 24 rfl rfl
theorem dksX1_length_5 : cX1_length.data.toList.drop 119 = dktX1_length_5 := dk_seg dksX1_length_4 24 rfl rfl
theorem dksX1_length_6 : cX1_length.data.toList.drop 142 = dktX1_length_6 := dk_seg dksX1_length_5 23 rfl rfl
theorem dX1_length_0 : decode cX1_length 0 = .ok (.iload_n 1, 1) := dk_27 (dk_at dksX1_length_0 0 rfl rfl)
theorem dX1_length_1 : decode cX1_length 1 = .ok (.invokestatic 303, 3) := dk_184 1 47 (dk_at dksX1_length_0 1 rfl rfl)
theorem dX1_length_4 : decode cX1_length 4 = .ok (.iload_n 2, 1) := dk_28 (dk_at dksX1_length_0 4 rfl rfl)
theorem dX1_length_5 : decode cX1_length 5 = .ok (.iconst 1, 1) := dk_4 (dk_at dksX1_length_0 5 rfl rfl)
theorem dX1_length_6 : decode cX1_length 6 = .ok (.bipush 9, 2) := dk_16 9 (dk_at dksX1_length_0 6 rfl rfl)
theorem dX1_length_8 : decode cX1_length 8 = .ok (.invokestatic 68, 3) := dk_184 0 68 (dk_at dksX1_length_0 8 rfl rfl)
theorem dX1_length_11 : decode cX1_length 11 = .ok (.ifCond .eq 17, 3) := dk_153 0 17 (dk_at dksX1_length_0 11 rfl rfl)
theorem dX1_length_14 : decode cX1_length 14 = .ok (.iload_n 3, 1) := dk_29 (dk_at dksX1_length_0 14 rfl rfl)
theorem dX1_length_15 : decode cX1_length 15 = .ok (.iload_n 2, 1) := dk_28 (dk_at dksX1_length_0 15 rfl rfl)
theorem dX1_length_16 : decode cX1_length 16 = .ok (.bipush 9, 2) := dk_16 9 (dk_at dksX1_length_0 16 rfl rfl)
theorem dX1_length_18 : decode cX1_length 18 = .ok (.invokestatic 68, 3) := dk_184 0 68 (dk_at dksX1_length_0 18 rfl rfl)
theorem dX1_length_21 : decode cX1_length 21 = .ok (.ifCond .eq 7, 3) := dk_153 0 7 (dk_at dksX1_length_0 21 rfl rfl)
theorem dX1_length_24 : decode cX1_length 24 = .ok (.iconst 1, 1) := dk_4 (dk_at dksX1_length_1 0 rfl rfl)
theorem dX1_length_25 : decode cX1_length 25 = .ok (.goto 4, 3) := dk_167 0 4 (dk_at dksX1_length_1 1 rfl rfl)
theorem dX1_length_28 : decode cX1_length 28 = .ok (.iconst 0, 1) := dk_3 (dk_at dksX1_length_1 4 rfl rfl)
theorem dX1_length_29 : decode cX1_length 29 = .ok (.invokestatic 103, 3) := dk_184 0 103 (dk_at dksX1_length_1 5 rfl rfl)
theorem dX1_length_32 : decode cX1_length 32 = .ok (.iload 4, 2) := dk_21 4 (dk_at dksX1_length_1 8 rfl rfl)
theorem dX1_length_34 : decode cX1_length 34 = .ok (.ifCond .eq 7, 3) := dk_153 0 7 (dk_at dksX1_length_1 10 rfl rfl)
theorem dX1_length_37 : decode cX1_length 37 = .ok (.iload_n 2, 1) := dk_28 (dk_at dksX1_length_1 13 rfl rfl)
theorem dX1_length_38 : decode cX1_length 38 = .ok (.goto 4, 3) := dk_167 0 4 (dk_at dksX1_length_1 14 rfl rfl)
theorem dX1_length_41 : decode cX1_length 41 = .ok (.iload_n 3, 1) := dk_29 (dk_at dksX1_length_1 17 rfl rfl)
theorem dX1_length_42 : decode cX1_length 42 = .ok (.istore 5, 2) := dk_54 5 (dk_at dksX1_length_1 18 rfl rfl)
theorem dX1_length_44 : decode cX1_length 44 = .ok (.iconst 0, 1) := dk_3 (dk_at dksX1_length_1 20 rfl rfl)
theorem dX1_length_45 : decode cX1_length 45 = .ok (.istore 6, 2) := dk_54 6 (dk_at dksX1_length_1 21 rfl rfl)
theorem dX1_length_47 : decode cX1_length 47 = .ok (.iconst 0, 1) := dk_3 (dk_at dksX1_length_1 23 rfl rfl)
theorem dX1_length_48 : decode cX1_length 48 = .ok (.istore 7, 2) := dk_54 7 (dk_at dksX1_length_2 0 rfl rfl)
theorem dX1_length_50 : decode cX1_length 50 = .ok (.iload 7, 2) := dk_21 7 (dk_at dksX1_length_2 2 rfl rfl)
theorem dX1_length_52 : decode cX1_length 52 = .ok (.aload_n 0, 1) := dk_42 (dk_at dksX1_length_2 4 rfl rfl)
theorem dX1_length_53 : decode cX1_length 53 = .ok (.getfield 29, 3) := dk_180 0 29 (dk_at dksX1_length_2 5 rfl rfl)
theorem dX1_length_56 : decode cX1_length 56 = .ok (.getfield 76, 3) := dk_180 0 76 (dk_at dksX1_length_2 8 rfl rfl)
theorem dX1_length_59 : decode cX1_length 59 = .ok (.if_icmp .ge 91, 3) := dk_162 0 91 (dk_at dksX1_length_2 11 rfl rfl)
theorem dX1_length_62 : decode cX1_length 62 = .ok (.iconst 0, 1) := dk_3 (dk_at dksX1_length_2 14 rfl rfl)
theorem dX1_length_63 : decode cX1_length 63 = .ok (.istore 8, 2) := dk_54 8 (dk_at dksX1_length_2 15 rfl rfl)
theorem dX1_length_65 : decode cX1_length 65 = .ok (.iconst 0, 1) := dk_3 (dk_at dksX1_length_2 17 rfl rfl)
theorem dX1_length_66 : decode cX1_length 66 = .ok (.istore 9, 2) := dk_54 9 (dk_at dksX1_length_2 18 rfl rfl)
theorem dX1_length_68 : decode cX1_length 68 = .ok (.iload 9, 2) := dk_21 9 (dk_at dksX1_length_2 20 rfl rfl)
theorem dX1_length_70 : decode cX1_length 70 = .ok (.aload_n 0, 1) := dk_42 (dk_at dksX1_length_2 22 rfl rfl)
theorem dX1_length_71 : decode cX1_length 71 = .ok (.getfield 29, 3) := dk_180 0 29 (dk_at dksX1_length_3 0 rfl rfl)
theorem dX1_length_74 : decode cX1_length 74 = .ok (.getfield 79, 3) := dk_180 0 79 (dk_at dksX1_length_3 3 rfl rfl)
theorem dX1_length_77 : decode cX1_length 77 = .ok (.if_icmp .ge 50, 3) := dk_162 0 50 (dk_at dksX1_length_3 6 rfl rfl)
theorem dX1_length_80 : decode cX1_length 80 = .ok (.iload 8, 2) := dk_21 8 (dk_at dksX1_length_3 9 rfl rfl)
theorem dX1_length_82 : decode cX1_length 82 = .ok (.aload_n 0, 1) := dk_42 (dk_at dksX1_length_3 11 rfl rfl)
theorem dX1_length_83 : decode cX1_length 83 = .ok (.getfield 29, 3) := dk_180 0 29 (dk_at dksX1_length_3 12 rfl rfl)
theorem dX1_length_86 : decode cX1_length 86 = .ok (.getfield 121, 3) := dk_180 0 121 (dk_at dksX1_length_3 15 rfl rfl)
theorem dX1_length_89 : decode cX1_length 89 = .ok (.iload 7, 2) := dk_21 7 (dk_at dksX1_length_3 18 rfl rfl)
theorem dX1_length_91 : decode cX1_length 91 = .ok (.aaload, 1) := dk_50 (dk_at dksX1_length_3 20 rfl rfl)
theorem dX1_length_92 : decode cX1_length 92 = .ok (.getfield 168, 3) := dk_180 0 168 (dk_at dksX1_length_3 21 rfl rfl)
theorem dX1_length_95 : decode cX1_length 95 = .ok (.iload_n 1, 1) := dk_27 (dk_at dksX1_length_4 0 rfl rfl)
theorem dX1_length_96 : decode cX1_length 96 = .ok (.if_icmp .ne 21, 3) := dk_160 0 21 (dk_at dksX1_length_4 1 rfl rfl)
theorem dX1_length_99 : decode cX1_length 99 = .ok (.aload_n 0, 1) := dk_42 (dk_at dksX1_length_4 4 rfl rfl)
theorem dX1_length_100 : decode cX1_length 100 = .ok (.getfield 29, 3) := dk_180 0 29 (dk_at dksX1_length_4 5 rfl rfl)
theorem dX1_length_103 : decode cX1_length 103 = .ok (.iload 9, 2) := dk_21 9 (dk_at dksX1_length_4 8 rfl rfl)
theorem dX1_length_105 : decode cX1_length 105 = .ok (.invokevirtual 294, 3) := dk_182 1 38 (dk_at dksX1_length_4 10 rfl rfl)
theorem dX1_length_108 : decode cX1_length 108 = .ok (.iload 7, 2) := dk_21 7 (dk_at dksX1_length_4 13 rfl rfl)
theorem dX1_length_110 : decode cX1_length 110 = .ok (.if_icmp .ne 7, 3) := dk_160 0 7 (dk_at dksX1_length_4 15 rfl rfl)
theorem dX1_length_113 : decode cX1_length 113 = .ok (.iconst 1, 1) := dk_4 (dk_at dksX1_length_4 18 rfl rfl)
theorem dX1_length_114 : decode cX1_length 114 = .ok (.goto 4, 3) := dk_167 0 4 (dk_at dksX1_length_4 19 rfl rfl)
theorem dX1_length_117 : decode cX1_length 117 = .ok (.iconst 0, 1) := dk_3 (dk_at dksX1_length_4 22 rfl rfl)
theorem dX1_length_118 : decode cX1_length 118 = .ok (.iadd, 1) := dk_96 (dk_at dksX1_length_4 23 rfl rfl)
theorem dX1_length_119 : decode cX1_length 119 = .ok (.istore 8, 2) := dk_54 8 (dk_at dksX1_length_5 0 rfl rfl)
theorem dX1_length_121 : decode cX1_length 121 = .ok (.iinc 9 1, 3) := dk_132 9 1 (dk_at dksX1_length_5 2 rfl rfl)
theorem dX1_length_124 : decode cX1_length 124 = .ok (.goto (-56), 3) := dk_167 255 200 (dk_at dksX1_length_5 5 rfl rfl)
theorem dX1_length_127 : decode cX1_length 127 = .ok (.iload 6, 2) := dk_21 6 (dk_at dksX1_length_5 8 rfl rfl)
theorem dX1_length_129 : decode cX1_length 129 = .ok (.iload 8, 2) := dk_21 8 (dk_at dksX1_length_5 10 rfl rfl)
theorem dX1_length_131 : decode cX1_length 131 = .ok (.iload 5, 2) := dk_21 5 (dk_at dksX1_length_5 12 rfl rfl)
theorem dX1_length_133 : decode cX1_length 133 = .ok (.iadd, 1) := dk_96 (dk_at dksX1_length_5 14 rfl rfl)
theorem dX1_length_134 : decode cX1_length 134 = .ok (.iconst 1, 1) := dk_4 (dk_at dksX1_length_5 15 rfl rfl)
theorem dX1_length_135 : decode cX1_length 135 = .ok (.isub, 1) := dk_100 (dk_at dksX1_length_5 16 rfl rfl)
theorem dX1_length_136 : decode cX1_length 136 = .ok (.iload 5, 2) := dk_21 5 (dk_at dksX1_length_5 17 rfl rfl)
theorem dX1_length_138 : decode cX1_length 138 = .ok (.idiv, 1) := dk_108 (dk_at dksX1_length_5 19 rfl rfl)
theorem dX1_length_139 : decode cX1_length 139 = .ok (.invokestatic 9, 3) := dk_184 0 9 (dk_at dksX1_length_5 20 rfl rfl)
theorem dX1_length_142 : decode cX1_length 142 = .ok (.istore 6, 2) := dk_54 6 (dk_at dksX1_length_6 0 rfl rfl)
theorem dX1_length_144 : decode cX1_length 144 = .ok (.iinc 7 1, 3) := dk_132 7 1 (dk_at dksX1_length_6 2 rfl rfl)
theorem dX1_length_147 : decode cX1_length 147 = .ok (.goto (-97), 3) := dk_167 255 159 (dk_at dksX1_length_6 5 rfl rfl)
theorem dX1_length_150 : decode cX1_length 150 = .ok (.iload 6, 2) := dk_21 6 (dk_at dksX1_length_6 8 rfl rfl)
theorem dX1_length_152 : decode cX1_length 152 = .ok (.ireturn, 1) := dk_172 (dk_at dksX1_length_6 10 rfl rfl)
abbrev cX1_still : ByteArray := prog_1_method_49_code
def yX1_still : MethodName := ⟨RX1, "still", "(II)I"⟩
def dkwX1_still_5 : List UInt8 := [154, 0, 7, 4, 167, 0, 4, 3, 96, 54, 4, 132, 5, 1, 167, 255, 139, 21, 4, 29, 104, 172]
abbrev dktX1_still_5 : List UInt8 := dkwX1_still_5 ++ []
def dkwX1_still_4 : List UInt8 := [21, 4, 21, 5, 27, 28, 184, 0, 106, 153, 0, 22, 42, 180, 0, 29, 21, 5, 16, 16, 108, 182, 1, 63]
abbrev dktX1_still_4 : List UInt8 := dkwX1_still_4 ++ dktX1_still_5
def dkwX1_still_3 : List UInt8 := [160, 0, 7, 4, 167, 0, 4, 3, 96, 54, 6, 132, 7, 1, 167, 255, 201, 29, 21, 6, 184, 0, 9, 62]
abbrev dktX1_still_3 : List UInt8 := dkwX1_still_3 ++ dktX1_still_4
def dkwX1_still_2 : List UInt8 := [21, 7, 182, 0, 236, 153, 0, 25, 42, 180, 0, 29, 180, 0, 82, 21, 7, 50, 182, 0, 228, 21, 5]
abbrev dktX1_still_2 : List UInt8 := dkwX1_still_2 ++ dktX1_still_3
def dkwX1_still_1 : List UInt8 := [3, 54, 6, 3, 54, 7, 21, 7, 42, 180, 0, 29, 180, 0, 79, 162, 0, 49, 21, 6, 42, 180, 0, 29]
abbrev dktX1_still_1 : List UInt8 := dkwX1_still_1 ++ dktX1_still_2
def dkwX1_still_0 : List UInt8 := [27, 184, 0, 100, 28, 184, 0, 100, 3, 62, 3, 54, 4, 3, 54, 5, 21, 5, 17, 1, 0, 162, 0, 115]
abbrev dktX1_still_0 : List UInt8 := dkwX1_still_0 ++ dktX1_still_1
theorem dksX1_still_0 : cX1_still.data.toList.drop 0 = dktX1_still_0 := by decide +kernel
theorem dksX1_still_1 : cX1_still.data.toList.drop 24 = dktX1_still_1 := dk_seg dksX1_still_0 24 rfl rfl
theorem dksX1_still_2 : cX1_still.data.toList.drop 48 = dktX1_still_2 := dk_seg dksX1_still_1 24 rfl rfl
theorem dksX1_still_3 : cX1_still.data.toList.drop 71 = dktX1_still_3 := dk_seg dksX1_still_2 23 rfl rfl
theorem dksX1_still_4 : cX1_still.data.toList.drop 95 = dktX1_still_4 := dk_seg dksX1_still_3 24 rfl rfl
theorem dksX1_still_5 : cX1_still.data.toList.drop 119 = dktX1_still_5 := dk_seg dksX1_still_4 24 rfl rfl
theorem dX1_still_0 : decode cX1_still 0 = .ok (.iload_n 1, 1) := dk_27 (dk_at dksX1_still_0 0 rfl rfl)
theorem dX1_still_1 : decode cX1_still 1 = .ok (.invokestatic 100, 3) := dk_184 0 100 (dk_at dksX1_still_0 1 rfl rfl)
theorem dX1_still_4 : decode cX1_still 4 = .ok (.iload_n 2, 1) := dk_28 (dk_at dksX1_still_0 4 rfl rfl)
theorem dX1_still_5 : decode cX1_still 5 = .ok (.invokestatic 100, 3) := dk_184 0 100 (dk_at dksX1_still_0 5 rfl rfl)
theorem dX1_still_8 : decode cX1_still 8 = .ok (.iconst 0, 1) := dk_3 (dk_at dksX1_still_0 8 rfl rfl)
theorem dX1_still_9 : decode cX1_still 9 = .ok (.istore_n 3, 1) := dk_62 (dk_at dksX1_still_0 9 rfl rfl)
theorem dX1_still_10 : decode cX1_still 10 = .ok (.iconst 0, 1) := dk_3 (dk_at dksX1_still_0 10 rfl rfl)
theorem dX1_still_11 : decode cX1_still 11 = .ok (.istore 4, 2) := dk_54 4 (dk_at dksX1_still_0 11 rfl rfl)
theorem dX1_still_13 : decode cX1_still 13 = .ok (.iconst 0, 1) := dk_3 (dk_at dksX1_still_0 13 rfl rfl)
theorem dX1_still_14 : decode cX1_still 14 = .ok (.istore 5, 2) := dk_54 5 (dk_at dksX1_still_0 14 rfl rfl)
theorem dX1_still_16 : decode cX1_still 16 = .ok (.iload 5, 2) := dk_21 5 (dk_at dksX1_still_0 16 rfl rfl)
theorem dX1_still_18 : decode cX1_still 18 = .ok (.sipush 256, 3) := dk_17 1 0 (dk_at dksX1_still_0 18 rfl rfl)
theorem dX1_still_21 : decode cX1_still 21 = .ok (.if_icmp .ge 115, 3) := dk_162 0 115 (dk_at dksX1_still_0 21 rfl rfl)
theorem dX1_still_24 : decode cX1_still 24 = .ok (.iconst 0, 1) := dk_3 (dk_at dksX1_still_1 0 rfl rfl)
theorem dX1_still_25 : decode cX1_still 25 = .ok (.istore 6, 2) := dk_54 6 (dk_at dksX1_still_1 1 rfl rfl)
theorem dX1_still_27 : decode cX1_still 27 = .ok (.iconst 0, 1) := dk_3 (dk_at dksX1_still_1 3 rfl rfl)
theorem dX1_still_28 : decode cX1_still 28 = .ok (.istore 7, 2) := dk_54 7 (dk_at dksX1_still_1 4 rfl rfl)
theorem dX1_still_30 : decode cX1_still 30 = .ok (.iload 7, 2) := dk_21 7 (dk_at dksX1_still_1 6 rfl rfl)
theorem dX1_still_32 : decode cX1_still 32 = .ok (.aload_n 0, 1) := dk_42 (dk_at dksX1_still_1 8 rfl rfl)
theorem dX1_still_33 : decode cX1_still 33 = .ok (.getfield 29, 3) := dk_180 0 29 (dk_at dksX1_still_1 9 rfl rfl)
theorem dX1_still_36 : decode cX1_still 36 = .ok (.getfield 79, 3) := dk_180 0 79 (dk_at dksX1_still_1 12 rfl rfl)
theorem dX1_still_39 : decode cX1_still 39 = .ok (.if_icmp .ge 49, 3) := dk_162 0 49 (dk_at dksX1_still_1 15 rfl rfl)
theorem dX1_still_42 : decode cX1_still 42 = .ok (.iload 6, 2) := dk_21 6 (dk_at dksX1_still_1 18 rfl rfl)
theorem dX1_still_44 : decode cX1_still 44 = .ok (.aload_n 0, 1) := dk_42 (dk_at dksX1_still_1 20 rfl rfl)
theorem dX1_still_45 : decode cX1_still 45 = .ok (.getfield 29, 3) := dk_180 0 29 (dk_at dksX1_still_1 21 rfl rfl)
theorem dX1_still_48 : decode cX1_still 48 = .ok (.iload 7, 2) := dk_21 7 (dk_at dksX1_still_2 0 rfl rfl)
theorem dX1_still_50 : decode cX1_still 50 = .ok (.invokevirtual 236, 3) := dk_182 0 236 (dk_at dksX1_still_2 2 rfl rfl)
theorem dX1_still_53 : decode cX1_still 53 = .ok (.ifCond .eq 25, 3) := dk_153 0 25 (dk_at dksX1_still_2 5 rfl rfl)
theorem dX1_still_56 : decode cX1_still 56 = .ok (.aload_n 0, 1) := dk_42 (dk_at dksX1_still_2 8 rfl rfl)
theorem dX1_still_57 : decode cX1_still 57 = .ok (.getfield 29, 3) := dk_180 0 29 (dk_at dksX1_still_2 9 rfl rfl)
theorem dX1_still_60 : decode cX1_still 60 = .ok (.getfield 82, 3) := dk_180 0 82 (dk_at dksX1_still_2 12 rfl rfl)
theorem dX1_still_63 : decode cX1_still 63 = .ok (.iload 7, 2) := dk_21 7 (dk_at dksX1_still_2 15 rfl rfl)
theorem dX1_still_65 : decode cX1_still 65 = .ok (.aaload, 1) := dk_50 (dk_at dksX1_still_2 17 rfl rfl)
theorem dX1_still_66 : decode cX1_still 66 = .ok (.invokevirtual 228, 3) := dk_182 0 228 (dk_at dksX1_still_2 18 rfl rfl)
theorem dX1_still_69 : decode cX1_still 69 = .ok (.iload 5, 2) := dk_21 5 (dk_at dksX1_still_2 21 rfl rfl)
theorem dX1_still_71 : decode cX1_still 71 = .ok (.if_icmp .ne 7, 3) := dk_160 0 7 (dk_at dksX1_still_3 0 rfl rfl)
theorem dX1_still_74 : decode cX1_still 74 = .ok (.iconst 1, 1) := dk_4 (dk_at dksX1_still_3 3 rfl rfl)
theorem dX1_still_75 : decode cX1_still 75 = .ok (.goto 4, 3) := dk_167 0 4 (dk_at dksX1_still_3 4 rfl rfl)
theorem dX1_still_78 : decode cX1_still 78 = .ok (.iconst 0, 1) := dk_3 (dk_at dksX1_still_3 7 rfl rfl)
theorem dX1_still_79 : decode cX1_still 79 = .ok (.iadd, 1) := dk_96 (dk_at dksX1_still_3 8 rfl rfl)
theorem dX1_still_80 : decode cX1_still 80 = .ok (.istore 6, 2) := dk_54 6 (dk_at dksX1_still_3 9 rfl rfl)
theorem dX1_still_82 : decode cX1_still 82 = .ok (.iinc 7 1, 3) := dk_132 7 1 (dk_at dksX1_still_3 11 rfl rfl)
theorem dX1_still_85 : decode cX1_still 85 = .ok (.goto (-55), 3) := dk_167 255 201 (dk_at dksX1_still_3 14 rfl rfl)
theorem dX1_still_88 : decode cX1_still 88 = .ok (.iload_n 3, 1) := dk_29 (dk_at dksX1_still_3 17 rfl rfl)
theorem dX1_still_89 : decode cX1_still 89 = .ok (.iload 6, 2) := dk_21 6 (dk_at dksX1_still_3 18 rfl rfl)
theorem dX1_still_91 : decode cX1_still 91 = .ok (.invokestatic 9, 3) := dk_184 0 9 (dk_at dksX1_still_3 20 rfl rfl)
theorem dX1_still_94 : decode cX1_still 94 = .ok (.istore_n 3, 1) := dk_62 (dk_at dksX1_still_3 23 rfl rfl)
theorem dX1_still_95 : decode cX1_still 95 = .ok (.iload 4, 2) := dk_21 4 (dk_at dksX1_still_4 0 rfl rfl)
theorem dX1_still_97 : decode cX1_still 97 = .ok (.iload 5, 2) := dk_21 5 (dk_at dksX1_still_4 2 rfl rfl)
theorem dX1_still_99 : decode cX1_still 99 = .ok (.iload_n 1, 1) := dk_27 (dk_at dksX1_still_4 4 rfl rfl)
theorem dX1_still_100 : decode cX1_still 100 = .ok (.iload_n 2, 1) := dk_28 (dk_at dksX1_still_4 5 rfl rfl)
theorem dX1_still_101 : decode cX1_still 101 = .ok (.invokestatic 106, 3) := dk_184 0 106 (dk_at dksX1_still_4 6 rfl rfl)
theorem dX1_still_104 : decode cX1_still 104 = .ok (.ifCond .eq 22, 3) := dk_153 0 22 (dk_at dksX1_still_4 9 rfl rfl)
theorem dX1_still_107 : decode cX1_still 107 = .ok (.aload_n 0, 1) := dk_42 (dk_at dksX1_still_4 12 rfl rfl)
theorem dX1_still_108 : decode cX1_still 108 = .ok (.getfield 29, 3) := dk_180 0 29 (dk_at dksX1_still_4 13 rfl rfl)
theorem dX1_still_111 : decode cX1_still 111 = .ok (.iload 5, 2) := dk_21 5 (dk_at dksX1_still_4 16 rfl rfl)
theorem dX1_still_113 : decode cX1_still 113 = .ok (.bipush 16, 2) := dk_16 16 (dk_at dksX1_still_4 18 rfl rfl)
theorem dX1_still_115 : decode cX1_still 115 = .ok (.idiv, 1) := dk_108 (dk_at dksX1_still_4 20 rfl rfl)
theorem dX1_still_116 : decode cX1_still 116 = .ok (.invokevirtual 319, 3) := dk_182 1 63 (dk_at dksX1_still_4 21 rfl rfl)
theorem dX1_still_119 : decode cX1_still 119 = .ok (.ifCond .ne 7, 3) := dk_154 0 7 (dk_at dksX1_still_5 0 rfl rfl)
theorem dX1_still_122 : decode cX1_still 122 = .ok (.iconst 1, 1) := dk_4 (dk_at dksX1_still_5 3 rfl rfl)
theorem dX1_still_123 : decode cX1_still 123 = .ok (.goto 4, 3) := dk_167 0 4 (dk_at dksX1_still_5 4 rfl rfl)
theorem dX1_still_126 : decode cX1_still 126 = .ok (.iconst 0, 1) := dk_3 (dk_at dksX1_still_5 7 rfl rfl)
theorem dX1_still_127 : decode cX1_still 127 = .ok (.iadd, 1) := dk_96 (dk_at dksX1_still_5 8 rfl rfl)
theorem dX1_still_128 : decode cX1_still 128 = .ok (.istore 4, 2) := dk_54 4 (dk_at dksX1_still_5 9 rfl rfl)
theorem dX1_still_130 : decode cX1_still 130 = .ok (.iinc 5 1, 3) := dk_132 5 1 (dk_at dksX1_still_5 11 rfl rfl)
theorem dX1_still_133 : decode cX1_still 133 = .ok (.goto (-117), 3) := dk_167 255 139 (dk_at dksX1_still_5 14 rfl rfl)
theorem dX1_still_136 : decode cX1_still 136 = .ok (.iload 4, 2) := dk_21 4 (dk_at dksX1_still_5 17 rfl rfl)
theorem dX1_still_138 : decode cX1_still 138 = .ok (.iload_n 3, 1) := dk_29 (dk_at dksX1_still_5 19 rfl rfl)
theorem dX1_still_139 : decode cX1_still 139 = .ok (.imul, 1) := dk_104 (dk_at dksX1_still_5 20 rfl rfl)
theorem dX1_still_140 : decode cX1_still 140 = .ok (.ireturn, 1) := dk_172 (dk_at dksX1_still_5 21 rfl rfl)
abbrev cX1_teller : ByteArray := prog_1_method_50_code
def yX1_teller : MethodName := ⟨RX1, "teller", "(IIII)I"⟩
def dkwX1_teller_4 : List UInt8 := [180, 0, 29, 89, 180, 0, 86, 4, 96, 181, 0, 86, 42, 180, 0, 29, 180, 0, 86, 4, 100, 172]
abbrev dktX1_teller_4 : List UInt8 := dkwX1_teller_4 ++ []
def dkwX1_teller_3 : List UInt8 := [180, 1, 66, 42, 180, 0, 29, 180, 0, 86, 187, 1, 70, 89, 27, 28, 29, 21, 4, 183, 1, 72, 83, 42]
abbrev dktX1_teller_3 : List UInt8 := dkwX1_teller_3 ++ dktX1_teller_4
def dkwX1_teller_2 : List UInt8 := [180, 0, 29, 180, 0, 86, 16, 8, 162, 0, 7, 4, 167, 0, 4, 3, 184, 0, 118, 42, 180, 0, 29]
abbrev dktX1_teller_2 : List UInt8 := dkwX1_teller_2 ++ dktX1_teller_3
def dkwX1_teller_1 : List UInt8 := [153, 0, 18, 21, 4, 3, 16, 9, 184, 0, 68, 153, 0, 7, 4, 167, 0, 4, 3, 184, 0, 103, 42]
abbrev dktX1_teller_1 : List UInt8 := dkwX1_teller_1 ++ dktX1_teller_2
def dkwX1_teller_0 : List UInt8 := [27, 184, 0, 100, 28, 3, 17, 0, 239, 184, 0, 68, 153, 0, 29, 29, 28, 17, 0, 239, 184, 0, 68]
abbrev dktX1_teller_0 : List UInt8 := dkwX1_teller_0 ++ dktX1_teller_1
theorem dksX1_teller_0 : cX1_teller.data.toList.drop 0 = dktX1_teller_0 := by decide +kernel
theorem dksX1_teller_1 : cX1_teller.data.toList.drop 23 = dktX1_teller_1 := dk_seg dksX1_teller_0 23 rfl rfl
theorem dksX1_teller_2 : cX1_teller.data.toList.drop 46 = dktX1_teller_2 := dk_seg dksX1_teller_1 23 rfl rfl
theorem dksX1_teller_3 : cX1_teller.data.toList.drop 69 = dktX1_teller_3 := dk_seg dksX1_teller_2 23 rfl rfl
theorem dksX1_teller_4 : cX1_teller.data.toList.drop 93 = dktX1_teller_4 := dk_seg dksX1_teller_3 24 rfl rfl
theorem dX1_teller_0 : decode cX1_teller 0 = .ok (.iload_n 1, 1) := dk_27 (dk_at dksX1_teller_0 0 rfl rfl)
theorem dX1_teller_1 : decode cX1_teller 1 = .ok (.invokestatic 100, 3) := dk_184 0 100 (dk_at dksX1_teller_0 1 rfl rfl)
theorem dX1_teller_4 : decode cX1_teller 4 = .ok (.iload_n 2, 1) := dk_28 (dk_at dksX1_teller_0 4 rfl rfl)
theorem dX1_teller_5 : decode cX1_teller 5 = .ok (.iconst 0, 1) := dk_3 (dk_at dksX1_teller_0 5 rfl rfl)
theorem dX1_teller_6 : decode cX1_teller 6 = .ok (.sipush 239, 3) := dk_17 0 239 (dk_at dksX1_teller_0 6 rfl rfl)
theorem dX1_teller_9 : decode cX1_teller 9 = .ok (.invokestatic 68, 3) := dk_184 0 68 (dk_at dksX1_teller_0 9 rfl rfl)
theorem dX1_teller_12 : decode cX1_teller 12 = .ok (.ifCond .eq 29, 3) := dk_153 0 29 (dk_at dksX1_teller_0 12 rfl rfl)
theorem dX1_teller_15 : decode cX1_teller 15 = .ok (.iload_n 3, 1) := dk_29 (dk_at dksX1_teller_0 15 rfl rfl)
theorem dX1_teller_16 : decode cX1_teller 16 = .ok (.iload_n 2, 1) := dk_28 (dk_at dksX1_teller_0 16 rfl rfl)
theorem dX1_teller_17 : decode cX1_teller 17 = .ok (.sipush 239, 3) := dk_17 0 239 (dk_at dksX1_teller_0 17 rfl rfl)
theorem dX1_teller_20 : decode cX1_teller 20 = .ok (.invokestatic 68, 3) := dk_184 0 68 (dk_at dksX1_teller_0 20 rfl rfl)
theorem dX1_teller_23 : decode cX1_teller 23 = .ok (.ifCond .eq 18, 3) := dk_153 0 18 (dk_at dksX1_teller_1 0 rfl rfl)
theorem dX1_teller_26 : decode cX1_teller 26 = .ok (.iload 4, 2) := dk_21 4 (dk_at dksX1_teller_1 3 rfl rfl)
theorem dX1_teller_28 : decode cX1_teller 28 = .ok (.iconst 0, 1) := dk_3 (dk_at dksX1_teller_1 5 rfl rfl)
theorem dX1_teller_29 : decode cX1_teller 29 = .ok (.bipush 9, 2) := dk_16 9 (dk_at dksX1_teller_1 6 rfl rfl)
theorem dX1_teller_31 : decode cX1_teller 31 = .ok (.invokestatic 68, 3) := dk_184 0 68 (dk_at dksX1_teller_1 8 rfl rfl)
theorem dX1_teller_34 : decode cX1_teller 34 = .ok (.ifCond .eq 7, 3) := dk_153 0 7 (dk_at dksX1_teller_1 11 rfl rfl)
theorem dX1_teller_37 : decode cX1_teller 37 = .ok (.iconst 1, 1) := dk_4 (dk_at dksX1_teller_1 14 rfl rfl)
theorem dX1_teller_38 : decode cX1_teller 38 = .ok (.goto 4, 3) := dk_167 0 4 (dk_at dksX1_teller_1 15 rfl rfl)
theorem dX1_teller_41 : decode cX1_teller 41 = .ok (.iconst 0, 1) := dk_3 (dk_at dksX1_teller_1 18 rfl rfl)
theorem dX1_teller_42 : decode cX1_teller 42 = .ok (.invokestatic 103, 3) := dk_184 0 103 (dk_at dksX1_teller_1 19 rfl rfl)
theorem dX1_teller_45 : decode cX1_teller 45 = .ok (.aload_n 0, 1) := dk_42 (dk_at dksX1_teller_1 22 rfl rfl)
theorem dX1_teller_46 : decode cX1_teller 46 = .ok (.getfield 29, 3) := dk_180 0 29 (dk_at dksX1_teller_2 0 rfl rfl)
theorem dX1_teller_49 : decode cX1_teller 49 = .ok (.getfield 86, 3) := dk_180 0 86 (dk_at dksX1_teller_2 3 rfl rfl)
theorem dX1_teller_52 : decode cX1_teller 52 = .ok (.bipush 8, 2) := dk_16 8 (dk_at dksX1_teller_2 6 rfl rfl)
theorem dX1_teller_54 : decode cX1_teller 54 = .ok (.if_icmp .ge 7, 3) := dk_162 0 7 (dk_at dksX1_teller_2 8 rfl rfl)
theorem dX1_teller_57 : decode cX1_teller 57 = .ok (.iconst 1, 1) := dk_4 (dk_at dksX1_teller_2 11 rfl rfl)
theorem dX1_teller_58 : decode cX1_teller 58 = .ok (.goto 4, 3) := dk_167 0 4 (dk_at dksX1_teller_2 12 rfl rfl)
theorem dX1_teller_61 : decode cX1_teller 61 = .ok (.iconst 0, 1) := dk_3 (dk_at dksX1_teller_2 15 rfl rfl)
theorem dX1_teller_62 : decode cX1_teller 62 = .ok (.invokestatic 118, 3) := dk_184 0 118 (dk_at dksX1_teller_2 16 rfl rfl)
theorem dX1_teller_65 : decode cX1_teller 65 = .ok (.aload_n 0, 1) := dk_42 (dk_at dksX1_teller_2 19 rfl rfl)
theorem dX1_teller_66 : decode cX1_teller 66 = .ok (.getfield 29, 3) := dk_180 0 29 (dk_at dksX1_teller_2 20 rfl rfl)
theorem dX1_teller_69 : decode cX1_teller 69 = .ok (.getfield 322, 3) := dk_180 1 66 (dk_at dksX1_teller_3 0 rfl rfl)
theorem dX1_teller_72 : decode cX1_teller 72 = .ok (.aload_n 0, 1) := dk_42 (dk_at dksX1_teller_3 3 rfl rfl)
theorem dX1_teller_73 : decode cX1_teller 73 = .ok (.getfield 29, 3) := dk_180 0 29 (dk_at dksX1_teller_3 4 rfl rfl)
theorem dX1_teller_76 : decode cX1_teller 76 = .ok (.getfield 86, 3) := dk_180 0 86 (dk_at dksX1_teller_3 7 rfl rfl)
theorem dX1_teller_79 : decode cX1_teller 79 = .ok (.new 326, 3) := dk_187 1 70 (dk_at dksX1_teller_3 10 rfl rfl)
theorem dX1_teller_82 : decode cX1_teller 82 = .ok (.dup, 1) := dk_89 (dk_at dksX1_teller_3 13 rfl rfl)
theorem dX1_teller_83 : decode cX1_teller 83 = .ok (.iload_n 1, 1) := dk_27 (dk_at dksX1_teller_3 14 rfl rfl)
theorem dX1_teller_84 : decode cX1_teller 84 = .ok (.iload_n 2, 1) := dk_28 (dk_at dksX1_teller_3 15 rfl rfl)
theorem dX1_teller_85 : decode cX1_teller 85 = .ok (.iload_n 3, 1) := dk_29 (dk_at dksX1_teller_3 16 rfl rfl)
theorem dX1_teller_86 : decode cX1_teller 86 = .ok (.iload 4, 2) := dk_21 4 (dk_at dksX1_teller_3 17 rfl rfl)
theorem dX1_teller_88 : decode cX1_teller 88 = .ok (.invokespecial 328, 3) := dk_183 1 72 (dk_at dksX1_teller_3 19 rfl rfl)
theorem dX1_teller_91 : decode cX1_teller 91 = .ok (.aastore, 1) := dk_83 (dk_at dksX1_teller_3 22 rfl rfl)
theorem dX1_teller_92 : decode cX1_teller 92 = .ok (.aload_n 0, 1) := dk_42 (dk_at dksX1_teller_3 23 rfl rfl)
theorem dX1_teller_93 : decode cX1_teller 93 = .ok (.getfield 29, 3) := dk_180 0 29 (dk_at dksX1_teller_4 0 rfl rfl)
theorem dX1_teller_96 : decode cX1_teller 96 = .ok (.dup, 1) := dk_89 (dk_at dksX1_teller_4 3 rfl rfl)
theorem dX1_teller_97 : decode cX1_teller 97 = .ok (.getfield 86, 3) := dk_180 0 86 (dk_at dksX1_teller_4 4 rfl rfl)
theorem dX1_teller_100 : decode cX1_teller 100 = .ok (.iconst 1, 1) := dk_4 (dk_at dksX1_teller_4 7 rfl rfl)
theorem dX1_teller_101 : decode cX1_teller 101 = .ok (.iadd, 1) := dk_96 (dk_at dksX1_teller_4 8 rfl rfl)
theorem dX1_teller_102 : decode cX1_teller 102 = .ok (.putfield 86, 3) := dk_181 0 86 (dk_at dksX1_teller_4 9 rfl rfl)
theorem dX1_teller_105 : decode cX1_teller 105 = .ok (.aload_n 0, 1) := dk_42 (dk_at dksX1_teller_4 12 rfl rfl)
theorem dX1_teller_106 : decode cX1_teller 106 = .ok (.getfield 29, 3) := dk_180 0 29 (dk_at dksX1_teller_4 13 rfl rfl)
theorem dX1_teller_109 : decode cX1_teller 109 = .ok (.getfield 86, 3) := dk_180 0 86 (dk_at dksX1_teller_4 16 rfl rfl)
theorem dX1_teller_112 : decode cX1_teller 112 = .ok (.iconst 1, 1) := dk_4 (dk_at dksX1_teller_4 19 rfl rfl)
theorem dX1_teller_113 : decode cX1_teller 113 = .ok (.isub, 1) := dk_100 (dk_at dksX1_teller_4 20 rfl rfl)
theorem dX1_teller_114 : decode cX1_teller 114 = .ok (.ireturn, 1) := dk_172 (dk_at dksX1_teller_4 21 rfl rfl)
abbrev cX1_tells : ByteArray := prog_1_method_51_code
def yX1_tells : MethodName := ⟨RX1, "tells", "(III)I"⟩
def dkwX1_tells_3 : List UInt8 := [180, 1, 76, 4, 96, 181, 1, 76, 42, 180, 0, 29, 180, 1, 76, 4, 100, 172]
abbrev dktX1_tells_3 : List UInt8 := dkwX1_tells_3 ++ []
def dkwX1_tells_2 : List UInt8 := [180, 0, 29, 180, 1, 76, 187, 1, 83, 89, 27, 28, 29, 183, 1, 85, 83, 42, 180, 0, 29, 89]
abbrev dktX1_tells_2 : List UInt8 := dkwX1_tells_2 ++ dktX1_tells_3
def dkwX1_tells_1 : List UInt8 := [180, 1, 76, 16, 20, 162, 0, 7, 4, 167, 0, 4, 3, 184, 0, 118, 42, 180, 0, 29, 180, 1, 79, 42]
abbrev dktX1_tells_1 : List UInt8 := dkwX1_tells_1 ++ dktX1_tells_2
def dkwX1_tells_0 : List UInt8 := [42, 27, 182, 1, 73, 28, 184, 0, 100, 29, 3, 17, 0, 239, 184, 0, 68, 184, 0, 103, 42, 180, 0, 29]
abbrev dktX1_tells_0 : List UInt8 := dkwX1_tells_0 ++ dktX1_tells_1
theorem dksX1_tells_0 : cX1_tells.data.toList.drop 0 = dktX1_tells_0 := by decide +kernel
theorem dksX1_tells_1 : cX1_tells.data.toList.drop 24 = dktX1_tells_1 := dk_seg dksX1_tells_0 24 rfl rfl
theorem dksX1_tells_2 : cX1_tells.data.toList.drop 48 = dktX1_tells_2 := dk_seg dksX1_tells_1 24 rfl rfl
theorem dksX1_tells_3 : cX1_tells.data.toList.drop 70 = dktX1_tells_3 := dk_seg dksX1_tells_2 22 rfl rfl
theorem dX1_tells_0 : decode cX1_tells 0 = .ok (.aload_n 0, 1) := dk_42 (dk_at dksX1_tells_0 0 rfl rfl)
theorem dX1_tells_1 : decode cX1_tells 1 = .ok (.iload_n 1, 1) := dk_27 (dk_at dksX1_tells_0 1 rfl rfl)
theorem dX1_tells_2 : decode cX1_tells 2 = .ok (.invokevirtual 329, 3) := dk_182 1 73 (dk_at dksX1_tells_0 2 rfl rfl)
theorem dX1_tells_5 : decode cX1_tells 5 = .ok (.iload_n 2, 1) := dk_28 (dk_at dksX1_tells_0 5 rfl rfl)
theorem dX1_tells_6 : decode cX1_tells 6 = .ok (.invokestatic 100, 3) := dk_184 0 100 (dk_at dksX1_tells_0 6 rfl rfl)
theorem dX1_tells_9 : decode cX1_tells 9 = .ok (.iload_n 3, 1) := dk_29 (dk_at dksX1_tells_0 9 rfl rfl)
theorem dX1_tells_10 : decode cX1_tells 10 = .ok (.iconst 0, 1) := dk_3 (dk_at dksX1_tells_0 10 rfl rfl)
theorem dX1_tells_11 : decode cX1_tells 11 = .ok (.sipush 239, 3) := dk_17 0 239 (dk_at dksX1_tells_0 11 rfl rfl)
theorem dX1_tells_14 : decode cX1_tells 14 = .ok (.invokestatic 68, 3) := dk_184 0 68 (dk_at dksX1_tells_0 14 rfl rfl)
theorem dX1_tells_17 : decode cX1_tells 17 = .ok (.invokestatic 103, 3) := dk_184 0 103 (dk_at dksX1_tells_0 17 rfl rfl)
theorem dX1_tells_20 : decode cX1_tells 20 = .ok (.aload_n 0, 1) := dk_42 (dk_at dksX1_tells_0 20 rfl rfl)
theorem dX1_tells_21 : decode cX1_tells 21 = .ok (.getfield 29, 3) := dk_180 0 29 (dk_at dksX1_tells_0 21 rfl rfl)
theorem dX1_tells_24 : decode cX1_tells 24 = .ok (.getfield 332, 3) := dk_180 1 76 (dk_at dksX1_tells_1 0 rfl rfl)
theorem dX1_tells_27 : decode cX1_tells 27 = .ok (.bipush 20, 2) := dk_16 20 (dk_at dksX1_tells_1 3 rfl rfl)
theorem dX1_tells_29 : decode cX1_tells 29 = .ok (.if_icmp .ge 7, 3) := dk_162 0 7 (dk_at dksX1_tells_1 5 rfl rfl)
theorem dX1_tells_32 : decode cX1_tells 32 = .ok (.iconst 1, 1) := dk_4 (dk_at dksX1_tells_1 8 rfl rfl)
theorem dX1_tells_33 : decode cX1_tells 33 = .ok (.goto 4, 3) := dk_167 0 4 (dk_at dksX1_tells_1 9 rfl rfl)
theorem dX1_tells_36 : decode cX1_tells 36 = .ok (.iconst 0, 1) := dk_3 (dk_at dksX1_tells_1 12 rfl rfl)
theorem dX1_tells_37 : decode cX1_tells 37 = .ok (.invokestatic 118, 3) := dk_184 0 118 (dk_at dksX1_tells_1 13 rfl rfl)
theorem dX1_tells_40 : decode cX1_tells 40 = .ok (.aload_n 0, 1) := dk_42 (dk_at dksX1_tells_1 16 rfl rfl)
theorem dX1_tells_41 : decode cX1_tells 41 = .ok (.getfield 29, 3) := dk_180 0 29 (dk_at dksX1_tells_1 17 rfl rfl)
theorem dX1_tells_44 : decode cX1_tells 44 = .ok (.getfield 335, 3) := dk_180 1 79 (dk_at dksX1_tells_1 20 rfl rfl)
theorem dX1_tells_47 : decode cX1_tells 47 = .ok (.aload_n 0, 1) := dk_42 (dk_at dksX1_tells_1 23 rfl rfl)
theorem dX1_tells_48 : decode cX1_tells 48 = .ok (.getfield 29, 3) := dk_180 0 29 (dk_at dksX1_tells_2 0 rfl rfl)
theorem dX1_tells_51 : decode cX1_tells 51 = .ok (.getfield 332, 3) := dk_180 1 76 (dk_at dksX1_tells_2 3 rfl rfl)
theorem dX1_tells_54 : decode cX1_tells 54 = .ok (.new 339, 3) := dk_187 1 83 (dk_at dksX1_tells_2 6 rfl rfl)
theorem dX1_tells_57 : decode cX1_tells 57 = .ok (.dup, 1) := dk_89 (dk_at dksX1_tells_2 9 rfl rfl)
theorem dX1_tells_58 : decode cX1_tells 58 = .ok (.iload_n 1, 1) := dk_27 (dk_at dksX1_tells_2 10 rfl rfl)
theorem dX1_tells_59 : decode cX1_tells 59 = .ok (.iload_n 2, 1) := dk_28 (dk_at dksX1_tells_2 11 rfl rfl)
theorem dX1_tells_60 : decode cX1_tells 60 = .ok (.iload_n 3, 1) := dk_29 (dk_at dksX1_tells_2 12 rfl rfl)
theorem dX1_tells_61 : decode cX1_tells 61 = .ok (.invokespecial 341, 3) := dk_183 1 85 (dk_at dksX1_tells_2 13 rfl rfl)
theorem dX1_tells_64 : decode cX1_tells 64 = .ok (.aastore, 1) := dk_83 (dk_at dksX1_tells_2 16 rfl rfl)
theorem dX1_tells_65 : decode cX1_tells 65 = .ok (.aload_n 0, 1) := dk_42 (dk_at dksX1_tells_2 17 rfl rfl)
theorem dX1_tells_66 : decode cX1_tells 66 = .ok (.getfield 29, 3) := dk_180 0 29 (dk_at dksX1_tells_2 18 rfl rfl)
theorem dX1_tells_69 : decode cX1_tells 69 = .ok (.dup, 1) := dk_89 (dk_at dksX1_tells_2 21 rfl rfl)
theorem dX1_tells_70 : decode cX1_tells 70 = .ok (.getfield 332, 3) := dk_180 1 76 (dk_at dksX1_tells_3 0 rfl rfl)
theorem dX1_tells_73 : decode cX1_tells 73 = .ok (.iconst 1, 1) := dk_4 (dk_at dksX1_tells_3 3 rfl rfl)
theorem dX1_tells_74 : decode cX1_tells 74 = .ok (.iadd, 1) := dk_96 (dk_at dksX1_tells_3 4 rfl rfl)
theorem dX1_tells_75 : decode cX1_tells 75 = .ok (.putfield 332, 3) := dk_181 1 76 (dk_at dksX1_tells_3 5 rfl rfl)
theorem dX1_tells_78 : decode cX1_tells 78 = .ok (.aload_n 0, 1) := dk_42 (dk_at dksX1_tells_3 8 rfl rfl)
theorem dX1_tells_79 : decode cX1_tells 79 = .ok (.getfield 29, 3) := dk_180 0 29 (dk_at dksX1_tells_3 9 rfl rfl)
theorem dX1_tells_82 : decode cX1_tells 82 = .ok (.getfield 332, 3) := dk_180 1 76 (dk_at dksX1_tells_3 12 rfl rfl)
theorem dX1_tells_85 : decode cX1_tells 85 = .ok (.iconst 1, 1) := dk_4 (dk_at dksX1_tells_3 15 rfl rfl)
theorem dX1_tells_86 : decode cX1_tells 86 = .ok (.isub, 1) := dk_100 (dk_at dksX1_tells_3 16 rfl rfl)
theorem dX1_tells_87 : decode cX1_tells 87 = .ok (.ireturn, 1) := dk_172 (dk_at dksX1_tells_3 17 rfl rfl)
abbrev cX1_isTeller : ByteArray := prog_1_method_13_code
def yX1_isTeller : MethodName := ⟨RX1, "isTeller", "(I)V"⟩
def dkwX1_isTeller_0 : List UInt8 := [27, 3, 42, 180, 0, 29, 180, 0, 86, 4, 100, 184, 0, 68, 184, 0, 72, 177]
abbrev dktX1_isTeller_0 : List UInt8 := dkwX1_isTeller_0 ++ []
theorem dksX1_isTeller_0 : cX1_isTeller.data.toList.drop 0 = dktX1_isTeller_0 := by decide +kernel
theorem dX1_isTeller_0 : decode cX1_isTeller 0 = .ok (.iload_n 1, 1) := dk_27 (dk_at dksX1_isTeller_0 0 rfl rfl)
theorem dX1_isTeller_1 : decode cX1_isTeller 1 = .ok (.iconst 0, 1) := dk_3 (dk_at dksX1_isTeller_0 1 rfl rfl)
theorem dX1_isTeller_2 : decode cX1_isTeller 2 = .ok (.aload_n 0, 1) := dk_42 (dk_at dksX1_isTeller_0 2 rfl rfl)
theorem dX1_isTeller_3 : decode cX1_isTeller 3 = .ok (.getfield 29, 3) := dk_180 0 29 (dk_at dksX1_isTeller_0 3 rfl rfl)
theorem dX1_isTeller_6 : decode cX1_isTeller 6 = .ok (.getfield 86, 3) := dk_180 0 86 (dk_at dksX1_isTeller_0 6 rfl rfl)
theorem dX1_isTeller_9 : decode cX1_isTeller 9 = .ok (.iconst 1, 1) := dk_4 (dk_at dksX1_isTeller_0 9 rfl rfl)
theorem dX1_isTeller_10 : decode cX1_isTeller 10 = .ok (.isub, 1) := dk_100 (dk_at dksX1_isTeller_0 10 rfl rfl)
theorem dX1_isTeller_11 : decode cX1_isTeller 11 = .ok (.invokestatic 68, 3) := dk_184 0 68 (dk_at dksX1_isTeller_0 11 rfl rfl)
theorem dX1_isTeller_14 : decode cX1_isTeller 14 = .ok (.invokestatic 72, 3) := dk_184 0 72 (dk_at dksX1_isTeller_0 14 rfl rfl)
theorem dX1_isTeller_17 : decode cX1_isTeller 17 = .ok (.return_, 1) := dk_177 (dk_at dksX1_isTeller_0 17 rfl rfl)
abbrev cX1_could : ByteArray := prog_1_method_52_code
def yX1_could : MethodName := ⟨RX1, "could", "(IZ)Z"⟩
def dkwX1_could_2 : List UInt8 := [182, 1, 90, 172]
abbrev dktX1_could_2 : List UInt8 := dkwX1_could_2 ++ []
def dkwX1_could_1 : List UInt8 := [27, 50, 78, 28, 153, 0, 14, 42, 180, 0, 29, 45, 182, 1, 86, 167, 0, 11, 42, 180, 0, 29, 45]
abbrev dktX1_could_1 : List UInt8 := dkwX1_could_1 ++ dktX1_could_2
def dkwX1_could_0 : List UInt8 := [27, 3, 42, 180, 0, 29, 180, 1, 76, 4, 100, 184, 0, 68, 184, 0, 72, 42, 180, 0, 29, 180, 1, 79]
abbrev dktX1_could_0 : List UInt8 := dkwX1_could_0 ++ dktX1_could_1
theorem dksX1_could_0 : cX1_could.data.toList.drop 0 = dktX1_could_0 := by decide +kernel
theorem dksX1_could_1 : cX1_could.data.toList.drop 24 = dktX1_could_1 := dk_seg dksX1_could_0 24 rfl rfl
theorem dksX1_could_2 : cX1_could.data.toList.drop 47 = dktX1_could_2 := dk_seg dksX1_could_1 23 rfl rfl
theorem dX1_could_0 : decode cX1_could 0 = .ok (.iload_n 1, 1) := dk_27 (dk_at dksX1_could_0 0 rfl rfl)
theorem dX1_could_1 : decode cX1_could 1 = .ok (.iconst 0, 1) := dk_3 (dk_at dksX1_could_0 1 rfl rfl)
theorem dX1_could_2 : decode cX1_could 2 = .ok (.aload_n 0, 1) := dk_42 (dk_at dksX1_could_0 2 rfl rfl)
theorem dX1_could_3 : decode cX1_could 3 = .ok (.getfield 29, 3) := dk_180 0 29 (dk_at dksX1_could_0 3 rfl rfl)
theorem dX1_could_6 : decode cX1_could 6 = .ok (.getfield 332, 3) := dk_180 1 76 (dk_at dksX1_could_0 6 rfl rfl)
theorem dX1_could_9 : decode cX1_could 9 = .ok (.iconst 1, 1) := dk_4 (dk_at dksX1_could_0 9 rfl rfl)
theorem dX1_could_10 : decode cX1_could 10 = .ok (.isub, 1) := dk_100 (dk_at dksX1_could_0 10 rfl rfl)
theorem dX1_could_11 : decode cX1_could 11 = .ok (.invokestatic 68, 3) := dk_184 0 68 (dk_at dksX1_could_0 11 rfl rfl)
theorem dX1_could_14 : decode cX1_could 14 = .ok (.invokestatic 72, 3) := dk_184 0 72 (dk_at dksX1_could_0 14 rfl rfl)
theorem dX1_could_17 : decode cX1_could 17 = .ok (.aload_n 0, 1) := dk_42 (dk_at dksX1_could_0 17 rfl rfl)
theorem dX1_could_18 : decode cX1_could 18 = .ok (.getfield 29, 3) := dk_180 0 29 (dk_at dksX1_could_0 18 rfl rfl)
theorem dX1_could_21 : decode cX1_could 21 = .ok (.getfield 335, 3) := dk_180 1 79 (dk_at dksX1_could_0 21 rfl rfl)
theorem dX1_could_24 : decode cX1_could 24 = .ok (.iload_n 1, 1) := dk_27 (dk_at dksX1_could_1 0 rfl rfl)
theorem dX1_could_25 : decode cX1_could 25 = .ok (.aaload, 1) := dk_50 (dk_at dksX1_could_1 1 rfl rfl)
theorem dX1_could_26 : decode cX1_could 26 = .ok (.astore_n 3, 1) := dk_78 (dk_at dksX1_could_1 2 rfl rfl)
theorem dX1_could_27 : decode cX1_could 27 = .ok (.iload_n 2, 1) := dk_28 (dk_at dksX1_could_1 3 rfl rfl)
theorem dX1_could_28 : decode cX1_could 28 = .ok (.ifCond .eq 14, 3) := dk_153 0 14 (dk_at dksX1_could_1 4 rfl rfl)
theorem dX1_could_31 : decode cX1_could 31 = .ok (.aload_n 0, 1) := dk_42 (dk_at dksX1_could_1 7 rfl rfl)
theorem dX1_could_32 : decode cX1_could 32 = .ok (.getfield 29, 3) := dk_180 0 29 (dk_at dksX1_could_1 8 rfl rfl)
theorem dX1_could_35 : decode cX1_could 35 = .ok (.aload_n 3, 1) := dk_45 (dk_at dksX1_could_1 11 rfl rfl)
theorem dX1_could_36 : decode cX1_could 36 = .ok (.invokevirtual 342, 3) := dk_182 1 86 (dk_at dksX1_could_1 12 rfl rfl)
theorem dX1_could_39 : decode cX1_could 39 = .ok (.goto 11, 3) := dk_167 0 11 (dk_at dksX1_could_1 15 rfl rfl)
theorem dX1_could_42 : decode cX1_could 42 = .ok (.aload_n 0, 1) := dk_42 (dk_at dksX1_could_1 18 rfl rfl)
theorem dX1_could_43 : decode cX1_could 43 = .ok (.getfield 29, 3) := dk_180 0 29 (dk_at dksX1_could_1 19 rfl rfl)
theorem dX1_could_46 : decode cX1_could 46 = .ok (.aload_n 3, 1) := dk_45 (dk_at dksX1_could_1 22 rfl rfl)
theorem dX1_could_47 : decode cX1_could 47 = .ok (.invokevirtual 346, 3) := dk_182 1 90 (dk_at dksX1_could_2 0 rfl rfl)
theorem dX1_could_50 : decode cX1_could 50 = .ok (.ireturn, 1) := dk_172 (dk_at dksX1_could_2 3 rfl rfl)
abbrev cX1_talked : ByteArray := prog_1_method_53_code
def yX1_talked : MethodName := ⟨RX1, "talked", "(II)Z"⟩
def dkwX1_talked_0 : List UInt8 := [42, 27, 182, 1, 73, 42, 28, 182, 1, 73, 42, 180, 0, 29, 27, 28, 182, 1, 93, 172]
abbrev dktX1_talked_0 : List UInt8 := dkwX1_talked_0 ++ []
theorem dksX1_talked_0 : cX1_talked.data.toList.drop 0 = dktX1_talked_0 := by decide +kernel
theorem dX1_talked_0 : decode cX1_talked 0 = .ok (.aload_n 0, 1) := dk_42 (dk_at dksX1_talked_0 0 rfl rfl)
theorem dX1_talked_1 : decode cX1_talked 1 = .ok (.iload_n 1, 1) := dk_27 (dk_at dksX1_talked_0 1 rfl rfl)
theorem dX1_talked_2 : decode cX1_talked 2 = .ok (.invokevirtual 329, 3) := dk_182 1 73 (dk_at dksX1_talked_0 2 rfl rfl)
theorem dX1_talked_5 : decode cX1_talked 5 = .ok (.aload_n 0, 1) := dk_42 (dk_at dksX1_talked_0 5 rfl rfl)
theorem dX1_talked_6 : decode cX1_talked 6 = .ok (.iload_n 2, 1) := dk_28 (dk_at dksX1_talked_0 6 rfl rfl)
theorem dX1_talked_7 : decode cX1_talked 7 = .ok (.invokevirtual 329, 3) := dk_182 1 73 (dk_at dksX1_talked_0 7 rfl rfl)
theorem dX1_talked_10 : decode cX1_talked 10 = .ok (.aload_n 0, 1) := dk_42 (dk_at dksX1_talked_0 10 rfl rfl)
theorem dX1_talked_11 : decode cX1_talked 11 = .ok (.getfield 29, 3) := dk_180 0 29 (dk_at dksX1_talked_0 11 rfl rfl)
theorem dX1_talked_14 : decode cX1_talked 14 = .ok (.iload_n 1, 1) := dk_27 (dk_at dksX1_talked_0 14 rfl rfl)
theorem dX1_talked_15 : decode cX1_talked 15 = .ok (.iload_n 2, 1) := dk_28 (dk_at dksX1_talked_0 15 rfl rfl)
theorem dX1_talked_16 : decode cX1_talked 16 = .ok (.invokevirtual 349, 3) := dk_182 1 93 (dk_at dksX1_talked_0 16 rfl rfl)
theorem dX1_talked_19 : decode cX1_talked 19 = .ok (.ireturn, 1) := dk_172 (dk_at dksX1_talked_0 19 rfl rfl)
abbrev cX1_who : ByteArray := prog_1_method_56_code
def yX1_who : MethodName := ⟨RX1, "who", "(I)I"⟩
def dkwX1_who_6 : List UInt8 := [21, 4, 153, 0, 10, 42, 180, 1, 102, 167, 0, 4, 3, 172]
abbrev dktX1_who_6 : List UInt8 := dkwX1_who_6 ++ []
def dkwX1_who_5 : List UInt8 := [4, 167, 0, 4, 3, 184, 0, 103, 42, 3, 181, 1, 102, 42, 3, 3, 29, 3, 182, 1, 105, 54, 4]
abbrev dktX1_who_5 : List UInt8 := dkwX1_who_5 ++ dktX1_who_6
def dkwX1_who_4 : List UInt8 := [21, 4, 79, 42, 89, 180, 1, 99, 4, 96, 181, 1, 99, 132, 4, 1, 167, 255, 164, 29, 2, 159, 0, 7]
abbrev dktX1_who_4 : List UInt8 := dkwX1_who_4 ++ dktX1_who_5
def dkwX1_who_3 : List UInt8 := [21, 4, 27, 160, 0, 10, 42, 180, 1, 99, 167, 0, 4, 29, 62, 42, 180, 0, 49, 42, 180, 1, 99]
abbrev dktX1_who_3 : List UInt8 := dkwX1_who_3 ++ dktX1_who_4
def dkwX1_who_2 : List UInt8 := [50, 182, 0, 223, 5, 160, 0, 54, 42, 180, 0, 29, 21, 4, 182, 0, 236, 154, 0, 6, 167, 0, 39]
abbrev dktX1_who_2 : List UInt8 := dkwX1_who_2 ++ dktX1_who_3
def dkwX1_who_1 : List UInt8 := [180, 0, 79, 162, 0, 86, 42, 180, 1, 99, 16, 8, 162, 0, 77, 42, 180, 0, 29, 180, 0, 82, 21, 4]
abbrev dktX1_who_1 : List UInt8 := dkwX1_who_1 ++ dktX1_who_2
def dkwX1_who_0 : List UInt8 := [42, 27, 182, 0, 219, 77, 42, 3, 181, 1, 99, 2, 62, 3, 54, 4, 21, 4, 42, 180, 0, 29]
abbrev dktX1_who_0 : List UInt8 := dkwX1_who_0 ++ dktX1_who_1
theorem dksX1_who_0 : cX1_who.data.toList.drop 0 = dktX1_who_0 := by decide +kernel
theorem dksX1_who_1 : cX1_who.data.toList.drop 22 = dktX1_who_1 := dk_seg dksX1_who_0 22 rfl rfl
theorem dksX1_who_2 : cX1_who.data.toList.drop 46 = dktX1_who_2 := dk_seg dksX1_who_1 24 rfl rfl
theorem dksX1_who_3 : cX1_who.data.toList.drop 69 = dktX1_who_3 := dk_seg dksX1_who_2 23 rfl rfl
theorem dksX1_who_4 : cX1_who.data.toList.drop 92 = dktX1_who_4 := dk_seg dksX1_who_3 23 rfl rfl
theorem dksX1_who_5 : cX1_who.data.toList.drop 116 = dktX1_who_5 := dk_seg dksX1_who_4 24 rfl rfl
theorem dksX1_who_6 : cX1_who.data.toList.drop 139 = dktX1_who_6 := dk_seg dksX1_who_5 23 rfl rfl
theorem dX1_who_0 : decode cX1_who 0 = .ok (.aload_n 0, 1) := dk_42 (dk_at dksX1_who_0 0 rfl rfl)
theorem dX1_who_1 : decode cX1_who 1 = .ok (.iload_n 1, 1) := dk_27 (dk_at dksX1_who_0 1 rfl rfl)
theorem dX1_who_2 : decode cX1_who 2 = .ok (.invokevirtual 219, 3) := dk_182 0 219 (dk_at dksX1_who_0 2 rfl rfl)
theorem dX1_who_5 : decode cX1_who 5 = .ok (.astore_n 2, 1) := dk_77 (dk_at dksX1_who_0 5 rfl rfl)
theorem dX1_who_6 : decode cX1_who 6 = .ok (.aload_n 0, 1) := dk_42 (dk_at dksX1_who_0 6 rfl rfl)
theorem dX1_who_7 : decode cX1_who 7 = .ok (.iconst 0, 1) := dk_3 (dk_at dksX1_who_0 7 rfl rfl)
theorem dX1_who_8 : decode cX1_who 8 = .ok (.putfield 355, 3) := dk_181 1 99 (dk_at dksX1_who_0 8 rfl rfl)
theorem dX1_who_11 : decode cX1_who 11 = .ok (.iconst (-1), 1) := dk_2 (dk_at dksX1_who_0 11 rfl rfl)
theorem dX1_who_12 : decode cX1_who 12 = .ok (.istore_n 3, 1) := dk_62 (dk_at dksX1_who_0 12 rfl rfl)
theorem dX1_who_13 : decode cX1_who 13 = .ok (.iconst 0, 1) := dk_3 (dk_at dksX1_who_0 13 rfl rfl)
theorem dX1_who_14 : decode cX1_who 14 = .ok (.istore 4, 2) := dk_54 4 (dk_at dksX1_who_0 14 rfl rfl)
theorem dX1_who_16 : decode cX1_who 16 = .ok (.iload 4, 2) := dk_21 4 (dk_at dksX1_who_0 16 rfl rfl)
theorem dX1_who_18 : decode cX1_who 18 = .ok (.aload_n 0, 1) := dk_42 (dk_at dksX1_who_0 18 rfl rfl)
theorem dX1_who_19 : decode cX1_who 19 = .ok (.getfield 29, 3) := dk_180 0 29 (dk_at dksX1_who_0 19 rfl rfl)
theorem dX1_who_22 : decode cX1_who 22 = .ok (.getfield 79, 3) := dk_180 0 79 (dk_at dksX1_who_1 0 rfl rfl)
theorem dX1_who_25 : decode cX1_who 25 = .ok (.if_icmp .ge 86, 3) := dk_162 0 86 (dk_at dksX1_who_1 3 rfl rfl)
theorem dX1_who_28 : decode cX1_who 28 = .ok (.aload_n 0, 1) := dk_42 (dk_at dksX1_who_1 6 rfl rfl)
theorem dX1_who_29 : decode cX1_who 29 = .ok (.getfield 355, 3) := dk_180 1 99 (dk_at dksX1_who_1 7 rfl rfl)
theorem dX1_who_32 : decode cX1_who 32 = .ok (.bipush 8, 2) := dk_16 8 (dk_at dksX1_who_1 10 rfl rfl)
theorem dX1_who_34 : decode cX1_who 34 = .ok (.if_icmp .ge 77, 3) := dk_162 0 77 (dk_at dksX1_who_1 12 rfl rfl)
theorem dX1_who_37 : decode cX1_who 37 = .ok (.aload_n 0, 1) := dk_42 (dk_at dksX1_who_1 15 rfl rfl)
theorem dX1_who_38 : decode cX1_who 38 = .ok (.getfield 29, 3) := dk_180 0 29 (dk_at dksX1_who_1 16 rfl rfl)
theorem dX1_who_41 : decode cX1_who 41 = .ok (.getfield 82, 3) := dk_180 0 82 (dk_at dksX1_who_1 19 rfl rfl)
theorem dX1_who_44 : decode cX1_who 44 = .ok (.iload 4, 2) := dk_21 4 (dk_at dksX1_who_1 22 rfl rfl)
theorem dX1_who_46 : decode cX1_who 46 = .ok (.aaload, 1) := dk_50 (dk_at dksX1_who_2 0 rfl rfl)
theorem dX1_who_47 : decode cX1_who 47 = .ok (.invokevirtual 223, 3) := dk_182 0 223 (dk_at dksX1_who_2 1 rfl rfl)
theorem dX1_who_50 : decode cX1_who 50 = .ok (.iconst 2, 1) := dk_5 (dk_at dksX1_who_2 4 rfl rfl)
theorem dX1_who_51 : decode cX1_who 51 = .ok (.if_icmp .ne 54, 3) := dk_160 0 54 (dk_at dksX1_who_2 5 rfl rfl)
theorem dX1_who_54 : decode cX1_who 54 = .ok (.aload_n 0, 1) := dk_42 (dk_at dksX1_who_2 8 rfl rfl)
theorem dX1_who_55 : decode cX1_who 55 = .ok (.getfield 29, 3) := dk_180 0 29 (dk_at dksX1_who_2 9 rfl rfl)
theorem dX1_who_58 : decode cX1_who 58 = .ok (.iload 4, 2) := dk_21 4 (dk_at dksX1_who_2 12 rfl rfl)
theorem dX1_who_60 : decode cX1_who 60 = .ok (.invokevirtual 236, 3) := dk_182 0 236 (dk_at dksX1_who_2 14 rfl rfl)
theorem dX1_who_63 : decode cX1_who 63 = .ok (.ifCond .ne 6, 3) := dk_154 0 6 (dk_at dksX1_who_2 17 rfl rfl)
theorem dX1_who_66 : decode cX1_who 66 = .ok (.goto 39, 3) := dk_167 0 39 (dk_at dksX1_who_2 20 rfl rfl)
theorem dX1_who_69 : decode cX1_who 69 = .ok (.iload 4, 2) := dk_21 4 (dk_at dksX1_who_3 0 rfl rfl)
theorem dX1_who_71 : decode cX1_who 71 = .ok (.iload_n 1, 1) := dk_27 (dk_at dksX1_who_3 2 rfl rfl)
theorem dX1_who_72 : decode cX1_who 72 = .ok (.if_icmp .ne 10, 3) := dk_160 0 10 (dk_at dksX1_who_3 3 rfl rfl)
theorem dX1_who_75 : decode cX1_who 75 = .ok (.aload_n 0, 1) := dk_42 (dk_at dksX1_who_3 6 rfl rfl)
theorem dX1_who_76 : decode cX1_who 76 = .ok (.getfield 355, 3) := dk_180 1 99 (dk_at dksX1_who_3 7 rfl rfl)
theorem dX1_who_79 : decode cX1_who 79 = .ok (.goto 4, 3) := dk_167 0 4 (dk_at dksX1_who_3 10 rfl rfl)
theorem dX1_who_82 : decode cX1_who 82 = .ok (.iload_n 3, 1) := dk_29 (dk_at dksX1_who_3 13 rfl rfl)
theorem dX1_who_83 : decode cX1_who 83 = .ok (.istore_n 3, 1) := dk_62 (dk_at dksX1_who_3 14 rfl rfl)
theorem dX1_who_84 : decode cX1_who 84 = .ok (.aload_n 0, 1) := dk_42 (dk_at dksX1_who_3 15 rfl rfl)
theorem dX1_who_85 : decode cX1_who 85 = .ok (.getfield 49, 3) := dk_180 0 49 (dk_at dksX1_who_3 16 rfl rfl)
theorem dX1_who_88 : decode cX1_who 88 = .ok (.aload_n 0, 1) := dk_42 (dk_at dksX1_who_3 19 rfl rfl)
theorem dX1_who_89 : decode cX1_who 89 = .ok (.getfield 355, 3) := dk_180 1 99 (dk_at dksX1_who_3 20 rfl rfl)
theorem dX1_who_92 : decode cX1_who 92 = .ok (.iload 4, 2) := dk_21 4 (dk_at dksX1_who_4 0 rfl rfl)
theorem dX1_who_94 : decode cX1_who 94 = .ok (.iastore, 1) := dk_79 (dk_at dksX1_who_4 2 rfl rfl)
theorem dX1_who_95 : decode cX1_who 95 = .ok (.aload_n 0, 1) := dk_42 (dk_at dksX1_who_4 3 rfl rfl)
theorem dX1_who_96 : decode cX1_who 96 = .ok (.dup, 1) := dk_89 (dk_at dksX1_who_4 4 rfl rfl)
theorem dX1_who_97 : decode cX1_who 97 = .ok (.getfield 355, 3) := dk_180 1 99 (dk_at dksX1_who_4 5 rfl rfl)
theorem dX1_who_100 : decode cX1_who 100 = .ok (.iconst 1, 1) := dk_4 (dk_at dksX1_who_4 8 rfl rfl)
theorem dX1_who_101 : decode cX1_who 101 = .ok (.iadd, 1) := dk_96 (dk_at dksX1_who_4 9 rfl rfl)
theorem dX1_who_102 : decode cX1_who 102 = .ok (.putfield 355, 3) := dk_181 1 99 (dk_at dksX1_who_4 10 rfl rfl)
theorem dX1_who_105 : decode cX1_who 105 = .ok (.iinc 4 1, 3) := dk_132 4 1 (dk_at dksX1_who_4 13 rfl rfl)
theorem dX1_who_108 : decode cX1_who 108 = .ok (.goto (-92), 3) := dk_167 255 164 (dk_at dksX1_who_4 16 rfl rfl)
theorem dX1_who_111 : decode cX1_who 111 = .ok (.iload_n 3, 1) := dk_29 (dk_at dksX1_who_4 19 rfl rfl)
theorem dX1_who_112 : decode cX1_who 112 = .ok (.iconst (-1), 1) := dk_2 (dk_at dksX1_who_4 20 rfl rfl)
theorem dX1_who_113 : decode cX1_who 113 = .ok (.if_icmp .eq 7, 3) := dk_159 0 7 (dk_at dksX1_who_4 21 rfl rfl)
theorem dX1_who_116 : decode cX1_who 116 = .ok (.iconst 1, 1) := dk_4 (dk_at dksX1_who_5 0 rfl rfl)
theorem dX1_who_117 : decode cX1_who 117 = .ok (.goto 4, 3) := dk_167 0 4 (dk_at dksX1_who_5 1 rfl rfl)
theorem dX1_who_120 : decode cX1_who 120 = .ok (.iconst 0, 1) := dk_3 (dk_at dksX1_who_5 4 rfl rfl)
theorem dX1_who_121 : decode cX1_who 121 = .ok (.invokestatic 103, 3) := dk_184 0 103 (dk_at dksX1_who_5 5 rfl rfl)
theorem dX1_who_124 : decode cX1_who 124 = .ok (.aload_n 0, 1) := dk_42 (dk_at dksX1_who_5 8 rfl rfl)
theorem dX1_who_125 : decode cX1_who 125 = .ok (.iconst 0, 1) := dk_3 (dk_at dksX1_who_5 9 rfl rfl)
theorem dX1_who_126 : decode cX1_who 126 = .ok (.putfield 358, 3) := dk_181 1 102 (dk_at dksX1_who_5 10 rfl rfl)
theorem dX1_who_129 : decode cX1_who 129 = .ok (.aload_n 0, 1) := dk_42 (dk_at dksX1_who_5 13 rfl rfl)
theorem dX1_who_130 : decode cX1_who 130 = .ok (.iconst 0, 1) := dk_3 (dk_at dksX1_who_5 14 rfl rfl)
theorem dX1_who_131 : decode cX1_who 131 = .ok (.iconst 0, 1) := dk_3 (dk_at dksX1_who_5 15 rfl rfl)
theorem dX1_who_132 : decode cX1_who 132 = .ok (.iload_n 3, 1) := dk_29 (dk_at dksX1_who_5 16 rfl rfl)
theorem dX1_who_133 : decode cX1_who 133 = .ok (.iconst 0, 1) := dk_3 (dk_at dksX1_who_5 17 rfl rfl)
theorem dX1_who_134 : decode cX1_who 134 = .ok (.invokevirtual 361, 3) := dk_182 1 105 (dk_at dksX1_who_5 18 rfl rfl)
theorem dX1_who_137 : decode cX1_who 137 = .ok (.istore 4, 2) := dk_54 4 (dk_at dksX1_who_5 21 rfl rfl)
theorem dX1_who_139 : decode cX1_who 139 = .ok (.iload 4, 2) := dk_21 4 (dk_at dksX1_who_6 0 rfl rfl)
theorem dX1_who_141 : decode cX1_who 141 = .ok (.ifCond .eq 10, 3) := dk_153 0 10 (dk_at dksX1_who_6 2 rfl rfl)
theorem dX1_who_144 : decode cX1_who 144 = .ok (.aload_n 0, 1) := dk_42 (dk_at dksX1_who_6 5 rfl rfl)
theorem dX1_who_145 : decode cX1_who 145 = .ok (.getfield 358, 3) := dk_180 1 102 (dk_at dksX1_who_6 6 rfl rfl)
theorem dX1_who_148 : decode cX1_who 148 = .ok (.goto 4, 3) := dk_167 0 4 (dk_at dksX1_who_6 9 rfl rfl)
theorem dX1_who_151 : decode cX1_who 151 = .ok (.iconst 0, 1) := dk_3 (dk_at dksX1_who_6 12 rfl rfl)
theorem dX1_who_152 : decode cX1_who 152 = .ok (.ireturn, 1) := dk_172 (dk_at dksX1_who_6 13 rfl rfl)
abbrev cX1_rows : ByteArray := prog_1_method_55_code
def yX1_rows : MethodName := ⟨RX1, "rows", "(IIII)Z"⟩
def dkwX1_rows_4 : List UInt8 := [154, 0, 8, 21, 5, 153, 0, 7, 4, 167, 0, 4, 3, 54, 5, 132, 7, 1, 167, 255, 192, 21, 5, 172]
abbrev dktX1_rows_4 : List UInt8 := dkwX1_rows_4 ++ []
def dkwX1_rows_3 : List UInt8 := [28, 4, 21, 7, 120, 128, 29, 27, 29, 160, 0, 10, 4, 21, 7, 120, 167, 0, 5, 21, 4, 182, 1, 105]
abbrev dktX1_rows_3 : List UInt8 := dkwX1_rows_3 ++ dktX1_rows_4
def dkwX1_rows_2 : List UInt8 := [54, 7, 21, 7, 16, 8, 162, 0, 63, 21, 6, 21, 7, 122, 4, 126, 4, 160, 0, 46, 42, 27, 4, 96]
abbrev dktX1_rows_2 : List UInt8 := dkwX1_rows_2 ++ dktX1_rows_3
def dkwX1_rows_1 : List UInt8 := [42, 180, 0, 29, 180, 0, 82, 42, 180, 0, 49, 27, 46, 50, 182, 0, 233, 28, 2, 130, 126, 54, 6, 3]
abbrev dktX1_rows_1 : List UInt8 := dkwX1_rows_1 ++ dktX1_rows_2
def dkwX1_rows_0 : List UInt8 := [27, 42, 180, 1, 99, 160, 0, 16, 42, 89, 180, 1, 102, 21, 4, 128, 181, 1, 102, 4, 172, 3, 54, 5]
abbrev dktX1_rows_0 : List UInt8 := dkwX1_rows_0 ++ dktX1_rows_1
theorem dksX1_rows_0 : cX1_rows.data.toList.drop 0 = dktX1_rows_0 := by decide +kernel
theorem dksX1_rows_1 : cX1_rows.data.toList.drop 24 = dktX1_rows_1 := dk_seg dksX1_rows_0 24 rfl rfl
theorem dksX1_rows_2 : cX1_rows.data.toList.drop 48 = dktX1_rows_2 := dk_seg dksX1_rows_1 24 rfl rfl
theorem dksX1_rows_3 : cX1_rows.data.toList.drop 72 = dktX1_rows_3 := dk_seg dksX1_rows_2 24 rfl rfl
theorem dksX1_rows_4 : cX1_rows.data.toList.drop 96 = dktX1_rows_4 := dk_seg dksX1_rows_3 24 rfl rfl
theorem dX1_rows_0 : decode cX1_rows 0 = .ok (.iload_n 1, 1) := dk_27 (dk_at dksX1_rows_0 0 rfl rfl)
theorem dX1_rows_1 : decode cX1_rows 1 = .ok (.aload_n 0, 1) := dk_42 (dk_at dksX1_rows_0 1 rfl rfl)
theorem dX1_rows_2 : decode cX1_rows 2 = .ok (.getfield 355, 3) := dk_180 1 99 (dk_at dksX1_rows_0 2 rfl rfl)
theorem dX1_rows_5 : decode cX1_rows 5 = .ok (.if_icmp .ne 16, 3) := dk_160 0 16 (dk_at dksX1_rows_0 5 rfl rfl)
theorem dX1_rows_8 : decode cX1_rows 8 = .ok (.aload_n 0, 1) := dk_42 (dk_at dksX1_rows_0 8 rfl rfl)
theorem dX1_rows_9 : decode cX1_rows 9 = .ok (.dup, 1) := dk_89 (dk_at dksX1_rows_0 9 rfl rfl)
theorem dX1_rows_10 : decode cX1_rows 10 = .ok (.getfield 358, 3) := dk_180 1 102 (dk_at dksX1_rows_0 10 rfl rfl)
theorem dX1_rows_13 : decode cX1_rows 13 = .ok (.iload 4, 2) := dk_21 4 (dk_at dksX1_rows_0 13 rfl rfl)
theorem dX1_rows_15 : decode cX1_rows 15 = .ok (.ior, 1) := dk_128 (dk_at dksX1_rows_0 15 rfl rfl)
theorem dX1_rows_16 : decode cX1_rows 16 = .ok (.putfield 358, 3) := dk_181 1 102 (dk_at dksX1_rows_0 16 rfl rfl)
theorem dX1_rows_19 : decode cX1_rows 19 = .ok (.iconst 1, 1) := dk_4 (dk_at dksX1_rows_0 19 rfl rfl)
theorem dX1_rows_20 : decode cX1_rows 20 = .ok (.ireturn, 1) := dk_172 (dk_at dksX1_rows_0 20 rfl rfl)
theorem dX1_rows_21 : decode cX1_rows 21 = .ok (.iconst 0, 1) := dk_3 (dk_at dksX1_rows_0 21 rfl rfl)
theorem dX1_rows_22 : decode cX1_rows 22 = .ok (.istore 5, 2) := dk_54 5 (dk_at dksX1_rows_0 22 rfl rfl)
theorem dX1_rows_24 : decode cX1_rows 24 = .ok (.aload_n 0, 1) := dk_42 (dk_at dksX1_rows_1 0 rfl rfl)
theorem dX1_rows_25 : decode cX1_rows 25 = .ok (.getfield 29, 3) := dk_180 0 29 (dk_at dksX1_rows_1 1 rfl rfl)
theorem dX1_rows_28 : decode cX1_rows 28 = .ok (.getfield 82, 3) := dk_180 0 82 (dk_at dksX1_rows_1 4 rfl rfl)
theorem dX1_rows_31 : decode cX1_rows 31 = .ok (.aload_n 0, 1) := dk_42 (dk_at dksX1_rows_1 7 rfl rfl)
theorem dX1_rows_32 : decode cX1_rows 32 = .ok (.getfield 49, 3) := dk_180 0 49 (dk_at dksX1_rows_1 8 rfl rfl)
theorem dX1_rows_35 : decode cX1_rows 35 = .ok (.iload_n 1, 1) := dk_27 (dk_at dksX1_rows_1 11 rfl rfl)
theorem dX1_rows_36 : decode cX1_rows 36 = .ok (.iaload, 1) := dk_46 (dk_at dksX1_rows_1 12 rfl rfl)
theorem dX1_rows_37 : decode cX1_rows 37 = .ok (.aaload, 1) := dk_50 (dk_at dksX1_rows_1 13 rfl rfl)
theorem dX1_rows_38 : decode cX1_rows 38 = .ok (.invokevirtual 233, 3) := dk_182 0 233 (dk_at dksX1_rows_1 14 rfl rfl)
theorem dX1_rows_41 : decode cX1_rows 41 = .ok (.iload_n 2, 1) := dk_28 (dk_at dksX1_rows_1 17 rfl rfl)
theorem dX1_rows_42 : decode cX1_rows 42 = .ok (.iconst (-1), 1) := dk_2 (dk_at dksX1_rows_1 18 rfl rfl)
theorem dX1_rows_43 : decode cX1_rows 43 = .ok (.ixor, 1) := dk_130 (dk_at dksX1_rows_1 19 rfl rfl)
theorem dX1_rows_44 : decode cX1_rows 44 = .ok (.iand, 1) := dk_126 (dk_at dksX1_rows_1 20 rfl rfl)
theorem dX1_rows_45 : decode cX1_rows 45 = .ok (.istore 6, 2) := dk_54 6 (dk_at dksX1_rows_1 21 rfl rfl)
theorem dX1_rows_47 : decode cX1_rows 47 = .ok (.iconst 0, 1) := dk_3 (dk_at dksX1_rows_1 23 rfl rfl)
theorem dX1_rows_48 : decode cX1_rows 48 = .ok (.istore 7, 2) := dk_54 7 (dk_at dksX1_rows_2 0 rfl rfl)
theorem dX1_rows_50 : decode cX1_rows 50 = .ok (.iload 7, 2) := dk_21 7 (dk_at dksX1_rows_2 2 rfl rfl)
theorem dX1_rows_52 : decode cX1_rows 52 = .ok (.bipush 8, 2) := dk_16 8 (dk_at dksX1_rows_2 4 rfl rfl)
theorem dX1_rows_54 : decode cX1_rows 54 = .ok (.if_icmp .ge 63, 3) := dk_162 0 63 (dk_at dksX1_rows_2 6 rfl rfl)
theorem dX1_rows_57 : decode cX1_rows 57 = .ok (.iload 6, 2) := dk_21 6 (dk_at dksX1_rows_2 9 rfl rfl)
theorem dX1_rows_59 : decode cX1_rows 59 = .ok (.iload 7, 2) := dk_21 7 (dk_at dksX1_rows_2 11 rfl rfl)
theorem dX1_rows_61 : decode cX1_rows 61 = .ok (.ishr, 1) := dk_122 (dk_at dksX1_rows_2 13 rfl rfl)
theorem dX1_rows_62 : decode cX1_rows 62 = .ok (.iconst 1, 1) := dk_4 (dk_at dksX1_rows_2 14 rfl rfl)
theorem dX1_rows_63 : decode cX1_rows 63 = .ok (.iand, 1) := dk_126 (dk_at dksX1_rows_2 15 rfl rfl)
theorem dX1_rows_64 : decode cX1_rows 64 = .ok (.iconst 1, 1) := dk_4 (dk_at dksX1_rows_2 16 rfl rfl)
theorem dX1_rows_65 : decode cX1_rows 65 = .ok (.if_icmp .ne 46, 3) := dk_160 0 46 (dk_at dksX1_rows_2 17 rfl rfl)
theorem dX1_rows_68 : decode cX1_rows 68 = .ok (.aload_n 0, 1) := dk_42 (dk_at dksX1_rows_2 20 rfl rfl)
theorem dX1_rows_69 : decode cX1_rows 69 = .ok (.iload_n 1, 1) := dk_27 (dk_at dksX1_rows_2 21 rfl rfl)
theorem dX1_rows_70 : decode cX1_rows 70 = .ok (.iconst 1, 1) := dk_4 (dk_at dksX1_rows_2 22 rfl rfl)
theorem dX1_rows_71 : decode cX1_rows 71 = .ok (.iadd, 1) := dk_96 (dk_at dksX1_rows_2 23 rfl rfl)
theorem dX1_rows_72 : decode cX1_rows 72 = .ok (.iload_n 2, 1) := dk_28 (dk_at dksX1_rows_3 0 rfl rfl)
theorem dX1_rows_73 : decode cX1_rows 73 = .ok (.iconst 1, 1) := dk_4 (dk_at dksX1_rows_3 1 rfl rfl)
theorem dX1_rows_74 : decode cX1_rows 74 = .ok (.iload 7, 2) := dk_21 7 (dk_at dksX1_rows_3 2 rfl rfl)
theorem dX1_rows_76 : decode cX1_rows 76 = .ok (.ishl, 1) := dk_120 (dk_at dksX1_rows_3 4 rfl rfl)
theorem dX1_rows_77 : decode cX1_rows 77 = .ok (.ior, 1) := dk_128 (dk_at dksX1_rows_3 5 rfl rfl)
theorem dX1_rows_78 : decode cX1_rows 78 = .ok (.iload_n 3, 1) := dk_29 (dk_at dksX1_rows_3 6 rfl rfl)
theorem dX1_rows_79 : decode cX1_rows 79 = .ok (.iload_n 1, 1) := dk_27 (dk_at dksX1_rows_3 7 rfl rfl)
theorem dX1_rows_80 : decode cX1_rows 80 = .ok (.iload_n 3, 1) := dk_29 (dk_at dksX1_rows_3 8 rfl rfl)
theorem dX1_rows_81 : decode cX1_rows 81 = .ok (.if_icmp .ne 10, 3) := dk_160 0 10 (dk_at dksX1_rows_3 9 rfl rfl)
theorem dX1_rows_84 : decode cX1_rows 84 = .ok (.iconst 1, 1) := dk_4 (dk_at dksX1_rows_3 12 rfl rfl)
theorem dX1_rows_85 : decode cX1_rows 85 = .ok (.iload 7, 2) := dk_21 7 (dk_at dksX1_rows_3 13 rfl rfl)
theorem dX1_rows_87 : decode cX1_rows 87 = .ok (.ishl, 1) := dk_120 (dk_at dksX1_rows_3 15 rfl rfl)
theorem dX1_rows_88 : decode cX1_rows 88 = .ok (.goto 5, 3) := dk_167 0 5 (dk_at dksX1_rows_3 16 rfl rfl)
theorem dX1_rows_91 : decode cX1_rows 91 = .ok (.iload 4, 2) := dk_21 4 (dk_at dksX1_rows_3 19 rfl rfl)
theorem dX1_rows_93 : decode cX1_rows 93 = .ok (.invokevirtual 361, 3) := dk_182 1 105 (dk_at dksX1_rows_3 21 rfl rfl)
theorem dX1_rows_96 : decode cX1_rows 96 = .ok (.ifCond .ne 8, 3) := dk_154 0 8 (dk_at dksX1_rows_4 0 rfl rfl)
theorem dX1_rows_99 : decode cX1_rows 99 = .ok (.iload 5, 2) := dk_21 5 (dk_at dksX1_rows_4 3 rfl rfl)
theorem dX1_rows_101 : decode cX1_rows 101 = .ok (.ifCond .eq 7, 3) := dk_153 0 7 (dk_at dksX1_rows_4 5 rfl rfl)
theorem dX1_rows_104 : decode cX1_rows 104 = .ok (.iconst 1, 1) := dk_4 (dk_at dksX1_rows_4 8 rfl rfl)
theorem dX1_rows_105 : decode cX1_rows 105 = .ok (.goto 4, 3) := dk_167 0 4 (dk_at dksX1_rows_4 9 rfl rfl)
theorem dX1_rows_108 : decode cX1_rows 108 = .ok (.iconst 0, 1) := dk_3 (dk_at dksX1_rows_4 12 rfl rfl)
theorem dX1_rows_109 : decode cX1_rows 109 = .ok (.istore 5, 2) := dk_54 5 (dk_at dksX1_rows_4 13 rfl rfl)
theorem dX1_rows_111 : decode cX1_rows 111 = .ok (.iinc 7 1, 3) := dk_132 7 1 (dk_at dksX1_rows_4 15 rfl rfl)
theorem dX1_rows_114 : decode cX1_rows 114 = .ok (.goto (-64), 3) := dk_167 255 192 (dk_at dksX1_rows_4 18 rfl rfl)
theorem dX1_rows_117 : decode cX1_rows 117 = .ok (.iload 5, 2) := dk_21 5 (dk_at dksX1_rows_4 21 rfl rfl)
theorem dX1_rows_119 : decode cX1_rows 119 = .ok (.ireturn, 1) := dk_172 (dk_at dksX1_rows_4 23 rfl rfl)
abbrev cX1_joined : ByteArray := prog_1_method_58_code
def yX1_joined : MethodName := ⟨RX1, "joined", "(IIIIZ)I"⟩
def dkwX1_joined_1 : List UInt8 := [182, 1, 109, 42, 29, 21, 4, 21, 5, 182, 1, 109, 126, 172]
abbrev dktX1_joined_1 : List UInt8 := dkwX1_joined_1 ++ []
def dkwX1_joined_0 : List UInt8 := [27, 184, 0, 100, 28, 184, 0, 100, 29, 184, 0, 100, 21, 4, 184, 0, 100, 42, 27, 28, 21, 5]
abbrev dktX1_joined_0 : List UInt8 := dkwX1_joined_0 ++ dktX1_joined_1
theorem dksX1_joined_0 : cX1_joined.data.toList.drop 0 = dktX1_joined_0 := by decide +kernel
theorem dksX1_joined_1 : cX1_joined.data.toList.drop 22 = dktX1_joined_1 := dk_seg dksX1_joined_0 22 rfl rfl
theorem dX1_joined_0 : decode cX1_joined 0 = .ok (.iload_n 1, 1) := dk_27 (dk_at dksX1_joined_0 0 rfl rfl)
theorem dX1_joined_1 : decode cX1_joined 1 = .ok (.invokestatic 100, 3) := dk_184 0 100 (dk_at dksX1_joined_0 1 rfl rfl)
theorem dX1_joined_4 : decode cX1_joined 4 = .ok (.iload_n 2, 1) := dk_28 (dk_at dksX1_joined_0 4 rfl rfl)
theorem dX1_joined_5 : decode cX1_joined 5 = .ok (.invokestatic 100, 3) := dk_184 0 100 (dk_at dksX1_joined_0 5 rfl rfl)
theorem dX1_joined_8 : decode cX1_joined 8 = .ok (.iload_n 3, 1) := dk_29 (dk_at dksX1_joined_0 8 rfl rfl)
theorem dX1_joined_9 : decode cX1_joined 9 = .ok (.invokestatic 100, 3) := dk_184 0 100 (dk_at dksX1_joined_0 9 rfl rfl)
theorem dX1_joined_12 : decode cX1_joined 12 = .ok (.iload 4, 2) := dk_21 4 (dk_at dksX1_joined_0 12 rfl rfl)
theorem dX1_joined_14 : decode cX1_joined 14 = .ok (.invokestatic 100, 3) := dk_184 0 100 (dk_at dksX1_joined_0 14 rfl rfl)
theorem dX1_joined_17 : decode cX1_joined 17 = .ok (.aload_n 0, 1) := dk_42 (dk_at dksX1_joined_0 17 rfl rfl)
theorem dX1_joined_18 : decode cX1_joined 18 = .ok (.iload_n 1, 1) := dk_27 (dk_at dksX1_joined_0 18 rfl rfl)
theorem dX1_joined_19 : decode cX1_joined 19 = .ok (.iload_n 2, 1) := dk_28 (dk_at dksX1_joined_0 19 rfl rfl)
theorem dX1_joined_20 : decode cX1_joined 20 = .ok (.iload 5, 2) := dk_21 5 (dk_at dksX1_joined_0 20 rfl rfl)
theorem dX1_joined_22 : decode cX1_joined 22 = .ok (.invokevirtual 365, 3) := dk_182 1 109 (dk_at dksX1_joined_1 0 rfl rfl)
theorem dX1_joined_25 : decode cX1_joined 25 = .ok (.aload_n 0, 1) := dk_42 (dk_at dksX1_joined_1 3 rfl rfl)
theorem dX1_joined_26 : decode cX1_joined 26 = .ok (.iload_n 3, 1) := dk_29 (dk_at dksX1_joined_1 4 rfl rfl)
theorem dX1_joined_27 : decode cX1_joined 27 = .ok (.iload 4, 2) := dk_21 4 (dk_at dksX1_joined_1 5 rfl rfl)
theorem dX1_joined_29 : decode cX1_joined 29 = .ok (.iload 5, 2) := dk_21 5 (dk_at dksX1_joined_1 7 rfl rfl)
theorem dX1_joined_31 : decode cX1_joined 31 = .ok (.invokevirtual 365, 3) := dk_182 1 109 (dk_at dksX1_joined_1 9 rfl rfl)
theorem dX1_joined_34 : decode cX1_joined 34 = .ok (.iand, 1) := dk_126 (dk_at dksX1_joined_1 12 rfl rfl)
theorem dX1_joined_35 : decode cX1_joined 35 = .ok (.ireturn, 1) := dk_172 (dk_at dksX1_joined_1 13 rfl rfl)
abbrev cX1_gunsIn : ByteArray := prog_1_method_57_code
def yX1_gunsIn : MethodName := ⟨RX1, "gunsIn", "(IIZ)I"⟩
def dkwX1_gunsIn_4 : List UInt8 := [54, 4, 132, 5, 1, 167, 255, 162, 21, 4, 172]
abbrev dktX1_gunsIn_4 : List UInt8 := dkwX1_gunsIn_4 ++ []
def dkwX1_gunsIn_3 : List UInt8 := [54, 6, 21, 4, 29, 154, 0, 12, 21, 6, 184, 1, 15, 4, 160, 0, 8, 21, 6, 167, 0, 4, 3, 128]
abbrev dktX1_gunsIn_3 : List UInt8 := dkwX1_gunsIn_3 ++ dktX1_gunsIn_4
def dkwX1_gunsIn_2 : List UInt8 := [154, 0, 6, 167, 0, 46, 42, 180, 0, 29, 42, 180, 0, 29, 180, 0, 82, 21, 5, 50, 182, 0, 239]
abbrev dktX1_gunsIn_2 : List UInt8 := dkwX1_gunsIn_2 ++ dktX1_gunsIn_3
def dkwX1_gunsIn_1 : List UInt8 := [182, 1, 9, 153, 0, 70, 42, 180, 0, 29, 180, 0, 82, 21, 5, 50, 182, 0, 228, 27, 28, 184, 0, 106]
abbrev dktX1_gunsIn_1 : List UInt8 := dkwX1_gunsIn_1 ++ dktX1_gunsIn_2
def dkwX1_gunsIn_0 : List UInt8 := [3, 54, 4, 3, 54, 5, 21, 5, 42, 180, 0, 29, 180, 0, 79, 162, 0, 88, 42, 180, 0, 29, 21, 5]
abbrev dktX1_gunsIn_0 : List UInt8 := dkwX1_gunsIn_0 ++ dktX1_gunsIn_1
theorem dksX1_gunsIn_0 : cX1_gunsIn.data.toList.drop 0 = dktX1_gunsIn_0 := by decide +kernel
theorem dksX1_gunsIn_1 : cX1_gunsIn.data.toList.drop 24 = dktX1_gunsIn_1 := dk_seg dksX1_gunsIn_0 24 rfl rfl
theorem dksX1_gunsIn_2 : cX1_gunsIn.data.toList.drop 48 = dktX1_gunsIn_2 := dk_seg dksX1_gunsIn_1 24 rfl rfl
theorem dksX1_gunsIn_3 : cX1_gunsIn.data.toList.drop 71 = dktX1_gunsIn_3 := dk_seg dksX1_gunsIn_2 23 rfl rfl
theorem dksX1_gunsIn_4 : cX1_gunsIn.data.toList.drop 95 = dktX1_gunsIn_4 := dk_seg dksX1_gunsIn_3 24 rfl rfl
theorem dX1_gunsIn_0 : decode cX1_gunsIn 0 = .ok (.iconst 0, 1) := dk_3 (dk_at dksX1_gunsIn_0 0 rfl rfl)
theorem dX1_gunsIn_1 : decode cX1_gunsIn 1 = .ok (.istore 4, 2) := dk_54 4 (dk_at dksX1_gunsIn_0 1 rfl rfl)
theorem dX1_gunsIn_3 : decode cX1_gunsIn 3 = .ok (.iconst 0, 1) := dk_3 (dk_at dksX1_gunsIn_0 3 rfl rfl)
theorem dX1_gunsIn_4 : decode cX1_gunsIn 4 = .ok (.istore 5, 2) := dk_54 5 (dk_at dksX1_gunsIn_0 4 rfl rfl)
theorem dX1_gunsIn_6 : decode cX1_gunsIn 6 = .ok (.iload 5, 2) := dk_21 5 (dk_at dksX1_gunsIn_0 6 rfl rfl)
theorem dX1_gunsIn_8 : decode cX1_gunsIn 8 = .ok (.aload_n 0, 1) := dk_42 (dk_at dksX1_gunsIn_0 8 rfl rfl)
theorem dX1_gunsIn_9 : decode cX1_gunsIn 9 = .ok (.getfield 29, 3) := dk_180 0 29 (dk_at dksX1_gunsIn_0 9 rfl rfl)
theorem dX1_gunsIn_12 : decode cX1_gunsIn 12 = .ok (.getfield 79, 3) := dk_180 0 79 (dk_at dksX1_gunsIn_0 12 rfl rfl)
theorem dX1_gunsIn_15 : decode cX1_gunsIn 15 = .ok (.if_icmp .ge 88, 3) := dk_162 0 88 (dk_at dksX1_gunsIn_0 15 rfl rfl)
theorem dX1_gunsIn_18 : decode cX1_gunsIn 18 = .ok (.aload_n 0, 1) := dk_42 (dk_at dksX1_gunsIn_0 18 rfl rfl)
theorem dX1_gunsIn_19 : decode cX1_gunsIn 19 = .ok (.getfield 29, 3) := dk_180 0 29 (dk_at dksX1_gunsIn_0 19 rfl rfl)
theorem dX1_gunsIn_22 : decode cX1_gunsIn 22 = .ok (.iload 5, 2) := dk_21 5 (dk_at dksX1_gunsIn_0 22 rfl rfl)
theorem dX1_gunsIn_24 : decode cX1_gunsIn 24 = .ok (.invokevirtual 265, 3) := dk_182 1 9 (dk_at dksX1_gunsIn_1 0 rfl rfl)
theorem dX1_gunsIn_27 : decode cX1_gunsIn 27 = .ok (.ifCond .eq 70, 3) := dk_153 0 70 (dk_at dksX1_gunsIn_1 3 rfl rfl)
theorem dX1_gunsIn_30 : decode cX1_gunsIn 30 = .ok (.aload_n 0, 1) := dk_42 (dk_at dksX1_gunsIn_1 6 rfl rfl)
theorem dX1_gunsIn_31 : decode cX1_gunsIn 31 = .ok (.getfield 29, 3) := dk_180 0 29 (dk_at dksX1_gunsIn_1 7 rfl rfl)
theorem dX1_gunsIn_34 : decode cX1_gunsIn 34 = .ok (.getfield 82, 3) := dk_180 0 82 (dk_at dksX1_gunsIn_1 10 rfl rfl)
theorem dX1_gunsIn_37 : decode cX1_gunsIn 37 = .ok (.iload 5, 2) := dk_21 5 (dk_at dksX1_gunsIn_1 13 rfl rfl)
theorem dX1_gunsIn_39 : decode cX1_gunsIn 39 = .ok (.aaload, 1) := dk_50 (dk_at dksX1_gunsIn_1 15 rfl rfl)
theorem dX1_gunsIn_40 : decode cX1_gunsIn 40 = .ok (.invokevirtual 228, 3) := dk_182 0 228 (dk_at dksX1_gunsIn_1 16 rfl rfl)
theorem dX1_gunsIn_43 : decode cX1_gunsIn 43 = .ok (.iload_n 1, 1) := dk_27 (dk_at dksX1_gunsIn_1 19 rfl rfl)
theorem dX1_gunsIn_44 : decode cX1_gunsIn 44 = .ok (.iload_n 2, 1) := dk_28 (dk_at dksX1_gunsIn_1 20 rfl rfl)
theorem dX1_gunsIn_45 : decode cX1_gunsIn 45 = .ok (.invokestatic 106, 3) := dk_184 0 106 (dk_at dksX1_gunsIn_1 21 rfl rfl)
theorem dX1_gunsIn_48 : decode cX1_gunsIn 48 = .ok (.ifCond .ne 6, 3) := dk_154 0 6 (dk_at dksX1_gunsIn_2 0 rfl rfl)
theorem dX1_gunsIn_51 : decode cX1_gunsIn 51 = .ok (.goto 46, 3) := dk_167 0 46 (dk_at dksX1_gunsIn_2 3 rfl rfl)
theorem dX1_gunsIn_54 : decode cX1_gunsIn 54 = .ok (.aload_n 0, 1) := dk_42 (dk_at dksX1_gunsIn_2 6 rfl rfl)
theorem dX1_gunsIn_55 : decode cX1_gunsIn 55 = .ok (.getfield 29, 3) := dk_180 0 29 (dk_at dksX1_gunsIn_2 7 rfl rfl)
theorem dX1_gunsIn_58 : decode cX1_gunsIn 58 = .ok (.aload_n 0, 1) := dk_42 (dk_at dksX1_gunsIn_2 10 rfl rfl)
theorem dX1_gunsIn_59 : decode cX1_gunsIn 59 = .ok (.getfield 29, 3) := dk_180 0 29 (dk_at dksX1_gunsIn_2 11 rfl rfl)
theorem dX1_gunsIn_62 : decode cX1_gunsIn 62 = .ok (.getfield 82, 3) := dk_180 0 82 (dk_at dksX1_gunsIn_2 14 rfl rfl)
theorem dX1_gunsIn_65 : decode cX1_gunsIn 65 = .ok (.iload 5, 2) := dk_21 5 (dk_at dksX1_gunsIn_2 17 rfl rfl)
theorem dX1_gunsIn_67 : decode cX1_gunsIn 67 = .ok (.aaload, 1) := dk_50 (dk_at dksX1_gunsIn_2 19 rfl rfl)
theorem dX1_gunsIn_68 : decode cX1_gunsIn 68 = .ok (.invokevirtual 239, 3) := dk_182 0 239 (dk_at dksX1_gunsIn_2 20 rfl rfl)
theorem dX1_gunsIn_71 : decode cX1_gunsIn 71 = .ok (.istore 6, 2) := dk_54 6 (dk_at dksX1_gunsIn_3 0 rfl rfl)
theorem dX1_gunsIn_73 : decode cX1_gunsIn 73 = .ok (.iload 4, 2) := dk_21 4 (dk_at dksX1_gunsIn_3 2 rfl rfl)
theorem dX1_gunsIn_75 : decode cX1_gunsIn 75 = .ok (.iload_n 3, 1) := dk_29 (dk_at dksX1_gunsIn_3 4 rfl rfl)
theorem dX1_gunsIn_76 : decode cX1_gunsIn 76 = .ok (.ifCond .ne 12, 3) := dk_154 0 12 (dk_at dksX1_gunsIn_3 5 rfl rfl)
theorem dX1_gunsIn_79 : decode cX1_gunsIn 79 = .ok (.iload 6, 2) := dk_21 6 (dk_at dksX1_gunsIn_3 8 rfl rfl)
theorem dX1_gunsIn_81 : decode cX1_gunsIn 81 = .ok (.invokestatic 271, 3) := dk_184 1 15 (dk_at dksX1_gunsIn_3 10 rfl rfl)
theorem dX1_gunsIn_84 : decode cX1_gunsIn 84 = .ok (.iconst 1, 1) := dk_4 (dk_at dksX1_gunsIn_3 13 rfl rfl)
theorem dX1_gunsIn_85 : decode cX1_gunsIn 85 = .ok (.if_icmp .ne 8, 3) := dk_160 0 8 (dk_at dksX1_gunsIn_3 14 rfl rfl)
theorem dX1_gunsIn_88 : decode cX1_gunsIn 88 = .ok (.iload 6, 2) := dk_21 6 (dk_at dksX1_gunsIn_3 17 rfl rfl)
theorem dX1_gunsIn_90 : decode cX1_gunsIn 90 = .ok (.goto 4, 3) := dk_167 0 4 (dk_at dksX1_gunsIn_3 19 rfl rfl)
theorem dX1_gunsIn_93 : decode cX1_gunsIn 93 = .ok (.iconst 0, 1) := dk_3 (dk_at dksX1_gunsIn_3 22 rfl rfl)
theorem dX1_gunsIn_94 : decode cX1_gunsIn 94 = .ok (.ior, 1) := dk_128 (dk_at dksX1_gunsIn_3 23 rfl rfl)
theorem dX1_gunsIn_95 : decode cX1_gunsIn 95 = .ok (.istore 4, 2) := dk_54 4 (dk_at dksX1_gunsIn_4 0 rfl rfl)
theorem dX1_gunsIn_97 : decode cX1_gunsIn 97 = .ok (.iinc 5 1, 3) := dk_132 5 1 (dk_at dksX1_gunsIn_4 2 rfl rfl)
theorem dX1_gunsIn_100 : decode cX1_gunsIn 100 = .ok (.goto (-94), 3) := dk_167 255 162 (dk_at dksX1_gunsIn_4 5 rfl rfl)
theorem dX1_gunsIn_103 : decode cX1_gunsIn 103 = .ok (.iload 4, 2) := dk_21 4 (dk_at dksX1_gunsIn_4 8 rfl rfl)
theorem dX1_gunsIn_105 : decode cX1_gunsIn 105 = .ok (.ireturn, 1) := dk_172 (dk_at dksX1_gunsIn_4 10 rfl rfl)
abbrev cX1_story : ByteArray := prog_1_method_59_code
def yX1_story : MethodName := ⟨RX1, "story", "(I)I"⟩
def dkwX1_story_4 : List UInt8 := [180, 0, 29, 89, 180, 1, 117, 4, 96, 181, 1, 117, 42, 180, 0, 29, 180, 1, 117, 4, 100, 172]
abbrev dktX1_story_4 : List UInt8 := dkwX1_story_4 ++ []
def dkwX1_story_3 : List UInt8 := [180, 0, 29, 180, 1, 120, 42, 180, 0, 29, 180, 1, 117, 187, 1, 124, 89, 27, 45, 183, 1, 126, 83, 42]
abbrev dktX1_story_3 : List UInt8 := dkwX1_story_3 ++ dktX1_story_4
def dkwX1_story_2 : List UInt8 := [184, 0, 103, 42, 180, 0, 29, 180, 1, 117, 8, 162, 0, 7, 4, 167, 0, 4, 3, 184, 0, 118, 42]
abbrev dktX1_story_2 : List UInt8 := dkwX1_story_2 ++ dktX1_story_3
def dkwX1_story_1 : List UInt8 := [42, 25, 4, 180, 0, 143, 181, 0, 52, 187, 0, 56, 89, 183, 0, 58, 191, 27, 4, 16, 99, 184, 0, 68]
abbrev dktX1_story_1 : List UInt8 := dkwX1_story_1 ++ dktX1_story_2
def dkwX1_story_0 : List UInt8 := [42, 182, 0, 133, 61, 42, 2, 181, 0, 52, 42, 180, 0, 22, 28, 182, 1, 113, 78, 167, 0, 22, 58, 4]
abbrev dktX1_story_0 : List UInt8 := dkwX1_story_0 ++ dktX1_story_1
theorem dksX1_story_0 : cX1_story.data.toList.drop 0 = dktX1_story_0 := by decide +kernel
theorem dksX1_story_1 : cX1_story.data.toList.drop 24 = dktX1_story_1 := dk_seg dksX1_story_0 24 rfl rfl
theorem dksX1_story_2 : cX1_story.data.toList.drop 48 = dktX1_story_2 := dk_seg dksX1_story_1 24 rfl rfl
theorem dksX1_story_3 : cX1_story.data.toList.drop 71 = dktX1_story_3 := dk_seg dksX1_story_2 23 rfl rfl
theorem dksX1_story_4 : cX1_story.data.toList.drop 95 = dktX1_story_4 := dk_seg dksX1_story_3 24 rfl rfl
theorem dX1_story_0 : decode cX1_story 0 = .ok (.aload_n 0, 1) := dk_42 (dk_at dksX1_story_0 0 rfl rfl)
theorem dX1_story_1 : decode cX1_story 1 = .ok (.invokevirtual 133, 3) := dk_182 0 133 (dk_at dksX1_story_0 1 rfl rfl)
theorem dX1_story_4 : decode cX1_story 4 = .ok (.istore_n 2, 1) := dk_61 (dk_at dksX1_story_0 4 rfl rfl)
theorem dX1_story_5 : decode cX1_story 5 = .ok (.aload_n 0, 1) := dk_42 (dk_at dksX1_story_0 5 rfl rfl)
theorem dX1_story_6 : decode cX1_story 6 = .ok (.iconst (-1), 1) := dk_2 (dk_at dksX1_story_0 6 rfl rfl)
theorem dX1_story_7 : decode cX1_story 7 = .ok (.putfield 52, 3) := dk_181 0 52 (dk_at dksX1_story_0 7 rfl rfl)
theorem dX1_story_10 : decode cX1_story 10 = .ok (.aload_n 0, 1) := dk_42 (dk_at dksX1_story_0 10 rfl rfl)
theorem dX1_story_11 : decode cX1_story 11 = .ok (.getfield 22, 3) := dk_180 0 22 (dk_at dksX1_story_0 11 rfl rfl)
theorem dX1_story_14 : decode cX1_story 14 = .ok (.iload_n 2, 1) := dk_28 (dk_at dksX1_story_0 14 rfl rfl)
theorem dX1_story_15 : decode cX1_story 15 = .ok (.invokevirtual 369, 3) := dk_182 1 113 (dk_at dksX1_story_0 15 rfl rfl)
theorem dX1_story_18 : decode cX1_story 18 = .ok (.astore_n 3, 1) := dk_78 (dk_at dksX1_story_0 18 rfl rfl)
theorem dX1_story_19 : decode cX1_story 19 = .ok (.goto 22, 3) := dk_167 0 22 (dk_at dksX1_story_0 19 rfl rfl)
theorem dX1_story_22 : decode cX1_story 22 = .ok (.astore 4, 2) := dk_58 4 (dk_at dksX1_story_0 22 rfl rfl)
theorem dX1_story_24 : decode cX1_story 24 = .ok (.aload_n 0, 1) := dk_42 (dk_at dksX1_story_1 0 rfl rfl)
theorem dX1_story_25 : decode cX1_story 25 = .ok (.aload 4, 2) := dk_25 4 (dk_at dksX1_story_1 1 rfl rfl)
theorem dX1_story_27 : decode cX1_story 27 = .ok (.getfield 143, 3) := dk_180 0 143 (dk_at dksX1_story_1 3 rfl rfl)
theorem dX1_story_30 : decode cX1_story 30 = .ok (.putfield 52, 3) := dk_181 0 52 (dk_at dksX1_story_1 6 rfl rfl)
theorem dX1_story_33 : decode cX1_story 33 = .ok (.new 56, 3) := dk_187 0 56 (dk_at dksX1_story_1 9 rfl rfl)
theorem dX1_story_36 : decode cX1_story 36 = .ok (.dup, 1) := dk_89 (dk_at dksX1_story_1 12 rfl rfl)
theorem dX1_story_37 : decode cX1_story 37 = .ok (.invokespecial 58, 3) := dk_183 0 58 (dk_at dksX1_story_1 13 rfl rfl)
theorem dX1_story_40 : decode cX1_story 40 = .ok (.athrow, 1) := dk_191 (dk_at dksX1_story_1 16 rfl rfl)
theorem dX1_story_41 : decode cX1_story 41 = .ok (.iload_n 1, 1) := dk_27 (dk_at dksX1_story_1 17 rfl rfl)
theorem dX1_story_42 : decode cX1_story 42 = .ok (.iconst 1, 1) := dk_4 (dk_at dksX1_story_1 18 rfl rfl)
theorem dX1_story_43 : decode cX1_story 43 = .ok (.bipush 99, 2) := dk_16 99 (dk_at dksX1_story_1 19 rfl rfl)
theorem dX1_story_45 : decode cX1_story 45 = .ok (.invokestatic 68, 3) := dk_184 0 68 (dk_at dksX1_story_1 21 rfl rfl)
theorem dX1_story_48 : decode cX1_story 48 = .ok (.invokestatic 103, 3) := dk_184 0 103 (dk_at dksX1_story_2 0 rfl rfl)
theorem dX1_story_51 : decode cX1_story 51 = .ok (.aload_n 0, 1) := dk_42 (dk_at dksX1_story_2 3 rfl rfl)
theorem dX1_story_52 : decode cX1_story 52 = .ok (.getfield 29, 3) := dk_180 0 29 (dk_at dksX1_story_2 4 rfl rfl)
theorem dX1_story_55 : decode cX1_story 55 = .ok (.getfield 373, 3) := dk_180 1 117 (dk_at dksX1_story_2 7 rfl rfl)
theorem dX1_story_58 : decode cX1_story 58 = .ok (.iconst 5, 1) := dk_8 (dk_at dksX1_story_2 10 rfl rfl)
theorem dX1_story_59 : decode cX1_story 59 = .ok (.if_icmp .ge 7, 3) := dk_162 0 7 (dk_at dksX1_story_2 11 rfl rfl)
theorem dX1_story_62 : decode cX1_story 62 = .ok (.iconst 1, 1) := dk_4 (dk_at dksX1_story_2 14 rfl rfl)
theorem dX1_story_63 : decode cX1_story 63 = .ok (.goto 4, 3) := dk_167 0 4 (dk_at dksX1_story_2 15 rfl rfl)
theorem dX1_story_66 : decode cX1_story 66 = .ok (.iconst 0, 1) := dk_3 (dk_at dksX1_story_2 18 rfl rfl)
theorem dX1_story_67 : decode cX1_story 67 = .ok (.invokestatic 118, 3) := dk_184 0 118 (dk_at dksX1_story_2 19 rfl rfl)
theorem dX1_story_70 : decode cX1_story 70 = .ok (.aload_n 0, 1) := dk_42 (dk_at dksX1_story_2 22 rfl rfl)
theorem dX1_story_71 : decode cX1_story 71 = .ok (.getfield 29, 3) := dk_180 0 29 (dk_at dksX1_story_3 0 rfl rfl)
theorem dX1_story_74 : decode cX1_story 74 = .ok (.getfield 376, 3) := dk_180 1 120 (dk_at dksX1_story_3 3 rfl rfl)
theorem dX1_story_77 : decode cX1_story 77 = .ok (.aload_n 0, 1) := dk_42 (dk_at dksX1_story_3 6 rfl rfl)
theorem dX1_story_78 : decode cX1_story 78 = .ok (.getfield 29, 3) := dk_180 0 29 (dk_at dksX1_story_3 7 rfl rfl)
theorem dX1_story_81 : decode cX1_story 81 = .ok (.getfield 373, 3) := dk_180 1 117 (dk_at dksX1_story_3 10 rfl rfl)
theorem dX1_story_84 : decode cX1_story 84 = .ok (.new 380, 3) := dk_187 1 124 (dk_at dksX1_story_3 13 rfl rfl)
theorem dX1_story_87 : decode cX1_story 87 = .ok (.dup, 1) := dk_89 (dk_at dksX1_story_3 16 rfl rfl)
theorem dX1_story_88 : decode cX1_story 88 = .ok (.iload_n 1, 1) := dk_27 (dk_at dksX1_story_3 17 rfl rfl)
theorem dX1_story_89 : decode cX1_story 89 = .ok (.aload_n 3, 1) := dk_45 (dk_at dksX1_story_3 18 rfl rfl)
theorem dX1_story_90 : decode cX1_story 90 = .ok (.invokespecial 382, 3) := dk_183 1 126 (dk_at dksX1_story_3 19 rfl rfl)
theorem dX1_story_93 : decode cX1_story 93 = .ok (.aastore, 1) := dk_83 (dk_at dksX1_story_3 22 rfl rfl)
theorem dX1_story_94 : decode cX1_story 94 = .ok (.aload_n 0, 1) := dk_42 (dk_at dksX1_story_3 23 rfl rfl)
theorem dX1_story_95 : decode cX1_story 95 = .ok (.getfield 29, 3) := dk_180 0 29 (dk_at dksX1_story_4 0 rfl rfl)
theorem dX1_story_98 : decode cX1_story 98 = .ok (.dup, 1) := dk_89 (dk_at dksX1_story_4 3 rfl rfl)
theorem dX1_story_99 : decode cX1_story 99 = .ok (.getfield 373, 3) := dk_180 1 117 (dk_at dksX1_story_4 4 rfl rfl)
theorem dX1_story_102 : decode cX1_story 102 = .ok (.iconst 1, 1) := dk_4 (dk_at dksX1_story_4 7 rfl rfl)
theorem dX1_story_103 : decode cX1_story 103 = .ok (.iadd, 1) := dk_96 (dk_at dksX1_story_4 8 rfl rfl)
theorem dX1_story_104 : decode cX1_story 104 = .ok (.putfield 373, 3) := dk_181 1 117 (dk_at dksX1_story_4 9 rfl rfl)
theorem dX1_story_107 : decode cX1_story 107 = .ok (.aload_n 0, 1) := dk_42 (dk_at dksX1_story_4 12 rfl rfl)
theorem dX1_story_108 : decode cX1_story 108 = .ok (.getfield 29, 3) := dk_180 0 29 (dk_at dksX1_story_4 13 rfl rfl)
theorem dX1_story_111 : decode cX1_story 111 = .ok (.getfield 373, 3) := dk_180 1 117 (dk_at dksX1_story_4 16 rfl rfl)
theorem dX1_story_114 : decode cX1_story 114 = .ok (.iconst 1, 1) := dk_4 (dk_at dksX1_story_4 19 rfl rfl)
theorem dX1_story_115 : decode cX1_story 115 = .ok (.isub, 1) := dk_100 (dk_at dksX1_story_4 20 rfl rfl)
theorem dX1_story_116 : decode cX1_story 116 = .ok (.ireturn, 1) := dk_172 (dk_at dksX1_story_4 21 rfl rfl)
abbrev cX1_holds : ByteArray := prog_1_method_62_code
def yX1_holds : MethodName := ⟨RX1, "holds", "(I)Z"⟩
def dkwX1_holds_1 : List UInt8 := [180, 0, 29, 180, 1, 129, 185, 1, 142, 2, 0, 172]
abbrev dktX1_holds_1 : List UInt8 := dkwX1_holds_1 ++ []
def dkwX1_holds_0 : List UInt8 := [42, 27, 182, 1, 132, 42, 182, 1, 135, 42, 180, 0, 29, 180, 1, 120, 27, 50, 180, 1, 138, 42]
abbrev dktX1_holds_0 : List UInt8 := dkwX1_holds_0 ++ dktX1_holds_1
theorem dksX1_holds_0 : cX1_holds.data.toList.drop 0 = dktX1_holds_0 := by decide +kernel
theorem dksX1_holds_1 : cX1_holds.data.toList.drop 22 = dktX1_holds_1 := dk_seg dksX1_holds_0 22 rfl rfl
theorem dX1_holds_0 : decode cX1_holds 0 = .ok (.aload_n 0, 1) := dk_42 (dk_at dksX1_holds_0 0 rfl rfl)
theorem dX1_holds_1 : decode cX1_holds 1 = .ok (.iload_n 1, 1) := dk_27 (dk_at dksX1_holds_0 1 rfl rfl)
theorem dX1_holds_2 : decode cX1_holds 2 = .ok (.invokevirtual 388, 3) := dk_182 1 132 (dk_at dksX1_holds_0 2 rfl rfl)
theorem dX1_holds_5 : decode cX1_holds 5 = .ok (.aload_n 0, 1) := dk_42 (dk_at dksX1_holds_0 5 rfl rfl)
theorem dX1_holds_6 : decode cX1_holds 6 = .ok (.invokevirtual 391, 3) := dk_182 1 135 (dk_at dksX1_holds_0 6 rfl rfl)
theorem dX1_holds_9 : decode cX1_holds 9 = .ok (.aload_n 0, 1) := dk_42 (dk_at dksX1_holds_0 9 rfl rfl)
theorem dX1_holds_10 : decode cX1_holds 10 = .ok (.getfield 29, 3) := dk_180 0 29 (dk_at dksX1_holds_0 10 rfl rfl)
theorem dX1_holds_13 : decode cX1_holds 13 = .ok (.getfield 376, 3) := dk_180 1 120 (dk_at dksX1_holds_0 13 rfl rfl)
theorem dX1_holds_16 : decode cX1_holds 16 = .ok (.iload_n 1, 1) := dk_27 (dk_at dksX1_holds_0 16 rfl rfl)
theorem dX1_holds_17 : decode cX1_holds 17 = .ok (.aaload, 1) := dk_50 (dk_at dksX1_holds_0 17 rfl rfl)
theorem dX1_holds_18 : decode cX1_holds 18 = .ok (.getfield 394, 3) := dk_180 1 138 (dk_at dksX1_holds_0 18 rfl rfl)
theorem dX1_holds_21 : decode cX1_holds 21 = .ok (.aload_n 0, 1) := dk_42 (dk_at dksX1_holds_0 21 rfl rfl)
theorem dX1_holds_22 : decode cX1_holds 22 = .ok (.getfield 29, 3) := dk_180 0 29 (dk_at dksX1_holds_1 0 rfl rfl)
theorem dX1_holds_25 : decode cX1_holds 25 = .ok (.getfield 385, 3) := dk_180 1 129 (dk_at dksX1_holds_1 3 rfl rfl)
theorem dX1_holds_28 : decode cX1_holds 28 = .ok (.invokeinterface 398 2, 5) := by decide +kernel
theorem dX1_holds_33 : decode cX1_holds 33 = .ok (.ireturn, 1) := dk_172 (dk_at dksX1_holds_1 11 rfl rfl)
abbrev cX1_isStory : ByteArray := prog_1_method_61_code
def yX1_isStory : MethodName := ⟨RX1, "isStory", "(I)V"⟩
def dkwX1_isStory_0 : List UInt8 := [27, 3, 42, 180, 0, 29, 180, 1, 117, 4, 100, 184, 0, 68, 184, 0, 72, 177]
abbrev dktX1_isStory_0 : List UInt8 := dkwX1_isStory_0 ++ []
theorem dksX1_isStory_0 : cX1_isStory.data.toList.drop 0 = dktX1_isStory_0 := by decide +kernel
theorem dX1_isStory_0 : decode cX1_isStory 0 = .ok (.iload_n 1, 1) := dk_27 (dk_at dksX1_isStory_0 0 rfl rfl)
theorem dX1_isStory_1 : decode cX1_isStory 1 = .ok (.iconst 0, 1) := dk_3 (dk_at dksX1_isStory_0 1 rfl rfl)
theorem dX1_isStory_2 : decode cX1_isStory 2 = .ok (.aload_n 0, 1) := dk_42 (dk_at dksX1_isStory_0 2 rfl rfl)
theorem dX1_isStory_3 : decode cX1_isStory 3 = .ok (.getfield 29, 3) := dk_180 0 29 (dk_at dksX1_isStory_0 3 rfl rfl)
theorem dX1_isStory_6 : decode cX1_isStory 6 = .ok (.getfield 373, 3) := dk_180 1 117 (dk_at dksX1_isStory_0 6 rfl rfl)
theorem dX1_isStory_9 : decode cX1_isStory 9 = .ok (.iconst 1, 1) := dk_4 (dk_at dksX1_isStory_0 9 rfl rfl)
theorem dX1_isStory_10 : decode cX1_isStory 10 = .ok (.isub, 1) := dk_100 (dk_at dksX1_isStory_0 10 rfl rfl)
theorem dX1_isStory_11 : decode cX1_isStory 11 = .ok (.invokestatic 68, 3) := dk_184 0 68 (dk_at dksX1_isStory_0 11 rfl rfl)
theorem dX1_isStory_14 : decode cX1_isStory 14 = .ok (.invokestatic 72, 3) := dk_184 0 72 (dk_at dksX1_isStory_0 14 rfl rfl)
theorem dX1_isStory_17 : decode cX1_isStory 17 = .ok (.return_, 1) := dk_177 (dk_at dksX1_isStory_0 17 rfl rfl)
abbrev cX1_stands : ByteArray := prog_1_method_60_code
def yX1_stands : MethodName := ⟨RX1, "stands", "()V"⟩
def dkwX1_stands_8 : List UInt8 := [79, 132, 2, 1, 167, 255, 225, 177]
abbrev dktX1_stands_8 : List UInt8 := dkwX1_stands_8 ++ []
def dkwX1_stands_7 : List UInt8 := [162, 0, 31, 42, 3, 28, 182, 1, 50, 43, 16, 16, 43, 16, 16, 46, 42, 4, 182, 1, 54, 184, 0, 9]
abbrev dktX1_stands_7 : List UInt8 := dkwX1_stands_7 ++ dktX1_stands_8
def dkwX1_stands_6 : List UInt8 := [167, 255, 211, 43, 16, 13, 42, 7, 182, 1, 60, 79, 43, 16, 16, 3, 79, 3, 61, 28, 16, 16]
abbrev dktX1_stands_6 : List UInt8 := dkwX1_stands_6 ++ dktX1_stands_7
def dkwX1_stands_5 : List UInt8 := [180, 0, 29, 180, 1, 79, 28, 50, 182, 1, 86, 153, 0, 7, 4, 167, 0, 4, 3, 96, 79, 132, 2, 1]
abbrev dktX1_stands_5 : List UInt8 := dkwX1_stands_5 ++ dktX1_stands_6
def dkwX1_stands_4 : List UInt8 := [3, 61, 28, 42, 180, 0, 29, 180, 1, 76, 162, 0, 40, 43, 16, 12, 92, 46, 42, 180, 0, 29, 42]
abbrev dktX1_stands_4 : List UInt8 := dkwX1_stands_4 ++ dktX1_stands_5
def dkwX1_stands_3 : List UInt8 := [132, 2, 1, 167, 255, 210, 43, 16, 11, 42, 180, 0, 29, 3, 17, 0, 255, 182, 1, 6, 184, 1, 15, 79]
abbrev dktX1_stands_3 : List UInt8 := dkwX1_stands_3 ++ dktX1_stands_4
def dkwX1_stands_2 : List UInt8 := [153, 0, 24, 43, 16, 7, 42, 180, 0, 29, 180, 0, 82, 28, 50, 182, 0, 223, 96, 92, 46, 4, 96, 79]
abbrev dktX1_stands_2 : List UInt8 := dkwX1_stands_2 ++ dktX1_stands_3
def dkwX1_stands_1 : List UInt8 := [167, 255, 243, 3, 61, 28, 42, 180, 0, 29, 180, 0, 79, 162, 0, 41, 42, 180, 0, 29, 28, 182, 0, 236]
abbrev dktX1_stands_1 : List UInt8 := dkwX1_stands_1 ++ dktX1_stands_2
def dkwX1_stands_0 : List UInt8 := [42, 180, 0, 29, 180, 1, 129, 76, 16, 7, 61, 28, 16, 14, 162, 0, 13, 43, 28, 3, 79, 132, 2, 1]
abbrev dktX1_stands_0 : List UInt8 := dkwX1_stands_0 ++ dktX1_stands_1
theorem dksX1_stands_0 : cX1_stands.data.toList.drop 0 = dktX1_stands_0 := by decide +kernel
theorem dksX1_stands_1 : cX1_stands.data.toList.drop 24 = dktX1_stands_1 := dk_seg dksX1_stands_0 24 rfl rfl
theorem dksX1_stands_2 : cX1_stands.data.toList.drop 48 = dktX1_stands_2 := dk_seg dksX1_stands_1 24 rfl rfl
theorem dksX1_stands_3 : cX1_stands.data.toList.drop 72 = dktX1_stands_3 := dk_seg dksX1_stands_2 24 rfl rfl
theorem dksX1_stands_4 : cX1_stands.data.toList.drop 96 = dktX1_stands_4 := dk_seg dksX1_stands_3 24 rfl rfl
theorem dksX1_stands_5 : cX1_stands.data.toList.drop 119 = dktX1_stands_5 := dk_seg dksX1_stands_4 23 rfl rfl
theorem dksX1_stands_6 : cX1_stands.data.toList.drop 143 = dktX1_stands_6 := dk_seg dksX1_stands_5 24 rfl rfl
theorem dksX1_stands_7 : cX1_stands.data.toList.drop 165 = dktX1_stands_7 := dk_seg dksX1_stands_6 22 rfl rfl
theorem dksX1_stands_8 : cX1_stands.data.toList.drop 189 = dktX1_stands_8 := dk_seg dksX1_stands_7 24 rfl rfl
theorem dX1_stands_0 : decode cX1_stands 0 = .ok (.aload_n 0, 1) := dk_42 (dk_at dksX1_stands_0 0 rfl rfl)
theorem dX1_stands_1 : decode cX1_stands 1 = .ok (.getfield 29, 3) := dk_180 0 29 (dk_at dksX1_stands_0 1 rfl rfl)
theorem dX1_stands_4 : decode cX1_stands 4 = .ok (.getfield 385, 3) := dk_180 1 129 (dk_at dksX1_stands_0 4 rfl rfl)
theorem dX1_stands_7 : decode cX1_stands 7 = .ok (.astore_n 1, 1) := dk_76 (dk_at dksX1_stands_0 7 rfl rfl)
theorem dX1_stands_8 : decode cX1_stands 8 = .ok (.bipush 7, 2) := dk_16 7 (dk_at dksX1_stands_0 8 rfl rfl)
theorem dX1_stands_10 : decode cX1_stands 10 = .ok (.istore_n 2, 1) := dk_61 (dk_at dksX1_stands_0 10 rfl rfl)
theorem dX1_stands_11 : decode cX1_stands 11 = .ok (.iload_n 2, 1) := dk_28 (dk_at dksX1_stands_0 11 rfl rfl)
theorem dX1_stands_12 : decode cX1_stands 12 = .ok (.bipush 14, 2) := dk_16 14 (dk_at dksX1_stands_0 12 rfl rfl)
theorem dX1_stands_14 : decode cX1_stands 14 = .ok (.if_icmp .ge 13, 3) := dk_162 0 13 (dk_at dksX1_stands_0 14 rfl rfl)
theorem dX1_stands_17 : decode cX1_stands 17 = .ok (.aload_n 1, 1) := dk_43 (dk_at dksX1_stands_0 17 rfl rfl)
theorem dX1_stands_18 : decode cX1_stands 18 = .ok (.iload_n 2, 1) := dk_28 (dk_at dksX1_stands_0 18 rfl rfl)
theorem dX1_stands_19 : decode cX1_stands 19 = .ok (.iconst 0, 1) := dk_3 (dk_at dksX1_stands_0 19 rfl rfl)
theorem dX1_stands_20 : decode cX1_stands 20 = .ok (.iastore, 1) := dk_79 (dk_at dksX1_stands_0 20 rfl rfl)
theorem dX1_stands_21 : decode cX1_stands 21 = .ok (.iinc 2 1, 3) := dk_132 2 1 (dk_at dksX1_stands_0 21 rfl rfl)
theorem dX1_stands_24 : decode cX1_stands 24 = .ok (.goto (-13), 3) := dk_167 255 243 (dk_at dksX1_stands_1 0 rfl rfl)
theorem dX1_stands_27 : decode cX1_stands 27 = .ok (.iconst 0, 1) := dk_3 (dk_at dksX1_stands_1 3 rfl rfl)
theorem dX1_stands_28 : decode cX1_stands 28 = .ok (.istore_n 2, 1) := dk_61 (dk_at dksX1_stands_1 4 rfl rfl)
theorem dX1_stands_29 : decode cX1_stands 29 = .ok (.iload_n 2, 1) := dk_28 (dk_at dksX1_stands_1 5 rfl rfl)
theorem dX1_stands_30 : decode cX1_stands 30 = .ok (.aload_n 0, 1) := dk_42 (dk_at dksX1_stands_1 6 rfl rfl)
theorem dX1_stands_31 : decode cX1_stands 31 = .ok (.getfield 29, 3) := dk_180 0 29 (dk_at dksX1_stands_1 7 rfl rfl)
theorem dX1_stands_34 : decode cX1_stands 34 = .ok (.getfield 79, 3) := dk_180 0 79 (dk_at dksX1_stands_1 10 rfl rfl)
theorem dX1_stands_37 : decode cX1_stands 37 = .ok (.if_icmp .ge 41, 3) := dk_162 0 41 (dk_at dksX1_stands_1 13 rfl rfl)
theorem dX1_stands_40 : decode cX1_stands 40 = .ok (.aload_n 0, 1) := dk_42 (dk_at dksX1_stands_1 16 rfl rfl)
theorem dX1_stands_41 : decode cX1_stands 41 = .ok (.getfield 29, 3) := dk_180 0 29 (dk_at dksX1_stands_1 17 rfl rfl)
theorem dX1_stands_44 : decode cX1_stands 44 = .ok (.iload_n 2, 1) := dk_28 (dk_at dksX1_stands_1 20 rfl rfl)
theorem dX1_stands_45 : decode cX1_stands 45 = .ok (.invokevirtual 236, 3) := dk_182 0 236 (dk_at dksX1_stands_1 21 rfl rfl)
theorem dX1_stands_48 : decode cX1_stands 48 = .ok (.ifCond .eq 24, 3) := dk_153 0 24 (dk_at dksX1_stands_2 0 rfl rfl)
theorem dX1_stands_51 : decode cX1_stands 51 = .ok (.aload_n 1, 1) := dk_43 (dk_at dksX1_stands_2 3 rfl rfl)
theorem dX1_stands_52 : decode cX1_stands 52 = .ok (.bipush 7, 2) := dk_16 7 (dk_at dksX1_stands_2 4 rfl rfl)
theorem dX1_stands_54 : decode cX1_stands 54 = .ok (.aload_n 0, 1) := dk_42 (dk_at dksX1_stands_2 6 rfl rfl)
theorem dX1_stands_55 : decode cX1_stands 55 = .ok (.getfield 29, 3) := dk_180 0 29 (dk_at dksX1_stands_2 7 rfl rfl)
theorem dX1_stands_58 : decode cX1_stands 58 = .ok (.getfield 82, 3) := dk_180 0 82 (dk_at dksX1_stands_2 10 rfl rfl)
theorem dX1_stands_61 : decode cX1_stands 61 = .ok (.iload_n 2, 1) := dk_28 (dk_at dksX1_stands_2 13 rfl rfl)
theorem dX1_stands_62 : decode cX1_stands 62 = .ok (.aaload, 1) := dk_50 (dk_at dksX1_stands_2 14 rfl rfl)
theorem dX1_stands_63 : decode cX1_stands 63 = .ok (.invokevirtual 223, 3) := dk_182 0 223 (dk_at dksX1_stands_2 15 rfl rfl)
theorem dX1_stands_66 : decode cX1_stands 66 = .ok (.iadd, 1) := dk_96 (dk_at dksX1_stands_2 18 rfl rfl)
theorem dX1_stands_67 : decode cX1_stands 67 = .ok (.dup2, 1) := dk_92 (dk_at dksX1_stands_2 19 rfl rfl)
theorem dX1_stands_68 : decode cX1_stands 68 = .ok (.iaload, 1) := dk_46 (dk_at dksX1_stands_2 20 rfl rfl)
theorem dX1_stands_69 : decode cX1_stands 69 = .ok (.iconst 1, 1) := dk_4 (dk_at dksX1_stands_2 21 rfl rfl)
theorem dX1_stands_70 : decode cX1_stands 70 = .ok (.iadd, 1) := dk_96 (dk_at dksX1_stands_2 22 rfl rfl)
theorem dX1_stands_71 : decode cX1_stands 71 = .ok (.iastore, 1) := dk_79 (dk_at dksX1_stands_2 23 rfl rfl)
theorem dX1_stands_72 : decode cX1_stands 72 = .ok (.iinc 2 1, 3) := dk_132 2 1 (dk_at dksX1_stands_3 0 rfl rfl)
theorem dX1_stands_75 : decode cX1_stands 75 = .ok (.goto (-46), 3) := dk_167 255 210 (dk_at dksX1_stands_3 3 rfl rfl)
theorem dX1_stands_78 : decode cX1_stands 78 = .ok (.aload_n 1, 1) := dk_43 (dk_at dksX1_stands_3 6 rfl rfl)
theorem dX1_stands_79 : decode cX1_stands 79 = .ok (.bipush 11, 2) := dk_16 11 (dk_at dksX1_stands_3 7 rfl rfl)
theorem dX1_stands_81 : decode cX1_stands 81 = .ok (.aload_n 0, 1) := dk_42 (dk_at dksX1_stands_3 9 rfl rfl)
theorem dX1_stands_82 : decode cX1_stands 82 = .ok (.getfield 29, 3) := dk_180 0 29 (dk_at dksX1_stands_3 10 rfl rfl)
theorem dX1_stands_85 : decode cX1_stands 85 = .ok (.iconst 0, 1) := dk_3 (dk_at dksX1_stands_3 13 rfl rfl)
theorem dX1_stands_86 : decode cX1_stands 86 = .ok (.sipush 255, 3) := dk_17 0 255 (dk_at dksX1_stands_3 14 rfl rfl)
theorem dX1_stands_89 : decode cX1_stands 89 = .ok (.invokevirtual 262, 3) := dk_182 1 6 (dk_at dksX1_stands_3 17 rfl rfl)
theorem dX1_stands_92 : decode cX1_stands 92 = .ok (.invokestatic 271, 3) := dk_184 1 15 (dk_at dksX1_stands_3 20 rfl rfl)
theorem dX1_stands_95 : decode cX1_stands 95 = .ok (.iastore, 1) := dk_79 (dk_at dksX1_stands_3 23 rfl rfl)
theorem dX1_stands_96 : decode cX1_stands 96 = .ok (.iconst 0, 1) := dk_3 (dk_at dksX1_stands_4 0 rfl rfl)
theorem dX1_stands_97 : decode cX1_stands 97 = .ok (.istore_n 2, 1) := dk_61 (dk_at dksX1_stands_4 1 rfl rfl)
theorem dX1_stands_98 : decode cX1_stands 98 = .ok (.iload_n 2, 1) := dk_28 (dk_at dksX1_stands_4 2 rfl rfl)
theorem dX1_stands_99 : decode cX1_stands 99 = .ok (.aload_n 0, 1) := dk_42 (dk_at dksX1_stands_4 3 rfl rfl)
theorem dX1_stands_100 : decode cX1_stands 100 = .ok (.getfield 29, 3) := dk_180 0 29 (dk_at dksX1_stands_4 4 rfl rfl)
theorem dX1_stands_103 : decode cX1_stands 103 = .ok (.getfield 332, 3) := dk_180 1 76 (dk_at dksX1_stands_4 7 rfl rfl)
theorem dX1_stands_106 : decode cX1_stands 106 = .ok (.if_icmp .ge 40, 3) := dk_162 0 40 (dk_at dksX1_stands_4 10 rfl rfl)
theorem dX1_stands_109 : decode cX1_stands 109 = .ok (.aload_n 1, 1) := dk_43 (dk_at dksX1_stands_4 13 rfl rfl)
theorem dX1_stands_110 : decode cX1_stands 110 = .ok (.bipush 12, 2) := dk_16 12 (dk_at dksX1_stands_4 14 rfl rfl)
theorem dX1_stands_112 : decode cX1_stands 112 = .ok (.dup2, 1) := dk_92 (dk_at dksX1_stands_4 16 rfl rfl)
theorem dX1_stands_113 : decode cX1_stands 113 = .ok (.iaload, 1) := dk_46 (dk_at dksX1_stands_4 17 rfl rfl)
theorem dX1_stands_114 : decode cX1_stands 114 = .ok (.aload_n 0, 1) := dk_42 (dk_at dksX1_stands_4 18 rfl rfl)
theorem dX1_stands_115 : decode cX1_stands 115 = .ok (.getfield 29, 3) := dk_180 0 29 (dk_at dksX1_stands_4 19 rfl rfl)
theorem dX1_stands_118 : decode cX1_stands 118 = .ok (.aload_n 0, 1) := dk_42 (dk_at dksX1_stands_4 22 rfl rfl)
theorem dX1_stands_119 : decode cX1_stands 119 = .ok (.getfield 29, 3) := dk_180 0 29 (dk_at dksX1_stands_5 0 rfl rfl)
theorem dX1_stands_122 : decode cX1_stands 122 = .ok (.getfield 335, 3) := dk_180 1 79 (dk_at dksX1_stands_5 3 rfl rfl)
theorem dX1_stands_125 : decode cX1_stands 125 = .ok (.iload_n 2, 1) := dk_28 (dk_at dksX1_stands_5 6 rfl rfl)
theorem dX1_stands_126 : decode cX1_stands 126 = .ok (.aaload, 1) := dk_50 (dk_at dksX1_stands_5 7 rfl rfl)
theorem dX1_stands_127 : decode cX1_stands 127 = .ok (.invokevirtual 342, 3) := dk_182 1 86 (dk_at dksX1_stands_5 8 rfl rfl)
theorem dX1_stands_130 : decode cX1_stands 130 = .ok (.ifCond .eq 7, 3) := dk_153 0 7 (dk_at dksX1_stands_5 11 rfl rfl)
theorem dX1_stands_133 : decode cX1_stands 133 = .ok (.iconst 1, 1) := dk_4 (dk_at dksX1_stands_5 14 rfl rfl)
theorem dX1_stands_134 : decode cX1_stands 134 = .ok (.goto 4, 3) := dk_167 0 4 (dk_at dksX1_stands_5 15 rfl rfl)
theorem dX1_stands_137 : decode cX1_stands 137 = .ok (.iconst 0, 1) := dk_3 (dk_at dksX1_stands_5 18 rfl rfl)
theorem dX1_stands_138 : decode cX1_stands 138 = .ok (.iadd, 1) := dk_96 (dk_at dksX1_stands_5 19 rfl rfl)
theorem dX1_stands_139 : decode cX1_stands 139 = .ok (.iastore, 1) := dk_79 (dk_at dksX1_stands_5 20 rfl rfl)
theorem dX1_stands_140 : decode cX1_stands 140 = .ok (.iinc 2 1, 3) := dk_132 2 1 (dk_at dksX1_stands_5 21 rfl rfl)
theorem dX1_stands_143 : decode cX1_stands 143 = .ok (.goto (-45), 3) := dk_167 255 211 (dk_at dksX1_stands_6 0 rfl rfl)
theorem dX1_stands_146 : decode cX1_stands 146 = .ok (.aload_n 1, 1) := dk_43 (dk_at dksX1_stands_6 3 rfl rfl)
theorem dX1_stands_147 : decode cX1_stands 147 = .ok (.bipush 13, 2) := dk_16 13 (dk_at dksX1_stands_6 4 rfl rfl)
theorem dX1_stands_149 : decode cX1_stands 149 = .ok (.aload_n 0, 1) := dk_42 (dk_at dksX1_stands_6 6 rfl rfl)
theorem dX1_stands_150 : decode cX1_stands 150 = .ok (.iconst 4, 1) := dk_7 (dk_at dksX1_stands_6 7 rfl rfl)
theorem dX1_stands_151 : decode cX1_stands 151 = .ok (.invokevirtual 316, 3) := dk_182 1 60 (dk_at dksX1_stands_6 8 rfl rfl)
theorem dX1_stands_154 : decode cX1_stands 154 = .ok (.iastore, 1) := dk_79 (dk_at dksX1_stands_6 11 rfl rfl)
theorem dX1_stands_155 : decode cX1_stands 155 = .ok (.aload_n 1, 1) := dk_43 (dk_at dksX1_stands_6 12 rfl rfl)
theorem dX1_stands_156 : decode cX1_stands 156 = .ok (.bipush 16, 2) := dk_16 16 (dk_at dksX1_stands_6 13 rfl rfl)
theorem dX1_stands_158 : decode cX1_stands 158 = .ok (.iconst 0, 1) := dk_3 (dk_at dksX1_stands_6 15 rfl rfl)
theorem dX1_stands_159 : decode cX1_stands 159 = .ok (.iastore, 1) := dk_79 (dk_at dksX1_stands_6 16 rfl rfl)
theorem dX1_stands_160 : decode cX1_stands 160 = .ok (.iconst 0, 1) := dk_3 (dk_at dksX1_stands_6 17 rfl rfl)
theorem dX1_stands_161 : decode cX1_stands 161 = .ok (.istore_n 2, 1) := dk_61 (dk_at dksX1_stands_6 18 rfl rfl)
theorem dX1_stands_162 : decode cX1_stands 162 = .ok (.iload_n 2, 1) := dk_28 (dk_at dksX1_stands_6 19 rfl rfl)
theorem dX1_stands_163 : decode cX1_stands 163 = .ok (.bipush 16, 2) := dk_16 16 (dk_at dksX1_stands_6 20 rfl rfl)
theorem dX1_stands_165 : decode cX1_stands 165 = .ok (.if_icmp .ge 31, 3) := dk_162 0 31 (dk_at dksX1_stands_7 0 rfl rfl)
theorem dX1_stands_168 : decode cX1_stands 168 = .ok (.aload_n 0, 1) := dk_42 (dk_at dksX1_stands_7 3 rfl rfl)
theorem dX1_stands_169 : decode cX1_stands 169 = .ok (.iconst 0, 1) := dk_3 (dk_at dksX1_stands_7 4 rfl rfl)
theorem dX1_stands_170 : decode cX1_stands 170 = .ok (.iload_n 2, 1) := dk_28 (dk_at dksX1_stands_7 5 rfl rfl)
theorem dX1_stands_171 : decode cX1_stands 171 = .ok (.invokevirtual 306, 3) := dk_182 1 50 (dk_at dksX1_stands_7 6 rfl rfl)
theorem dX1_stands_174 : decode cX1_stands 174 = .ok (.aload_n 1, 1) := dk_43 (dk_at dksX1_stands_7 9 rfl rfl)
theorem dX1_stands_175 : decode cX1_stands 175 = .ok (.bipush 16, 2) := dk_16 16 (dk_at dksX1_stands_7 10 rfl rfl)
theorem dX1_stands_177 : decode cX1_stands 177 = .ok (.aload_n 1, 1) := dk_43 (dk_at dksX1_stands_7 12 rfl rfl)
theorem dX1_stands_178 : decode cX1_stands 178 = .ok (.bipush 16, 2) := dk_16 16 (dk_at dksX1_stands_7 13 rfl rfl)
theorem dX1_stands_180 : decode cX1_stands 180 = .ok (.iaload, 1) := dk_46 (dk_at dksX1_stands_7 15 rfl rfl)
theorem dX1_stands_181 : decode cX1_stands 181 = .ok (.aload_n 0, 1) := dk_42 (dk_at dksX1_stands_7 16 rfl rfl)
theorem dX1_stands_182 : decode cX1_stands 182 = .ok (.iconst 1, 1) := dk_4 (dk_at dksX1_stands_7 17 rfl rfl)
theorem dX1_stands_183 : decode cX1_stands 183 = .ok (.invokevirtual 310, 3) := dk_182 1 54 (dk_at dksX1_stands_7 18 rfl rfl)
theorem dX1_stands_186 : decode cX1_stands 186 = .ok (.invokestatic 9, 3) := dk_184 0 9 (dk_at dksX1_stands_7 21 rfl rfl)
theorem dX1_stands_189 : decode cX1_stands 189 = .ok (.iastore, 1) := dk_79 (dk_at dksX1_stands_8 0 rfl rfl)
theorem dX1_stands_190 : decode cX1_stands 190 = .ok (.iinc 2 1, 3) := dk_132 2 1 (dk_at dksX1_stands_8 1 rfl rfl)
theorem dX1_stands_193 : decode cX1_stands 193 = .ok (.goto (-31), 3) := dk_167 255 225 (dk_at dksX1_stands_8 4 rfl rfl)
theorem dX1_stands_196 : decode cX1_stands 196 = .ok (.return_, 1) := dk_177 (dk_at dksX1_stands_8 7 rfl rfl)
abbrev cX1_odds : ByteArray := prog_1_method_63_code
def yX1_odds : MethodName := ⟨RX1, "odds", "(I)I"⟩
def dkwX1_odds_5 : List UInt8 := [180, 1, 148, 104, 28, 108, 167, 0, 4, 3, 172]
abbrev dktX1_odds_5 : List UInt8 := dkwX1_odds_5 ++ []
def dkwX1_odds_4 : List UInt8 := [180, 1, 129, 185, 1, 142, 2, 0, 153, 0, 24, 17, 39, 16, 42, 180, 0, 29, 180, 1, 120, 27, 50]
abbrev dktX1_odds_4 : List UInt8 := dkwX1_odds_4 ++ dktX1_odds_5
def dkwX1_odds_3 : List UInt8 := [96, 61, 132, 3, 1, 167, 255, 196, 42, 180, 0, 29, 180, 1, 120, 27, 50, 180, 1, 138, 42, 180, 0, 29]
abbrev dktX1_odds_3 : List UInt8 := dkwX1_odds_3 ++ dktX1_odds_4
def dkwX1_odds_2 : List UInt8 := [185, 1, 142, 2, 0, 153, 0, 18, 42, 180, 0, 29, 180, 1, 120, 29, 50, 180, 1, 148, 167, 0, 4, 3]
abbrev dktX1_odds_2 : List UInt8 := dkwX1_odds_2 ++ dktX1_odds_3
def dkwX1_odds_1 : List UInt8 := [28, 42, 180, 0, 29, 180, 1, 120, 29, 50, 180, 1, 138, 42, 180, 0, 29, 180, 1, 129]
abbrev dktX1_odds_1 : List UInt8 := dkwX1_odds_1 ++ dktX1_odds_2
def dkwX1_odds_0 : List UInt8 := [42, 27, 182, 1, 132, 42, 182, 1, 135, 3, 61, 3, 62, 29, 42, 180, 0, 29, 180, 1, 117, 162, 0, 55]
abbrev dktX1_odds_0 : List UInt8 := dkwX1_odds_0 ++ dktX1_odds_1
theorem dksX1_odds_0 : cX1_odds.data.toList.drop 0 = dktX1_odds_0 := by decide +kernel
theorem dksX1_odds_1 : cX1_odds.data.toList.drop 24 = dktX1_odds_1 := dk_seg dksX1_odds_0 24 rfl rfl
theorem dksX1_odds_2 : cX1_odds.data.toList.drop 44 = dktX1_odds_2 := dk_seg dksX1_odds_1 20 rfl rfl
theorem dksX1_odds_3 : cX1_odds.data.toList.drop 68 = dktX1_odds_3 := dk_seg dksX1_odds_2 24 rfl rfl
theorem dksX1_odds_4 : cX1_odds.data.toList.drop 92 = dktX1_odds_4 := dk_seg dksX1_odds_3 24 rfl rfl
theorem dksX1_odds_5 : cX1_odds.data.toList.drop 115 = dktX1_odds_5 := dk_seg dksX1_odds_4 23 rfl rfl
theorem dX1_odds_0 : decode cX1_odds 0 = .ok (.aload_n 0, 1) := dk_42 (dk_at dksX1_odds_0 0 rfl rfl)
theorem dX1_odds_1 : decode cX1_odds 1 = .ok (.iload_n 1, 1) := dk_27 (dk_at dksX1_odds_0 1 rfl rfl)
theorem dX1_odds_2 : decode cX1_odds 2 = .ok (.invokevirtual 388, 3) := dk_182 1 132 (dk_at dksX1_odds_0 2 rfl rfl)
theorem dX1_odds_5 : decode cX1_odds 5 = .ok (.aload_n 0, 1) := dk_42 (dk_at dksX1_odds_0 5 rfl rfl)
theorem dX1_odds_6 : decode cX1_odds 6 = .ok (.invokevirtual 391, 3) := dk_182 1 135 (dk_at dksX1_odds_0 6 rfl rfl)
theorem dX1_odds_9 : decode cX1_odds 9 = .ok (.iconst 0, 1) := dk_3 (dk_at dksX1_odds_0 9 rfl rfl)
theorem dX1_odds_10 : decode cX1_odds 10 = .ok (.istore_n 2, 1) := dk_61 (dk_at dksX1_odds_0 10 rfl rfl)
theorem dX1_odds_11 : decode cX1_odds 11 = .ok (.iconst 0, 1) := dk_3 (dk_at dksX1_odds_0 11 rfl rfl)
theorem dX1_odds_12 : decode cX1_odds 12 = .ok (.istore_n 3, 1) := dk_62 (dk_at dksX1_odds_0 12 rfl rfl)
theorem dX1_odds_13 : decode cX1_odds 13 = .ok (.iload_n 3, 1) := dk_29 (dk_at dksX1_odds_0 13 rfl rfl)
theorem dX1_odds_14 : decode cX1_odds 14 = .ok (.aload_n 0, 1) := dk_42 (dk_at dksX1_odds_0 14 rfl rfl)
theorem dX1_odds_15 : decode cX1_odds 15 = .ok (.getfield 29, 3) := dk_180 0 29 (dk_at dksX1_odds_0 15 rfl rfl)
theorem dX1_odds_18 : decode cX1_odds 18 = .ok (.getfield 373, 3) := dk_180 1 117 (dk_at dksX1_odds_0 18 rfl rfl)
theorem dX1_odds_21 : decode cX1_odds 21 = .ok (.if_icmp .ge 55, 3) := dk_162 0 55 (dk_at dksX1_odds_0 21 rfl rfl)
theorem dX1_odds_24 : decode cX1_odds 24 = .ok (.iload_n 2, 1) := dk_28 (dk_at dksX1_odds_1 0 rfl rfl)
theorem dX1_odds_25 : decode cX1_odds 25 = .ok (.aload_n 0, 1) := dk_42 (dk_at dksX1_odds_1 1 rfl rfl)
theorem dX1_odds_26 : decode cX1_odds 26 = .ok (.getfield 29, 3) := dk_180 0 29 (dk_at dksX1_odds_1 2 rfl rfl)
theorem dX1_odds_29 : decode cX1_odds 29 = .ok (.getfield 376, 3) := dk_180 1 120 (dk_at dksX1_odds_1 5 rfl rfl)
theorem dX1_odds_32 : decode cX1_odds 32 = .ok (.iload_n 3, 1) := dk_29 (dk_at dksX1_odds_1 8 rfl rfl)
theorem dX1_odds_33 : decode cX1_odds 33 = .ok (.aaload, 1) := dk_50 (dk_at dksX1_odds_1 9 rfl rfl)
theorem dX1_odds_34 : decode cX1_odds 34 = .ok (.getfield 394, 3) := dk_180 1 138 (dk_at dksX1_odds_1 10 rfl rfl)
theorem dX1_odds_37 : decode cX1_odds 37 = .ok (.aload_n 0, 1) := dk_42 (dk_at dksX1_odds_1 13 rfl rfl)
theorem dX1_odds_38 : decode cX1_odds 38 = .ok (.getfield 29, 3) := dk_180 0 29 (dk_at dksX1_odds_1 14 rfl rfl)
theorem dX1_odds_41 : decode cX1_odds 41 = .ok (.getfield 385, 3) := dk_180 1 129 (dk_at dksX1_odds_1 17 rfl rfl)
theorem dX1_odds_44 : decode cX1_odds 44 = .ok (.invokeinterface 398 2, 5) := by decide +kernel
theorem dX1_odds_49 : decode cX1_odds 49 = .ok (.ifCond .eq 18, 3) := dk_153 0 18 (dk_at dksX1_odds_2 5 rfl rfl)
theorem dX1_odds_52 : decode cX1_odds 52 = .ok (.aload_n 0, 1) := dk_42 (dk_at dksX1_odds_2 8 rfl rfl)
theorem dX1_odds_53 : decode cX1_odds 53 = .ok (.getfield 29, 3) := dk_180 0 29 (dk_at dksX1_odds_2 9 rfl rfl)
theorem dX1_odds_56 : decode cX1_odds 56 = .ok (.getfield 376, 3) := dk_180 1 120 (dk_at dksX1_odds_2 12 rfl rfl)
theorem dX1_odds_59 : decode cX1_odds 59 = .ok (.iload_n 3, 1) := dk_29 (dk_at dksX1_odds_2 15 rfl rfl)
theorem dX1_odds_60 : decode cX1_odds 60 = .ok (.aaload, 1) := dk_50 (dk_at dksX1_odds_2 16 rfl rfl)
theorem dX1_odds_61 : decode cX1_odds 61 = .ok (.getfield 404, 3) := dk_180 1 148 (dk_at dksX1_odds_2 17 rfl rfl)
theorem dX1_odds_64 : decode cX1_odds 64 = .ok (.goto 4, 3) := dk_167 0 4 (dk_at dksX1_odds_2 20 rfl rfl)
theorem dX1_odds_67 : decode cX1_odds 67 = .ok (.iconst 0, 1) := dk_3 (dk_at dksX1_odds_2 23 rfl rfl)
theorem dX1_odds_68 : decode cX1_odds 68 = .ok (.iadd, 1) := dk_96 (dk_at dksX1_odds_3 0 rfl rfl)
theorem dX1_odds_69 : decode cX1_odds 69 = .ok (.istore_n 2, 1) := dk_61 (dk_at dksX1_odds_3 1 rfl rfl)
theorem dX1_odds_70 : decode cX1_odds 70 = .ok (.iinc 3 1, 3) := dk_132 3 1 (dk_at dksX1_odds_3 2 rfl rfl)
theorem dX1_odds_73 : decode cX1_odds 73 = .ok (.goto (-60), 3) := dk_167 255 196 (dk_at dksX1_odds_3 5 rfl rfl)
theorem dX1_odds_76 : decode cX1_odds 76 = .ok (.aload_n 0, 1) := dk_42 (dk_at dksX1_odds_3 8 rfl rfl)
theorem dX1_odds_77 : decode cX1_odds 77 = .ok (.getfield 29, 3) := dk_180 0 29 (dk_at dksX1_odds_3 9 rfl rfl)
theorem dX1_odds_80 : decode cX1_odds 80 = .ok (.getfield 376, 3) := dk_180 1 120 (dk_at dksX1_odds_3 12 rfl rfl)
theorem dX1_odds_83 : decode cX1_odds 83 = .ok (.iload_n 1, 1) := dk_27 (dk_at dksX1_odds_3 15 rfl rfl)
theorem dX1_odds_84 : decode cX1_odds 84 = .ok (.aaload, 1) := dk_50 (dk_at dksX1_odds_3 16 rfl rfl)
theorem dX1_odds_85 : decode cX1_odds 85 = .ok (.getfield 394, 3) := dk_180 1 138 (dk_at dksX1_odds_3 17 rfl rfl)
theorem dX1_odds_88 : decode cX1_odds 88 = .ok (.aload_n 0, 1) := dk_42 (dk_at dksX1_odds_3 20 rfl rfl)
theorem dX1_odds_89 : decode cX1_odds 89 = .ok (.getfield 29, 3) := dk_180 0 29 (dk_at dksX1_odds_3 21 rfl rfl)
theorem dX1_odds_92 : decode cX1_odds 92 = .ok (.getfield 385, 3) := dk_180 1 129 (dk_at dksX1_odds_4 0 rfl rfl)
theorem dX1_odds_95 : decode cX1_odds 95 = .ok (.invokeinterface 398 2, 5) := by decide +kernel
theorem dX1_odds_100 : decode cX1_odds 100 = .ok (.ifCond .eq 24, 3) := dk_153 0 24 (dk_at dksX1_odds_4 8 rfl rfl)
theorem dX1_odds_103 : decode cX1_odds 103 = .ok (.sipush 10000, 3) := dk_17 39 16 (dk_at dksX1_odds_4 11 rfl rfl)
theorem dX1_odds_106 : decode cX1_odds 106 = .ok (.aload_n 0, 1) := dk_42 (dk_at dksX1_odds_4 14 rfl rfl)
theorem dX1_odds_107 : decode cX1_odds 107 = .ok (.getfield 29, 3) := dk_180 0 29 (dk_at dksX1_odds_4 15 rfl rfl)
theorem dX1_odds_110 : decode cX1_odds 110 = .ok (.getfield 376, 3) := dk_180 1 120 (dk_at dksX1_odds_4 18 rfl rfl)
theorem dX1_odds_113 : decode cX1_odds 113 = .ok (.iload_n 1, 1) := dk_27 (dk_at dksX1_odds_4 21 rfl rfl)
theorem dX1_odds_114 : decode cX1_odds 114 = .ok (.aaload, 1) := dk_50 (dk_at dksX1_odds_4 22 rfl rfl)
theorem dX1_odds_115 : decode cX1_odds 115 = .ok (.getfield 404, 3) := dk_180 1 148 (dk_at dksX1_odds_5 0 rfl rfl)
theorem dX1_odds_118 : decode cX1_odds 118 = .ok (.imul, 1) := dk_104 (dk_at dksX1_odds_5 3 rfl rfl)
theorem dX1_odds_119 : decode cX1_odds 119 = .ok (.iload_n 2, 1) := dk_28 (dk_at dksX1_odds_5 4 rfl rfl)
theorem dX1_odds_120 : decode cX1_odds 120 = .ok (.idiv, 1) := dk_108 (dk_at dksX1_odds_5 5 rfl rfl)
theorem dX1_odds_121 : decode cX1_odds 121 = .ok (.goto 4, 3) := dk_167 0 4 (dk_at dksX1_odds_5 6 rfl rfl)
theorem dX1_odds_124 : decode cX1_odds 124 = .ok (.iconst 0, 1) := dk_3 (dk_at dksX1_odds_5 9 rfl rfl)
theorem dX1_odds_125 : decode cX1_odds 125 = .ok (.ireturn, 1) := dk_172 (dk_at dksX1_odds_5 10 rfl rfl)
