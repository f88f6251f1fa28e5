set_option maxRecDepth 100000
abbrev cX6_thrown : ByteArray := prog_30_method_1_code
def yX6_thrown : MethodName := ⟨RX6, "thrown", "()I"⟩
theorem dX6_thrown_0 : decode cX6_thrown 0 = .ok (.aload_n 0, 1) := by decide +kernel
theorem dX6_thrown_1 : decode cX6_thrown 1 = .ok (.getfield 3, 3) := by decide +kernel
theorem dX6_thrown_4 : decode cX6_thrown 4 = .ok (.ireturn, 1) := by decide +kernel
abbrev cX6_init : ByteArray := prog_30_method_4_code
def yX6_init : MethodName := ⟨RX6, "<init>", "()V"⟩
def dkwX6_init_5 : List UInt8 := [16, 8, 17, 7, 84, 79, 42, 180, 0, 13, 16, 10, 16, 9, 79, 177]
abbrev dktX6_init_5 : List UInt8 := dkwX6_init_5 ++ []
def dkwX6_init_4 : List UInt8 := [181, 0, 45, 42, 16, 8, 188, 10, 181, 0, 48, 42, 17, 1, 0, 188, 4, 181, 0, 51, 42, 180, 0, 13]
abbrev dktX6_init_4 : List UInt8 := dkwX6_init_4 ++ dktX6_init_5
def dkwX6_init_3 : List UInt8 := [17, 8, 0, 188, 10, 181, 0, 39, 42, 17, 1, 0, 188, 10, 181, 0, 42, 42, 16, 16, 188, 10]
abbrev dktX6_init_3 : List UInt8 := dkwX6_init_3 ++ dktX6_init_4
def dkwX6_init_2 : List UInt8 := [188, 10, 181, 0, 30, 42, 17, 1, 144, 188, 10, 181, 0, 33, 42, 16, 8, 188, 10, 181, 0, 36, 42]
abbrev dktX6_init_2 : List UInt8 := dkwX6_init_2 ++ dktX6_init_3
def dkwX6_init_1 : List UInt8 := [17, 1, 144, 188, 8, 181, 0, 20, 42, 2, 181, 0, 24, 42, 8, 188, 10, 181, 0, 27, 42, 16, 7]
abbrev dktX6_init_1 : List UInt8 := dkwX6_init_1 ++ dktX6_init_2
def dkwX6_init_0 : List UInt8 := [42, 183, 0, 7, 42, 17, 37, 4, 188, 10, 181, 0, 13, 42, 17, 33, 197, 188, 10, 181, 0, 17, 42]
abbrev dktX6_init_0 : List UInt8 := dkwX6_init_0 ++ dktX6_init_1
theorem dksX6_init_0 : cX6_init.data.toList.drop 0 = dktX6_init_0 := by decide +kernel
theorem dksX6_init_1 : cX6_init.data.toList.drop 23 = dktX6_init_1 := dk_seg dksX6_init_0 23 rfl rfl
theorem dksX6_init_2 : cX6_init.data.toList.drop 46 = dktX6_init_2 := dk_seg dksX6_init_1 23 rfl rfl
theorem dksX6_init_3 : cX6_init.data.toList.drop 69 = dktX6_init_3 := dk_seg dksX6_init_2 23 rfl rfl
theorem dksX6_init_4 : cX6_init.data.toList.drop 91 = dktX6_init_4 := dk_seg dksX6_init_3 22 rfl rfl
theorem dksX6_init_5 : cX6_init.data.toList.drop 115 = dktX6_init_5 := dk_seg dksX6_init_4 24 rfl rfl
theorem dX6_init_0 : decode cX6_init 0 = .ok (.aload_n 0, 1) := dk_42 (dk_at dksX6_init_0 0 rfl rfl)
theorem dX6_init_1 : decode cX6_init 1 = .ok (.invokespecial 7, 3) := dk_183 0 7 (dk_at dksX6_init_0 1 rfl rfl)
theorem dX6_init_4 : decode cX6_init 4 = .ok (.aload_n 0, 1) := dk_42 (dk_at dksX6_init_0 4 rfl rfl)
theorem dX6_init_5 : decode cX6_init 5 = .ok (.sipush 9476, 3) := dk_17 37 4 (dk_at dksX6_init_0 5 rfl rfl)
theorem dX6_init_8 : decode cX6_init 8 = .ok (.newarray .int, 2) := dk_188_10 (dk_at dksX6_init_0 8 rfl rfl)
theorem dX6_init_10 : decode cX6_init 10 = .ok (.putfield 13, 3) := dk_181 0 13 (dk_at dksX6_init_0 10 rfl rfl)
theorem dX6_init_13 : decode cX6_init 13 = .ok (.aload_n 0, 1) := dk_42 (dk_at dksX6_init_0 13 rfl rfl)
theorem dX6_init_14 : decode cX6_init 14 = .ok (.sipush 8645, 3) := dk_17 33 197 (dk_at dksX6_init_0 14 rfl rfl)
theorem dX6_init_17 : decode cX6_init 17 = .ok (.newarray .int, 2) := dk_188_10 (dk_at dksX6_init_0 17 rfl rfl)
theorem dX6_init_19 : decode cX6_init 19 = .ok (.putfield 17, 3) := dk_181 0 17 (dk_at dksX6_init_0 19 rfl rfl)
theorem dX6_init_22 : decode cX6_init 22 = .ok (.aload_n 0, 1) := dk_42 (dk_at dksX6_init_0 22 rfl rfl)
theorem dX6_init_23 : decode cX6_init 23 = .ok (.sipush 400, 3) := dk_17 1 144 (dk_at dksX6_init_1 0 rfl rfl)
theorem dX6_init_26 : decode cX6_init 26 = .ok (.newarray .byte, 2) := dk_188_8 (dk_at dksX6_init_1 3 rfl rfl)
theorem dX6_init_28 : decode cX6_init 28 = .ok (.putfield 20, 3) := dk_181 0 20 (dk_at dksX6_init_1 5 rfl rfl)
theorem dX6_init_31 : decode cX6_init 31 = .ok (.aload_n 0, 1) := dk_42 (dk_at dksX6_init_1 8 rfl rfl)
theorem dX6_init_32 : decode cX6_init 32 = .ok (.iconst (-1), 1) := dk_2 (dk_at dksX6_init_1 9 rfl rfl)
theorem dX6_init_33 : decode cX6_init 33 = .ok (.putfield 24, 3) := dk_181 0 24 (dk_at dksX6_init_1 10 rfl rfl)
theorem dX6_init_36 : decode cX6_init 36 = .ok (.aload_n 0, 1) := dk_42 (dk_at dksX6_init_1 13 rfl rfl)
theorem dX6_init_37 : decode cX6_init 37 = .ok (.iconst 5, 1) := dk_8 (dk_at dksX6_init_1 14 rfl rfl)
theorem dX6_init_38 : decode cX6_init 38 = .ok (.newarray .int, 2) := dk_188_10 (dk_at dksX6_init_1 15 rfl rfl)
theorem dX6_init_40 : decode cX6_init 40 = .ok (.putfield 27, 3) := dk_181 0 27 (dk_at dksX6_init_1 17 rfl rfl)
theorem dX6_init_43 : decode cX6_init 43 = .ok (.aload_n 0, 1) := dk_42 (dk_at dksX6_init_1 20 rfl rfl)
theorem dX6_init_44 : decode cX6_init 44 = .ok (.bipush 7, 2) := dk_16 7 (dk_at dksX6_init_1 21 rfl rfl)
theorem dX6_init_46 : decode cX6_init 46 = .ok (.newarray .int, 2) := dk_188_10 (dk_at dksX6_init_2 0 rfl rfl)
theorem dX6_init_48 : decode cX6_init 48 = .ok (.putfield 30, 3) := dk_181 0 30 (dk_at dksX6_init_2 2 rfl rfl)
theorem dX6_init_51 : decode cX6_init 51 = .ok (.aload_n 0, 1) := dk_42 (dk_at dksX6_init_2 5 rfl rfl)
theorem dX6_init_52 : decode cX6_init 52 = .ok (.sipush 400, 3) := dk_17 1 144 (dk_at dksX6_init_2 6 rfl rfl)
theorem dX6_init_55 : decode cX6_init 55 = .ok (.newarray .int, 2) := dk_188_10 (dk_at dksX6_init_2 9 rfl rfl)
theorem dX6_init_57 : decode cX6_init 57 = .ok (.putfield 33, 3) := dk_181 0 33 (dk_at dksX6_init_2 11 rfl rfl)
theorem dX6_init_60 : decode cX6_init 60 = .ok (.aload_n 0, 1) := dk_42 (dk_at dksX6_init_2 14 rfl rfl)
theorem dX6_init_61 : decode cX6_init 61 = .ok (.bipush 8, 2) := dk_16 8 (dk_at dksX6_init_2 15 rfl rfl)
theorem dX6_init_63 : decode cX6_init 63 = .ok (.newarray .int, 2) := dk_188_10 (dk_at dksX6_init_2 17 rfl rfl)
theorem dX6_init_65 : decode cX6_init 65 = .ok (.putfield 36, 3) := dk_181 0 36 (dk_at dksX6_init_2 19 rfl rfl)
theorem dX6_init_68 : decode cX6_init 68 = .ok (.aload_n 0, 1) := dk_42 (dk_at dksX6_init_2 22 rfl rfl)
theorem dX6_init_69 : decode cX6_init 69 = .ok (.sipush 2048, 3) := dk_17 8 0 (dk_at dksX6_init_3 0 rfl rfl)
theorem dX6_init_72 : decode cX6_init 72 = .ok (.newarray .int, 2) := dk_188_10 (dk_at dksX6_init_3 3 rfl rfl)
theorem dX6_init_74 : decode cX6_init 74 = .ok (.putfield 39, 3) := dk_181 0 39 (dk_at dksX6_init_3 5 rfl rfl)
theorem dX6_init_77 : decode cX6_init 77 = .ok (.aload_n 0, 1) := dk_42 (dk_at dksX6_init_3 8 rfl rfl)
theorem dX6_init_78 : decode cX6_init 78 = .ok (.sipush 256, 3) := dk_17 1 0 (dk_at dksX6_init_3 9 rfl rfl)
theorem dX6_init_81 : decode cX6_init 81 = .ok (.newarray .int, 2) := dk_188_10 (dk_at dksX6_init_3 12 rfl rfl)
theorem dX6_init_83 : decode cX6_init 83 = .ok (.putfield 42, 3) := dk_181 0 42 (dk_at dksX6_init_3 14 rfl rfl)
theorem dX6_init_86 : decode cX6_init 86 = .ok (.aload_n 0, 1) := dk_42 (dk_at dksX6_init_3 17 rfl rfl)
theorem dX6_init_87 : decode cX6_init 87 = .ok (.bipush 16, 2) := dk_16 16 (dk_at dksX6_init_3 18 rfl rfl)
theorem dX6_init_89 : decode cX6_init 89 = .ok (.newarray .int, 2) := dk_188_10 (dk_at dksX6_init_3 20 rfl rfl)
theorem dX6_init_91 : decode cX6_init 91 = .ok (.putfield 45, 3) := dk_181 0 45 (dk_at dksX6_init_4 0 rfl rfl)
theorem dX6_init_94 : decode cX6_init 94 = .ok (.aload_n 0, 1) := dk_42 (dk_at dksX6_init_4 3 rfl rfl)
theorem dX6_init_95 : decode cX6_init 95 = .ok (.bipush 8, 2) := dk_16 8 (dk_at dksX6_init_4 4 rfl rfl)
theorem dX6_init_97 : decode cX6_init 97 = .ok (.newarray .int, 2) := dk_188_10 (dk_at dksX6_init_4 6 rfl rfl)
theorem dX6_init_99 : decode cX6_init 99 = .ok (.putfield 48, 3) := dk_181 0 48 (dk_at dksX6_init_4 8 rfl rfl)
theorem dX6_init_102 : decode cX6_init 102 = .ok (.aload_n 0, 1) := dk_42 (dk_at dksX6_init_4 11 rfl rfl)
theorem dX6_init_103 : decode cX6_init 103 = .ok (.sipush 256, 3) := dk_17 1 0 (dk_at dksX6_init_4 12 rfl rfl)
theorem dX6_init_106 : decode cX6_init 106 = .ok (.newarray .boolean, 2) := dk_188_4 (dk_at dksX6_init_4 15 rfl rfl)
theorem dX6_init_108 : decode cX6_init 108 = .ok (.putfield 51, 3) := dk_181 0 51 (dk_at dksX6_init_4 17 rfl rfl)
theorem dX6_init_111 : decode cX6_init 111 = .ok (.aload_n 0, 1) := dk_42 (dk_at dksX6_init_4 20 rfl rfl)
theorem dX6_init_112 : decode cX6_init 112 = .ok (.getfield 13, 3) := dk_180 0 13 (dk_at dksX6_init_4 21 rfl rfl)
theorem dX6_init_115 : decode cX6_init 115 = .ok (.bipush 8, 2) := dk_16 8 (dk_at dksX6_init_5 0 rfl rfl)
theorem dX6_init_117 : decode cX6_init 117 = .ok (.sipush 1876, 3) := dk_17 7 84 (dk_at dksX6_init_5 2 rfl rfl)
theorem dX6_init_120 : decode cX6_init 120 = .ok (.iastore, 1) := dk_79 (dk_at dksX6_init_5 5 rfl rfl)
theorem dX6_init_121 : decode cX6_init 121 = .ok (.aload_n 0, 1) := dk_42 (dk_at dksX6_init_5 6 rfl rfl)
theorem dX6_init_122 : decode cX6_init 122 = .ok (.getfield 13, 3) := dk_180 0 13 (dk_at dksX6_init_5 7 rfl rfl)
theorem dX6_init_125 : decode cX6_init 125 = .ok (.bipush 10, 2) := dk_16 10 (dk_at dksX6_init_5 10 rfl rfl)
theorem dX6_init_127 : decode cX6_init 127 = .ok (.bipush 9, 2) := dk_16 9 (dk_at dksX6_init_5 12 rfl rfl)
theorem dX6_init_129 : decode cX6_init 129 = .ok (.iastore, 1) := dk_79 (dk_at dksX6_init_5 14 rfl rfl)
theorem dX6_init_130 : decode cX6_init 130 = .ok (.return_, 1) := dk_177 (dk_at dksX6_init_5 15 rfl rfl)
abbrev cX6_image : ByteArray := prog_30_method_5_code
def yX6_image : MethodName := ⟨RX6, "image", "()V"⟩
def dkwX6_image_1 : List UInt8 := [46, 79, 132, 1, 1, 167, 255, 234, 42, 4, 181, 0, 55, 177]
abbrev dktX6_image_1 : List UInt8 := dkwX6_image_1 ++ []
def dkwX6_image_0 : List UInt8 := [42, 3, 181, 0, 3, 3, 60, 27, 17, 33, 197, 162, 0, 21, 42, 180, 0, 17, 27, 42, 180, 0, 13, 27]
abbrev dktX6_image_0 : List UInt8 := dkwX6_image_0 ++ dktX6_image_1
theorem dksX6_image_0 : cX6_image.data.toList.drop 0 = dktX6_image_0 := by decide +kernel
theorem dksX6_image_1 : cX6_image.data.toList.drop 24 = dktX6_image_1 := dk_seg dksX6_image_0 24 rfl rfl
theorem dX6_image_0 : decode cX6_image 0 = .ok (.aload_n 0, 1) := dk_42 (dk_at dksX6_image_0 0 rfl rfl)
theorem dX6_image_1 : decode cX6_image 1 = .ok (.iconst 0, 1) := dk_3 (dk_at dksX6_image_0 1 rfl rfl)
theorem dX6_image_2 : decode cX6_image 2 = .ok (.putfield 3, 3) := dk_181 0 3 (dk_at dksX6_image_0 2 rfl rfl)
theorem dX6_image_5 : decode cX6_image 5 = .ok (.iconst 0, 1) := dk_3 (dk_at dksX6_image_0 5 rfl rfl)
theorem dX6_image_6 : decode cX6_image 6 = .ok (.istore_n 1, 1) := dk_60 (dk_at dksX6_image_0 6 rfl rfl)
theorem dX6_image_7 : decode cX6_image 7 = .ok (.iload_n 1, 1) := dk_27 (dk_at dksX6_image_0 7 rfl rfl)
theorem dX6_image_8 : decode cX6_image 8 = .ok (.sipush 8645, 3) := dk_17 33 197 (dk_at dksX6_image_0 8 rfl rfl)
theorem dX6_image_11 : decode cX6_image 11 = .ok (.if_icmp .ge 21, 3) := dk_162 0 21 (dk_at dksX6_image_0 11 rfl rfl)
theorem dX6_image_14 : decode cX6_image 14 = .ok (.aload_n 0, 1) := dk_42 (dk_at dksX6_image_0 14 rfl rfl)
theorem dX6_image_15 : decode cX6_image 15 = .ok (.getfield 17, 3) := dk_180 0 17 (dk_at dksX6_image_0 15 rfl rfl)
theorem dX6_image_18 : decode cX6_image 18 = .ok (.iload_n 1, 1) := dk_27 (dk_at dksX6_image_0 18 rfl rfl)
theorem dX6_image_19 : decode cX6_image 19 = .ok (.aload_n 0, 1) := dk_42 (dk_at dksX6_image_0 19 rfl rfl)
theorem dX6_image_20 : decode cX6_image 20 = .ok (.getfield 13, 3) := dk_180 0 13 (dk_at dksX6_image_0 20 rfl rfl)
theorem dX6_image_23 : decode cX6_image 23 = .ok (.iload_n 1, 1) := dk_27 (dk_at dksX6_image_0 23 rfl rfl)
theorem dX6_image_24 : decode cX6_image 24 = .ok (.iaload, 1) := dk_46 (dk_at dksX6_image_1 0 rfl rfl)
theorem dX6_image_25 : decode cX6_image 25 = .ok (.iastore, 1) := dk_79 (dk_at dksX6_image_1 1 rfl rfl)
theorem dX6_image_26 : decode cX6_image 26 = .ok (.iinc 1 1, 3) := dk_132 1 1 (dk_at dksX6_image_1 2 rfl rfl)
theorem dX6_image_29 : decode cX6_image 29 = .ok (.goto (-22), 3) := dk_167 255 234 (dk_at dksX6_image_1 5 rfl rfl)
theorem dX6_image_32 : decode cX6_image 32 = .ok (.aload_n 0, 1) := dk_42 (dk_at dksX6_image_1 8 rfl rfl)
theorem dX6_image_33 : decode cX6_image 33 = .ok (.iconst 1, 1) := dk_4 (dk_at dksX6_image_1 9 rfl rfl)
theorem dX6_image_34 : decode cX6_image 34 = .ok (.putfield 55, 3) := dk_181 0 55 (dk_at dksX6_image_1 10 rfl rfl)
theorem dX6_image_37 : decode cX6_image 37 = .ok (.return_, 1) := dk_177 (dk_at dksX6_image_1 13 rfl rfl)
abbrev cX6_back : ByteArray := prog_30_method_6_code
def yX6_back : MethodName := ⟨RX6, "back", "()Z"⟩
def dkwX6_back_1 : List UInt8 := [180, 0, 13, 27, 42, 180, 0, 17, 27, 46, 79, 132, 1, 1, 167, 255, 234, 4, 172]
abbrev dktX6_back_1 : List UInt8 := dkwX6_back_1 ++ []
def dkwX6_back_0 : List UInt8 := [42, 3, 181, 0, 3, 42, 180, 0, 55, 154, 0, 5, 3, 172, 3, 60, 27, 17, 33, 197, 162, 0, 21, 42]
abbrev dktX6_back_0 : List UInt8 := dkwX6_back_0 ++ dktX6_back_1
theorem dksX6_back_0 : cX6_back.data.toList.drop 0 = dktX6_back_0 := by decide +kernel
theorem dksX6_back_1 : cX6_back.data.toList.drop 24 = dktX6_back_1 := dk_seg dksX6_back_0 24 rfl rfl
theorem dX6_back_0 : decode cX6_back 0 = .ok (.aload_n 0, 1) := dk_42 (dk_at dksX6_back_0 0 rfl rfl)
theorem dX6_back_1 : decode cX6_back 1 = .ok (.iconst 0, 1) := dk_3 (dk_at dksX6_back_0 1 rfl rfl)
theorem dX6_back_2 : decode cX6_back 2 = .ok (.putfield 3, 3) := dk_181 0 3 (dk_at dksX6_back_0 2 rfl rfl)
theorem dX6_back_5 : decode cX6_back 5 = .ok (.aload_n 0, 1) := dk_42 (dk_at dksX6_back_0 5 rfl rfl)
theorem dX6_back_6 : decode cX6_back 6 = .ok (.getfield 55, 3) := dk_180 0 55 (dk_at dksX6_back_0 6 rfl rfl)
theorem dX6_back_9 : decode cX6_back 9 = .ok (.ifCond .ne 5, 3) := dk_154 0 5 (dk_at dksX6_back_0 9 rfl rfl)
theorem dX6_back_12 : decode cX6_back 12 = .ok (.iconst 0, 1) := dk_3 (dk_at dksX6_back_0 12 rfl rfl)
theorem dX6_back_13 : decode cX6_back 13 = .ok (.ireturn, 1) := dk_172 (dk_at dksX6_back_0 13 rfl rfl)
theorem dX6_back_14 : decode cX6_back 14 = .ok (.iconst 0, 1) := dk_3 (dk_at dksX6_back_0 14 rfl rfl)
theorem dX6_back_15 : decode cX6_back 15 = .ok (.istore_n 1, 1) := dk_60 (dk_at dksX6_back_0 15 rfl rfl)
theorem dX6_back_16 : decode cX6_back 16 = .ok (.iload_n 1, 1) := dk_27 (dk_at dksX6_back_0 16 rfl rfl)
theorem dX6_back_17 : decode cX6_back 17 = .ok (.sipush 8645, 3) := dk_17 33 197 (dk_at dksX6_back_0 17 rfl rfl)
theorem dX6_back_20 : decode cX6_back 20 = .ok (.if_icmp .ge 21, 3) := dk_162 0 21 (dk_at dksX6_back_0 20 rfl rfl)
theorem dX6_back_23 : decode cX6_back 23 = .ok (.aload_n 0, 1) := dk_42 (dk_at dksX6_back_0 23 rfl rfl)
theorem dX6_back_24 : decode cX6_back 24 = .ok (.getfield 13, 3) := dk_180 0 13 (dk_at dksX6_back_1 0 rfl rfl)
theorem dX6_back_27 : decode cX6_back 27 = .ok (.iload_n 1, 1) := dk_27 (dk_at dksX6_back_1 3 rfl rfl)
theorem dX6_back_28 : decode cX6_back 28 = .ok (.aload_n 0, 1) := dk_42 (dk_at dksX6_back_1 4 rfl rfl)
theorem dX6_back_29 : decode cX6_back 29 = .ok (.getfield 17, 3) := dk_180 0 17 (dk_at dksX6_back_1 5 rfl rfl)
theorem dX6_back_32 : decode cX6_back 32 = .ok (.iload_n 1, 1) := dk_27 (dk_at dksX6_back_1 8 rfl rfl)
theorem dX6_back_33 : decode cX6_back 33 = .ok (.iaload, 1) := dk_46 (dk_at dksX6_back_1 9 rfl rfl)
theorem dX6_back_34 : decode cX6_back 34 = .ok (.iastore, 1) := dk_79 (dk_at dksX6_back_1 10 rfl rfl)
theorem dX6_back_35 : decode cX6_back 35 = .ok (.iinc 1 1, 3) := dk_132 1 1 (dk_at dksX6_back_1 11 rfl rfl)
theorem dX6_back_38 : decode cX6_back 38 = .ok (.goto (-22), 3) := dk_167 255 234 (dk_at dksX6_back_1 14 rfl rfl)
theorem dX6_back_41 : decode cX6_back 41 = .ok (.iconst 1, 1) := dk_4 (dk_at dksX6_back_1 17 rfl rfl)
theorem dX6_back_42 : decode cX6_back 42 = .ok (.ireturn, 1) := dk_172 (dk_at dksX6_back_1 18 rfl rfl)
abbrev cX6_ground : ByteArray := prog_30_method_12_code
def yX6_ground : MethodName := ⟨RX6, "ground", "(III)V"⟩
def dkwX6_ground_3 : List UInt8 := [184, 0, 84, 153, 0, 14, 42, 180, 0, 13, 16, 13, 21, 4, 96, 29, 79, 132, 4, 1, 167, 255, 224, 177]
abbrev dktX6_ground_3 : List UInt8 := dkwX6_ground_3 ++ []
def dkwX6_ground_2 : List UInt8 := [5, 182, 0, 80, 153, 0, 4, 177, 3, 54, 4, 21, 4, 17, 1, 0, 162, 0, 30, 21, 4, 27, 28]
abbrev dktX6_ground_2 : List UInt8 := dkwX6_ground_2 ++ dktX6_ground_3
def dkwX6_ground_1 : List UInt8 := [3, 4, 182, 0, 80, 154, 0, 26, 42, 29, 3, 16, 9, 184, 0, 59, 154, 0, 7, 4, 167, 0, 4, 3]
abbrev dktX6_ground_1 : List UInt8 := dkwX6_ground_1 ++ dktX6_ground_2
def dkwX6_ground_0 : List UInt8 := [42, 3, 181, 0, 3, 42, 27, 184, 0, 76, 154, 0, 10, 28, 184, 0, 76, 153, 0, 7, 4, 167, 0, 4]
abbrev dktX6_ground_0 : List UInt8 := dkwX6_ground_0 ++ dktX6_ground_1
theorem dksX6_ground_0 : cX6_ground.data.toList.drop 0 = dktX6_ground_0 := by decide +kernel
theorem dksX6_ground_1 : cX6_ground.data.toList.drop 24 = dktX6_ground_1 := dk_seg dksX6_ground_0 24 rfl rfl
theorem dksX6_ground_2 : cX6_ground.data.toList.drop 48 = dktX6_ground_2 := dk_seg dksX6_ground_1 24 rfl rfl
theorem dksX6_ground_3 : cX6_ground.data.toList.drop 71 = dktX6_ground_3 := dk_seg dksX6_ground_2 23 rfl rfl
theorem dX6_ground_0 : decode cX6_ground 0 = .ok (.aload_n 0, 1) := dk_42 (dk_at dksX6_ground_0 0 rfl rfl)
theorem dX6_ground_1 : decode cX6_ground 1 = .ok (.iconst 0, 1) := dk_3 (dk_at dksX6_ground_0 1 rfl rfl)
theorem dX6_ground_2 : decode cX6_ground 2 = .ok (.putfield 3, 3) := dk_181 0 3 (dk_at dksX6_ground_0 2 rfl rfl)
theorem dX6_ground_5 : decode cX6_ground 5 = .ok (.aload_n 0, 1) := dk_42 (dk_at dksX6_ground_0 5 rfl rfl)
theorem dX6_ground_6 : decode cX6_ground 6 = .ok (.iload_n 1, 1) := dk_27 (dk_at dksX6_ground_0 6 rfl rfl)
theorem dX6_ground_7 : decode cX6_ground 7 = .ok (.invokestatic 76, 3) := dk_184 0 76 (dk_at dksX6_ground_0 7 rfl rfl)
theorem dX6_ground_10 : decode cX6_ground 10 = .ok (.ifCond .ne 10, 3) := dk_154 0 10 (dk_at dksX6_ground_0 10 rfl rfl)
theorem dX6_ground_13 : decode cX6_ground 13 = .ok (.iload_n 2, 1) := dk_28 (dk_at dksX6_ground_0 13 rfl rfl)
theorem dX6_ground_14 : decode cX6_ground 14 = .ok (.invokestatic 76, 3) := dk_184 0 76 (dk_at dksX6_ground_0 14 rfl rfl)
theorem dX6_ground_17 : decode cX6_ground 17 = .ok (.ifCond .eq 7, 3) := dk_153 0 7 (dk_at dksX6_ground_0 17 rfl rfl)
theorem dX6_ground_20 : decode cX6_ground 20 = .ok (.iconst 1, 1) := dk_4 (dk_at dksX6_ground_0 20 rfl rfl)
theorem dX6_ground_21 : decode cX6_ground 21 = .ok (.goto 4, 3) := dk_167 0 4 (dk_at dksX6_ground_0 21 rfl rfl)
theorem dX6_ground_24 : decode cX6_ground 24 = .ok (.iconst 0, 1) := dk_3 (dk_at dksX6_ground_1 0 rfl rfl)
theorem dX6_ground_25 : decode cX6_ground 25 = .ok (.iconst 1, 1) := dk_4 (dk_at dksX6_ground_1 1 rfl rfl)
theorem dX6_ground_26 : decode cX6_ground 26 = .ok (.invokevirtual 80, 3) := dk_182 0 80 (dk_at dksX6_ground_1 2 rfl rfl)
theorem dX6_ground_29 : decode cX6_ground 29 = .ok (.ifCond .ne 26, 3) := dk_154 0 26 (dk_at dksX6_ground_1 5 rfl rfl)
theorem dX6_ground_32 : decode cX6_ground 32 = .ok (.aload_n 0, 1) := dk_42 (dk_at dksX6_ground_1 8 rfl rfl)
theorem dX6_ground_33 : decode cX6_ground 33 = .ok (.iload_n 3, 1) := dk_29 (dk_at dksX6_ground_1 9 rfl rfl)
theorem dX6_ground_34 : decode cX6_ground 34 = .ok (.iconst 0, 1) := dk_3 (dk_at dksX6_ground_1 10 rfl rfl)
theorem dX6_ground_35 : decode cX6_ground 35 = .ok (.bipush 9, 2) := dk_16 9 (dk_at dksX6_ground_1 11 rfl rfl)
theorem dX6_ground_37 : decode cX6_ground 37 = .ok (.invokestatic 59, 3) := dk_184 0 59 (dk_at dksX6_ground_1 13 rfl rfl)
theorem dX6_ground_40 : decode cX6_ground 40 = .ok (.ifCond .ne 7, 3) := dk_154 0 7 (dk_at dksX6_ground_1 16 rfl rfl)
theorem dX6_ground_43 : decode cX6_ground 43 = .ok (.iconst 1, 1) := dk_4 (dk_at dksX6_ground_1 19 rfl rfl)
theorem dX6_ground_44 : decode cX6_ground 44 = .ok (.goto 4, 3) := dk_167 0 4 (dk_at dksX6_ground_1 20 rfl rfl)
theorem dX6_ground_47 : decode cX6_ground 47 = .ok (.iconst 0, 1) := dk_3 (dk_at dksX6_ground_1 23 rfl rfl)
theorem dX6_ground_48 : decode cX6_ground 48 = .ok (.iconst 2, 1) := dk_5 (dk_at dksX6_ground_2 0 rfl rfl)
theorem dX6_ground_49 : decode cX6_ground 49 = .ok (.invokevirtual 80, 3) := dk_182 0 80 (dk_at dksX6_ground_2 1 rfl rfl)
theorem dX6_ground_52 : decode cX6_ground 52 = .ok (.ifCond .eq 4, 3) := dk_153 0 4 (dk_at dksX6_ground_2 4 rfl rfl)
theorem dX6_ground_55 : decode cX6_ground 55 = .ok (.return_, 1) := dk_177 (dk_at dksX6_ground_2 7 rfl rfl)
theorem dX6_ground_56 : decode cX6_ground 56 = .ok (.iconst 0, 1) := dk_3 (dk_at dksX6_ground_2 8 rfl rfl)
theorem dX6_ground_57 : decode cX6_ground 57 = .ok (.istore 4, 2) := dk_54 4 (dk_at dksX6_ground_2 9 rfl rfl)
theorem dX6_ground_59 : decode cX6_ground 59 = .ok (.iload 4, 2) := dk_21 4 (dk_at dksX6_ground_2 11 rfl rfl)
theorem dX6_ground_61 : decode cX6_ground 61 = .ok (.sipush 256, 3) := dk_17 1 0 (dk_at dksX6_ground_2 13 rfl rfl)
theorem dX6_ground_64 : decode cX6_ground 64 = .ok (.if_icmp .ge 30, 3) := dk_162 0 30 (dk_at dksX6_ground_2 16 rfl rfl)
theorem dX6_ground_67 : decode cX6_ground 67 = .ok (.iload 4, 2) := dk_21 4 (dk_at dksX6_ground_2 19 rfl rfl)
theorem dX6_ground_69 : decode cX6_ground 69 = .ok (.iload_n 1, 1) := dk_27 (dk_at dksX6_ground_2 21 rfl rfl)
theorem dX6_ground_70 : decode cX6_ground 70 = .ok (.iload_n 2, 1) := dk_28 (dk_at dksX6_ground_2 22 rfl rfl)
theorem dX6_ground_71 : decode cX6_ground 71 = .ok (.invokestatic 84, 3) := dk_184 0 84 (dk_at dksX6_ground_3 0 rfl rfl)
theorem dX6_ground_74 : decode cX6_ground 74 = .ok (.ifCond .eq 14, 3) := dk_153 0 14 (dk_at dksX6_ground_3 3 rfl rfl)
theorem dX6_ground_77 : decode cX6_ground 77 = .ok (.aload_n 0, 1) := dk_42 (dk_at dksX6_ground_3 6 rfl rfl)
theorem dX6_ground_78 : decode cX6_ground 78 = .ok (.getfield 13, 3) := dk_180 0 13 (dk_at dksX6_ground_3 7 rfl rfl)
theorem dX6_ground_81 : decode cX6_ground 81 = .ok (.bipush 13, 2) := dk_16 13 (dk_at dksX6_ground_3 10 rfl rfl)
theorem dX6_ground_83 : decode cX6_ground 83 = .ok (.iload 4, 2) := dk_21 4 (dk_at dksX6_ground_3 12 rfl rfl)
theorem dX6_ground_85 : decode cX6_ground 85 = .ok (.iadd, 1) := dk_96 (dk_at dksX6_ground_3 14 rfl rfl)
theorem dX6_ground_86 : decode cX6_ground 86 = .ok (.iload_n 3, 1) := dk_29 (dk_at dksX6_ground_3 15 rfl rfl)
theorem dX6_ground_87 : decode cX6_ground 87 = .ok (.iastore, 1) := dk_79 (dk_at dksX6_ground_3 16 rfl rfl)
theorem dX6_ground_88 : decode cX6_ground 88 = .ok (.iinc 4 1, 3) := dk_132 4 1 (dk_at dksX6_ground_3 17 rfl rfl)
theorem dX6_ground_91 : decode cX6_ground 91 = .ok (.goto (-32), 3) := dk_167 255 224 (dk_at dksX6_ground_3 20 rfl rfl)
theorem dX6_ground_94 : decode cX6_ground 94 = .ok (.return_, 1) := dk_177 (dk_at dksX6_ground_3 23 rfl rfl)
abbrev cX6_noCell : ByteArray := prog_30_method_8_code
def yX6_noCell : MethodName := ⟨RX6, "noCell", "(I)Z"⟩
def dkwX6_noCell_0 : List UInt8 := [26, 3, 17, 0, 255, 184, 0, 59, 154, 0, 7, 4, 167, 0, 4, 3, 172]
abbrev dktX6_noCell_0 : List UInt8 := dkwX6_noCell_0 ++ []
theorem dksX6_noCell_0 : cX6_noCell.data.toList.drop 0 = dktX6_noCell_0 := by decide +kernel
theorem dX6_noCell_0 : decode cX6_noCell 0 = .ok (.iload_n 0, 1) := dk_26 (dk_at dksX6_noCell_0 0 rfl rfl)
theorem dX6_noCell_1 : decode cX6_noCell 1 = .ok (.iconst 0, 1) := dk_3 (dk_at dksX6_noCell_0 1 rfl rfl)
theorem dX6_noCell_2 : decode cX6_noCell 2 = .ok (.sipush 255, 3) := dk_17 0 255 (dk_at dksX6_noCell_0 2 rfl rfl)
theorem dX6_noCell_5 : decode cX6_noCell 5 = .ok (.invokestatic 59, 3) := dk_184 0 59 (dk_at dksX6_noCell_0 5 rfl rfl)
theorem dX6_noCell_8 : decode cX6_noCell 8 = .ok (.ifCond .ne 7, 3) := dk_154 0 7 (dk_at dksX6_noCell_0 8 rfl rfl)
theorem dX6_noCell_11 : decode cX6_noCell 11 = .ok (.iconst 1, 1) := dk_4 (dk_at dksX6_noCell_0 11 rfl rfl)
theorem dX6_noCell_12 : decode cX6_noCell 12 = .ok (.goto 4, 3) := dk_167 0 4 (dk_at dksX6_noCell_0 12 rfl rfl)
theorem dX6_noCell_15 : decode cX6_noCell 15 = .ok (.iconst 0, 1) := dk_3 (dk_at dksX6_noCell_0 15 rfl rfl)
theorem dX6_noCell_16 : decode cX6_noCell 16 = .ok (.ireturn, 1) := dk_172 (dk_at dksX6_noCell_0 16 rfl rfl)
abbrev cX6_in : ByteArray := prog_30_method_3_code
def yX6_in : MethodName := ⟨RX6, "in", "(III)Z"⟩
def dkwX6_in_0 : List UInt8 := [26, 27, 161, 0, 12, 26, 28, 163, 0, 7, 4, 167, 0, 4, 3, 172]
abbrev dktX6_in_0 : List UInt8 := dkwX6_in_0 ++ []
theorem dksX6_in_0 : cX6_in.data.toList.drop 0 = dktX6_in_0 := by decide +kernel
theorem dX6_in_0 : decode cX6_in 0 = .ok (.iload_n 0, 1) := dk_26 (dk_at dksX6_in_0 0 rfl rfl)
theorem dX6_in_1 : decode cX6_in 1 = .ok (.iload_n 1, 1) := dk_27 (dk_at dksX6_in_0 1 rfl rfl)
theorem dX6_in_2 : decode cX6_in 2 = .ok (.if_icmp .lt 12, 3) := dk_161 0 12 (dk_at dksX6_in_0 2 rfl rfl)
theorem dX6_in_5 : decode cX6_in 5 = .ok (.iload_n 0, 1) := dk_26 (dk_at dksX6_in_0 5 rfl rfl)
theorem dX6_in_6 : decode cX6_in 6 = .ok (.iload_n 2, 1) := dk_28 (dk_at dksX6_in_0 6 rfl rfl)
theorem dX6_in_7 : decode cX6_in 7 = .ok (.if_icmp .gt 7, 3) := dk_163 0 7 (dk_at dksX6_in_0 7 rfl rfl)
theorem dX6_in_10 : decode cX6_in 10 = .ok (.iconst 1, 1) := dk_4 (dk_at dksX6_in_0 10 rfl rfl)
theorem dX6_in_11 : decode cX6_in 11 = .ok (.goto 4, 3) := dk_167 0 4 (dk_at dksX6_in_0 11 rfl rfl)
theorem dX6_in_14 : decode cX6_in 14 = .ok (.iconst 0, 1) := dk_3 (dk_at dksX6_in_0 14 rfl rfl)
theorem dX6_in_15 : decode cX6_in 15 = .ok (.ireturn, 1) := dk_172 (dk_at dksX6_in_0 15 rfl rfl)
abbrev cX6_throwsIf : ByteArray := prog_30_method_2_code
def yX6_throwsIf : MethodName := ⟨RX6, "throwsIf", "(ZI)Z"⟩
def dkwX6_throwsIf_0 : List UInt8 := [27, 153, 0, 8, 42, 28, 181, 0, 3, 27, 172]
abbrev dktX6_throwsIf_0 : List UInt8 := dkwX6_throwsIf_0 ++ []
theorem dksX6_throwsIf_0 : cX6_throwsIf.data.toList.drop 0 = dktX6_throwsIf_0 := by decide +kernel
theorem dX6_throwsIf_0 : decode cX6_throwsIf 0 = .ok (.iload_n 1, 1) := dk_27 (dk_at dksX6_throwsIf_0 0 rfl rfl)
theorem dX6_throwsIf_1 : decode cX6_throwsIf 1 = .ok (.ifCond .eq 8, 3) := dk_153 0 8 (dk_at dksX6_throwsIf_0 1 rfl rfl)
theorem dX6_throwsIf_4 : decode cX6_throwsIf 4 = .ok (.aload_n 0, 1) := dk_42 (dk_at dksX6_throwsIf_0 4 rfl rfl)
theorem dX6_throwsIf_5 : decode cX6_throwsIf 5 = .ok (.iload_n 2, 1) := dk_28 (dk_at dksX6_throwsIf_0 5 rfl rfl)
theorem dX6_throwsIf_6 : decode cX6_throwsIf 6 = .ok (.putfield 3, 3) := dk_181 0 3 (dk_at dksX6_throwsIf_0 6 rfl rfl)
theorem dX6_throwsIf_9 : decode cX6_throwsIf 9 = .ok (.iload_n 1, 1) := dk_27 (dk_at dksX6_throwsIf_0 9 rfl rfl)
theorem dX6_throwsIf_10 : decode cX6_throwsIf 10 = .ok (.ireturn, 1) := dk_172 (dk_at dksX6_throwsIf_0 10 rfl rfl)
abbrev cX6_isInArea : ByteArray := prog_30_method_11_code
def yX6_isInArea : MethodName := ⟨RX6, "isInArea", "(III)Z"⟩
def dkwX6_isInArea_2 : List UInt8 := [27, 16, 16, 108, 28, 16, 16, 108, 184, 0, 69, 184, 0, 59, 153, 0, 7, 4, 167, 0, 4, 3, 172]
abbrev dktX6_isInArea_2 : List UInt8 := dkwX6_isInArea_2 ++ []
def dkwX6_isInArea_1 : List UInt8 := [184, 0, 69, 184, 0, 59, 153, 0, 39, 26, 16, 16, 108, 27, 16, 16, 108, 28, 16, 16, 108, 184, 0, 73]
abbrev dktX6_isInArea_1 : List UInt8 := dkwX6_isInArea_1 ++ dktX6_isInArea_2
def dkwX6_isInArea_0 : List UInt8 := [26, 16, 16, 112, 27, 16, 16, 112, 28, 16, 16, 112, 184, 0, 73, 27, 16, 16, 112, 28, 16, 16, 112]
abbrev dktX6_isInArea_0 : List UInt8 := dkwX6_isInArea_0 ++ dktX6_isInArea_1
theorem dksX6_isInArea_0 : cX6_isInArea.data.toList.drop 0 = dktX6_isInArea_0 := by decide +kernel
theorem dksX6_isInArea_1 : cX6_isInArea.data.toList.drop 23 = dktX6_isInArea_1 := dk_seg dksX6_isInArea_0 23 rfl rfl
theorem dksX6_isInArea_2 : cX6_isInArea.data.toList.drop 47 = dktX6_isInArea_2 := dk_seg dksX6_isInArea_1 24 rfl rfl
theorem dX6_isInArea_0 : decode cX6_isInArea 0 = .ok (.iload_n 0, 1) := dk_26 (dk_at dksX6_isInArea_0 0 rfl rfl)
theorem dX6_isInArea_1 : decode cX6_isInArea 1 = .ok (.bipush 16, 2) := dk_16 16 (dk_at dksX6_isInArea_0 1 rfl rfl)
theorem dX6_isInArea_3 : decode cX6_isInArea 3 = .ok (.irem, 1) := dk_112 (dk_at dksX6_isInArea_0 3 rfl rfl)
theorem dX6_isInArea_4 : decode cX6_isInArea 4 = .ok (.iload_n 1, 1) := dk_27 (dk_at dksX6_isInArea_0 4 rfl rfl)
theorem dX6_isInArea_5 : decode cX6_isInArea 5 = .ok (.bipush 16, 2) := dk_16 16 (dk_at dksX6_isInArea_0 5 rfl rfl)
theorem dX6_isInArea_7 : decode cX6_isInArea 7 = .ok (.irem, 1) := dk_112 (dk_at dksX6_isInArea_0 7 rfl rfl)
theorem dX6_isInArea_8 : decode cX6_isInArea 8 = .ok (.iload_n 2, 1) := dk_28 (dk_at dksX6_isInArea_0 8 rfl rfl)
theorem dX6_isInArea_9 : decode cX6_isInArea 9 = .ok (.bipush 16, 2) := dk_16 16 (dk_at dksX6_isInArea_0 9 rfl rfl)
theorem dX6_isInArea_11 : decode cX6_isInArea 11 = .ok (.irem, 1) := dk_112 (dk_at dksX6_isInArea_0 11 rfl rfl)
theorem dX6_isInArea_12 : decode cX6_isInArea 12 = .ok (.invokestatic 73, 3) := dk_184 0 73 (dk_at dksX6_isInArea_0 12 rfl rfl)
theorem dX6_isInArea_15 : decode cX6_isInArea 15 = .ok (.iload_n 1, 1) := dk_27 (dk_at dksX6_isInArea_0 15 rfl rfl)
theorem dX6_isInArea_16 : decode cX6_isInArea 16 = .ok (.bipush 16, 2) := dk_16 16 (dk_at dksX6_isInArea_0 16 rfl rfl)
theorem dX6_isInArea_18 : decode cX6_isInArea 18 = .ok (.irem, 1) := dk_112 (dk_at dksX6_isInArea_0 18 rfl rfl)
theorem dX6_isInArea_19 : decode cX6_isInArea 19 = .ok (.iload_n 2, 1) := dk_28 (dk_at dksX6_isInArea_0 19 rfl rfl)
theorem dX6_isInArea_20 : decode cX6_isInArea 20 = .ok (.bipush 16, 2) := dk_16 16 (dk_at dksX6_isInArea_0 20 rfl rfl)
theorem dX6_isInArea_22 : decode cX6_isInArea 22 = .ok (.irem, 1) := dk_112 (dk_at dksX6_isInArea_0 22 rfl rfl)
theorem dX6_isInArea_23 : decode cX6_isInArea 23 = .ok (.invokestatic 69, 3) := dk_184 0 69 (dk_at dksX6_isInArea_1 0 rfl rfl)
theorem dX6_isInArea_26 : decode cX6_isInArea 26 = .ok (.invokestatic 59, 3) := dk_184 0 59 (dk_at dksX6_isInArea_1 3 rfl rfl)
theorem dX6_isInArea_29 : decode cX6_isInArea 29 = .ok (.ifCond .eq 39, 3) := dk_153 0 39 (dk_at dksX6_isInArea_1 6 rfl rfl)
theorem dX6_isInArea_32 : decode cX6_isInArea 32 = .ok (.iload_n 0, 1) := dk_26 (dk_at dksX6_isInArea_1 9 rfl rfl)
theorem dX6_isInArea_33 : decode cX6_isInArea 33 = .ok (.bipush 16, 2) := dk_16 16 (dk_at dksX6_isInArea_1 10 rfl rfl)
theorem dX6_isInArea_35 : decode cX6_isInArea 35 = .ok (.idiv, 1) := dk_108 (dk_at dksX6_isInArea_1 12 rfl rfl)
theorem dX6_isInArea_36 : decode cX6_isInArea 36 = .ok (.iload_n 1, 1) := dk_27 (dk_at dksX6_isInArea_1 13 rfl rfl)
theorem dX6_isInArea_37 : decode cX6_isInArea 37 = .ok (.bipush 16, 2) := dk_16 16 (dk_at dksX6_isInArea_1 14 rfl rfl)
theorem dX6_isInArea_39 : decode cX6_isInArea 39 = .ok (.idiv, 1) := dk_108 (dk_at dksX6_isInArea_1 16 rfl rfl)
theorem dX6_isInArea_40 : decode cX6_isInArea 40 = .ok (.iload_n 2, 1) := dk_28 (dk_at dksX6_isInArea_1 17 rfl rfl)
theorem dX6_isInArea_41 : decode cX6_isInArea 41 = .ok (.bipush 16, 2) := dk_16 16 (dk_at dksX6_isInArea_1 18 rfl rfl)
theorem dX6_isInArea_43 : decode cX6_isInArea 43 = .ok (.idiv, 1) := dk_108 (dk_at dksX6_isInArea_1 20 rfl rfl)
theorem dX6_isInArea_44 : decode cX6_isInArea 44 = .ok (.invokestatic 73, 3) := dk_184 0 73 (dk_at dksX6_isInArea_1 21 rfl rfl)
theorem dX6_isInArea_47 : decode cX6_isInArea 47 = .ok (.iload_n 1, 1) := dk_27 (dk_at dksX6_isInArea_2 0 rfl rfl)
theorem dX6_isInArea_48 : decode cX6_isInArea 48 = .ok (.bipush 16, 2) := dk_16 16 (dk_at dksX6_isInArea_2 1 rfl rfl)
theorem dX6_isInArea_50 : decode cX6_isInArea 50 = .ok (.idiv, 1) := dk_108 (dk_at dksX6_isInArea_2 3 rfl rfl)
theorem dX6_isInArea_51 : decode cX6_isInArea 51 = .ok (.iload_n 2, 1) := dk_28 (dk_at dksX6_isInArea_2 4 rfl rfl)
theorem dX6_isInArea_52 : decode cX6_isInArea 52 = .ok (.bipush 16, 2) := dk_16 16 (dk_at dksX6_isInArea_2 5 rfl rfl)
theorem dX6_isInArea_54 : decode cX6_isInArea 54 = .ok (.idiv, 1) := dk_108 (dk_at dksX6_isInArea_2 7 rfl rfl)
theorem dX6_isInArea_55 : decode cX6_isInArea 55 = .ok (.invokestatic 69, 3) := dk_184 0 69 (dk_at dksX6_isInArea_2 8 rfl rfl)
theorem dX6_isInArea_58 : decode cX6_isInArea 58 = .ok (.invokestatic 59, 3) := dk_184 0 59 (dk_at dksX6_isInArea_2 11 rfl rfl)
theorem dX6_isInArea_61 : decode cX6_isInArea 61 = .ok (.ifCond .eq 7, 3) := dk_153 0 7 (dk_at dksX6_isInArea_2 14 rfl rfl)
theorem dX6_isInArea_64 : decode cX6_isInArea 64 = .ok (.iconst 1, 1) := dk_4 (dk_at dksX6_isInArea_2 17 rfl rfl)
theorem dX6_isInArea_65 : decode cX6_isInArea 65 = .ok (.goto 4, 3) := dk_167 0 4 (dk_at dksX6_isInArea_2 18 rfl rfl)
theorem dX6_isInArea_68 : decode cX6_isInArea 68 = .ok (.iconst 0, 1) := dk_3 (dk_at dksX6_isInArea_2 21 rfl rfl)
theorem dX6_isInArea_69 : decode cX6_isInArea 69 = .ok (.ireturn, 1) := dk_172 (dk_at dksX6_isInArea_2 22 rfl rfl)
abbrev cX6_height : ByteArray := prog_30_method_13_code
def yX6_height : MethodName := ⟨RX6, "height", "(I)I"⟩
def dkwX6_height_1 : List UInt8 := [180, 0, 13, 16, 13, 27, 96, 46, 172]
abbrev dktX6_height_1 : List UInt8 := dkwX6_height_1 ++ []
def dkwX6_height_0 : List UInt8 := [42, 3, 181, 0, 3, 42, 27, 184, 0, 76, 4, 182, 0, 80, 153, 0, 7, 3, 167, 0, 12, 42]
abbrev dktX6_height_0 : List UInt8 := dkwX6_height_0 ++ dktX6_height_1
theorem dksX6_height_0 : cX6_height.data.toList.drop 0 = dktX6_height_0 := by decide +kernel
theorem dksX6_height_1 : cX6_height.data.toList.drop 22 = dktX6_height_1 := dk_seg dksX6_height_0 22 rfl rfl
theorem dX6_height_0 : decode cX6_height 0 = .ok (.aload_n 0, 1) := dk_42 (dk_at dksX6_height_0 0 rfl rfl)
theorem dX6_height_1 : decode cX6_height 1 = .ok (.iconst 0, 1) := dk_3 (dk_at dksX6_height_0 1 rfl rfl)
theorem dX6_height_2 : decode cX6_height 2 = .ok (.putfield 3, 3) := dk_181 0 3 (dk_at dksX6_height_0 2 rfl rfl)
theorem dX6_height_5 : decode cX6_height 5 = .ok (.aload_n 0, 1) := dk_42 (dk_at dksX6_height_0 5 rfl rfl)
theorem dX6_height_6 : decode cX6_height 6 = .ok (.iload_n 1, 1) := dk_27 (dk_at dksX6_height_0 6 rfl rfl)
theorem dX6_height_7 : decode cX6_height 7 = .ok (.invokestatic 76, 3) := dk_184 0 76 (dk_at dksX6_height_0 7 rfl rfl)
theorem dX6_height_10 : decode cX6_height 10 = .ok (.iconst 1, 1) := dk_4 (dk_at dksX6_height_0 10 rfl rfl)
theorem dX6_height_11 : decode cX6_height 11 = .ok (.invokevirtual 80, 3) := dk_182 0 80 (dk_at dksX6_height_0 11 rfl rfl)
theorem dX6_height_14 : decode cX6_height 14 = .ok (.ifCond .eq 7, 3) := dk_153 0 7 (dk_at dksX6_height_0 14 rfl rfl)
theorem dX6_height_17 : decode cX6_height 17 = .ok (.iconst 0, 1) := dk_3 (dk_at dksX6_height_0 17 rfl rfl)
theorem dX6_height_18 : decode cX6_height 18 = .ok (.goto 12, 3) := dk_167 0 12 (dk_at dksX6_height_0 18 rfl rfl)
theorem dX6_height_21 : decode cX6_height 21 = .ok (.aload_n 0, 1) := dk_42 (dk_at dksX6_height_0 21 rfl rfl)
theorem dX6_height_22 : decode cX6_height 22 = .ok (.getfield 13, 3) := dk_180 0 13 (dk_at dksX6_height_1 0 rfl rfl)
theorem dX6_height_25 : decode cX6_height 25 = .ok (.bipush 13, 2) := dk_16 13 (dk_at dksX6_height_1 3 rfl rfl)
theorem dX6_height_27 : decode cX6_height 27 = .ok (.iload_n 1, 1) := dk_27 (dk_at dksX6_height_1 5 rfl rfl)
theorem dX6_height_28 : decode cX6_height 28 = .ok (.iadd, 1) := dk_96 (dk_at dksX6_height_1 6 rfl rfl)
theorem dX6_height_29 : decode cX6_height 29 = .ok (.iaload, 1) := dk_46 (dk_at dksX6_height_1 7 rfl rfl)
theorem dX6_height_30 : decode cX6_height 30 = .ok (.ireturn, 1) := dk_172 (dk_at dksX6_height_1 8 rfl rfl)
abbrev cX6_sees : ByteArray := prog_30_method_16_code
def yX6_sees : MethodName := ⟨RX6, "sees", "(II)Z"⟩
def dkwX6_sees_1 : List UInt8 := [3, 4, 182, 0, 80, 154, 0, 16, 42, 27, 28, 182, 0, 96, 153, 0, 7, 4, 167, 0, 4, 3, 172]
abbrev dktX6_sees_1 : List UInt8 := dkwX6_sees_1 ++ []
def dkwX6_sees_0 : List UInt8 := [42, 3, 181, 0, 3, 42, 27, 184, 0, 76, 154, 0, 10, 28, 184, 0, 76, 153, 0, 7, 4, 167, 0, 4]
abbrev dktX6_sees_0 : List UInt8 := dkwX6_sees_0 ++ dktX6_sees_1
theorem dksX6_sees_0 : cX6_sees.data.toList.drop 0 = dktX6_sees_0 := by decide +kernel
theorem dksX6_sees_1 : cX6_sees.data.toList.drop 24 = dktX6_sees_1 := dk_seg dksX6_sees_0 24 rfl rfl
theorem dX6_sees_0 : decode cX6_sees 0 = .ok (.aload_n 0, 1) := dk_42 (dk_at dksX6_sees_0 0 rfl rfl)
theorem dX6_sees_1 : decode cX6_sees 1 = .ok (.iconst 0, 1) := dk_3 (dk_at dksX6_sees_0 1 rfl rfl)
theorem dX6_sees_2 : decode cX6_sees 2 = .ok (.putfield 3, 3) := dk_181 0 3 (dk_at dksX6_sees_0 2 rfl rfl)
theorem dX6_sees_5 : decode cX6_sees 5 = .ok (.aload_n 0, 1) := dk_42 (dk_at dksX6_sees_0 5 rfl rfl)
theorem dX6_sees_6 : decode cX6_sees 6 = .ok (.iload_n 1, 1) := dk_27 (dk_at dksX6_sees_0 6 rfl rfl)
theorem dX6_sees_7 : decode cX6_sees 7 = .ok (.invokestatic 76, 3) := dk_184 0 76 (dk_at dksX6_sees_0 7 rfl rfl)
theorem dX6_sees_10 : decode cX6_sees 10 = .ok (.ifCond .ne 10, 3) := dk_154 0 10 (dk_at dksX6_sees_0 10 rfl rfl)
theorem dX6_sees_13 : decode cX6_sees 13 = .ok (.iload_n 2, 1) := dk_28 (dk_at dksX6_sees_0 13 rfl rfl)
theorem dX6_sees_14 : decode cX6_sees 14 = .ok (.invokestatic 76, 3) := dk_184 0 76 (dk_at dksX6_sees_0 14 rfl rfl)
theorem dX6_sees_17 : decode cX6_sees 17 = .ok (.ifCond .eq 7, 3) := dk_153 0 7 (dk_at dksX6_sees_0 17 rfl rfl)
theorem dX6_sees_20 : decode cX6_sees 20 = .ok (.iconst 1, 1) := dk_4 (dk_at dksX6_sees_0 20 rfl rfl)
theorem dX6_sees_21 : decode cX6_sees 21 = .ok (.goto 4, 3) := dk_167 0 4 (dk_at dksX6_sees_0 21 rfl rfl)
theorem dX6_sees_24 : decode cX6_sees 24 = .ok (.iconst 0, 1) := dk_3 (dk_at dksX6_sees_1 0 rfl rfl)
theorem dX6_sees_25 : decode cX6_sees 25 = .ok (.iconst 1, 1) := dk_4 (dk_at dksX6_sees_1 1 rfl rfl)
theorem dX6_sees_26 : decode cX6_sees 26 = .ok (.invokevirtual 80, 3) := dk_182 0 80 (dk_at dksX6_sees_1 2 rfl rfl)
theorem dX6_sees_29 : decode cX6_sees 29 = .ok (.ifCond .ne 16, 3) := dk_154 0 16 (dk_at dksX6_sees_1 5 rfl rfl)
theorem dX6_sees_32 : decode cX6_sees 32 = .ok (.aload_n 0, 1) := dk_42 (dk_at dksX6_sees_1 8 rfl rfl)
theorem dX6_sees_33 : decode cX6_sees 33 = .ok (.iload_n 1, 1) := dk_27 (dk_at dksX6_sees_1 9 rfl rfl)
theorem dX6_sees_34 : decode cX6_sees 34 = .ok (.iload_n 2, 1) := dk_28 (dk_at dksX6_sees_1 10 rfl rfl)
theorem dX6_sees_35 : decode cX6_sees 35 = .ok (.invokevirtual 96, 3) := dk_182 0 96 (dk_at dksX6_sees_1 11 rfl rfl)
theorem dX6_sees_38 : decode cX6_sees 38 = .ok (.ifCond .eq 7, 3) := dk_153 0 7 (dk_at dksX6_sees_1 14 rfl rfl)
theorem dX6_sees_41 : decode cX6_sees 41 = .ok (.iconst 1, 1) := dk_4 (dk_at dksX6_sees_1 17 rfl rfl)
theorem dX6_sees_42 : decode cX6_sees 42 = .ok (.goto 4, 3) := dk_167 0 4 (dk_at dksX6_sees_1 18 rfl rfl)
theorem dX6_sees_45 : decode cX6_sees 45 = .ok (.iconst 0, 1) := dk_3 (dk_at dksX6_sees_1 21 rfl rfl)
theorem dX6_sees_46 : decode cX6_sees 46 = .ok (.ireturn, 1) := dk_172 (dk_at dksX6_sees_1 22 rfl rfl)
abbrev cX6_isSeenFrom : ByteArray := prog_30_method_15_code
def yX6_isSeenFrom : MethodName := ⟨RX6, "isSeenFrom", "(II)Z"⟩
def dkwX6_isSeenFrom_5 : List UInt8 := [167, 255, 147, 4, 172]
abbrev dktX6_isSeenFrom_5 : List UInt8 := dkwX6_isSeenFrom_5 ++ []
def dkwX6_isSeenFrom_4 : List UInt8 := [100, 104, 42, 180, 0, 13, 16, 13, 28, 96, 46, 21, 4, 104, 96, 164, 0, 5, 3, 172, 132, 4, 1]
abbrev dktX6_isSeenFrom_4 : List UInt8 := dkwX6_isSeenFrom_4 ++ dktX6_isSeenFrom_5
def dkwX6_isSeenFrom_3 : List UInt8 := [16, 16, 21, 6, 104, 96, 21, 5, 96, 46, 29, 104, 42, 180, 0, 13, 16, 13, 27, 96, 46, 29, 21, 4]
abbrev dktX6_isSeenFrom_3 : List UInt8 := dkwX6_isSeenFrom_3 ++ dktX6_isSeenFrom_4
def dkwX6_isSeenFrom_2 : List UInt8 := [28, 16, 16, 108, 27, 16, 16, 108, 100, 104, 96, 29, 184, 0, 93, 54, 6, 42, 180, 0, 13, 16, 13]
abbrev dktX6_isSeenFrom_2 : List UInt8 := dkwX6_isSeenFrom_2 ++ dktX6_isSeenFrom_3
def dkwX6_isSeenFrom_1 : List UInt8 := [16, 16, 112, 27, 16, 16, 112, 100, 104, 96, 29, 184, 0, 93, 54, 5, 27, 16, 16, 108, 29, 104, 21, 4]
abbrev dktX6_isSeenFrom_1 : List UInt8 := dkwX6_isSeenFrom_1 ++ dktX6_isSeenFrom_2
def dkwX6_isSeenFrom_0 : List UInt8 := [27, 28, 184, 0, 90, 62, 4, 54, 4, 21, 4, 29, 162, 0, 109, 27, 16, 16, 112, 29, 104, 21, 4, 28]
abbrev dktX6_isSeenFrom_0 : List UInt8 := dkwX6_isSeenFrom_0 ++ dktX6_isSeenFrom_1
theorem dksX6_isSeenFrom_0 : cX6_isSeenFrom.data.toList.drop 0 = dktX6_isSeenFrom_0 := by decide +kernel
theorem dksX6_isSeenFrom_1 : cX6_isSeenFrom.data.toList.drop 24 = dktX6_isSeenFrom_1 := dk_seg dksX6_isSeenFrom_0 24 rfl rfl
theorem dksX6_isSeenFrom_2 : cX6_isSeenFrom.data.toList.drop 48 = dktX6_isSeenFrom_2 := dk_seg dksX6_isSeenFrom_1 24 rfl rfl
theorem dksX6_isSeenFrom_3 : cX6_isSeenFrom.data.toList.drop 71 = dktX6_isSeenFrom_3 := dk_seg dksX6_isSeenFrom_2 23 rfl rfl
theorem dksX6_isSeenFrom_4 : cX6_isSeenFrom.data.toList.drop 95 = dktX6_isSeenFrom_4 := dk_seg dksX6_isSeenFrom_3 24 rfl rfl
theorem dksX6_isSeenFrom_5 : cX6_isSeenFrom.data.toList.drop 118 = dktX6_isSeenFrom_5 := dk_seg dksX6_isSeenFrom_4 23 rfl rfl
theorem dX6_isSeenFrom_0 : decode cX6_isSeenFrom 0 = .ok (.iload_n 1, 1) := dk_27 (dk_at dksX6_isSeenFrom_0 0 rfl rfl)
theorem dX6_isSeenFrom_1 : decode cX6_isSeenFrom 1 = .ok (.iload_n 2, 1) := dk_28 (dk_at dksX6_isSeenFrom_0 1 rfl rfl)
theorem dX6_isSeenFrom_2 : decode cX6_isSeenFrom 2 = .ok (.invokestatic 90, 3) := dk_184 0 90 (dk_at dksX6_isSeenFrom_0 2 rfl rfl)
theorem dX6_isSeenFrom_5 : decode cX6_isSeenFrom 5 = .ok (.istore_n 3, 1) := dk_62 (dk_at dksX6_isSeenFrom_0 5 rfl rfl)
theorem dX6_isSeenFrom_6 : decode cX6_isSeenFrom 6 = .ok (.iconst 1, 1) := dk_4 (dk_at dksX6_isSeenFrom_0 6 rfl rfl)
theorem dX6_isSeenFrom_7 : decode cX6_isSeenFrom 7 = .ok (.istore 4, 2) := dk_54 4 (dk_at dksX6_isSeenFrom_0 7 rfl rfl)
theorem dX6_isSeenFrom_9 : decode cX6_isSeenFrom 9 = .ok (.iload 4, 2) := dk_21 4 (dk_at dksX6_isSeenFrom_0 9 rfl rfl)
theorem dX6_isSeenFrom_11 : decode cX6_isSeenFrom 11 = .ok (.iload_n 3, 1) := dk_29 (dk_at dksX6_isSeenFrom_0 11 rfl rfl)
theorem dX6_isSeenFrom_12 : decode cX6_isSeenFrom 12 = .ok (.if_icmp .ge 109, 3) := dk_162 0 109 (dk_at dksX6_isSeenFrom_0 12 rfl rfl)
theorem dX6_isSeenFrom_15 : decode cX6_isSeenFrom 15 = .ok (.iload_n 1, 1) := dk_27 (dk_at dksX6_isSeenFrom_0 15 rfl rfl)
theorem dX6_isSeenFrom_16 : decode cX6_isSeenFrom 16 = .ok (.bipush 16, 2) := dk_16 16 (dk_at dksX6_isSeenFrom_0 16 rfl rfl)
theorem dX6_isSeenFrom_18 : decode cX6_isSeenFrom 18 = .ok (.irem, 1) := dk_112 (dk_at dksX6_isSeenFrom_0 18 rfl rfl)
theorem dX6_isSeenFrom_19 : decode cX6_isSeenFrom 19 = .ok (.iload_n 3, 1) := dk_29 (dk_at dksX6_isSeenFrom_0 19 rfl rfl)
theorem dX6_isSeenFrom_20 : decode cX6_isSeenFrom 20 = .ok (.imul, 1) := dk_104 (dk_at dksX6_isSeenFrom_0 20 rfl rfl)
theorem dX6_isSeenFrom_21 : decode cX6_isSeenFrom 21 = .ok (.iload 4, 2) := dk_21 4 (dk_at dksX6_isSeenFrom_0 21 rfl rfl)
theorem dX6_isSeenFrom_23 : decode cX6_isSeenFrom 23 = .ok (.iload_n 2, 1) := dk_28 (dk_at dksX6_isSeenFrom_0 23 rfl rfl)
theorem dX6_isSeenFrom_24 : decode cX6_isSeenFrom 24 = .ok (.bipush 16, 2) := dk_16 16 (dk_at dksX6_isSeenFrom_1 0 rfl rfl)
theorem dX6_isSeenFrom_26 : decode cX6_isSeenFrom 26 = .ok (.irem, 1) := dk_112 (dk_at dksX6_isSeenFrom_1 2 rfl rfl)
theorem dX6_isSeenFrom_27 : decode cX6_isSeenFrom 27 = .ok (.iload_n 1, 1) := dk_27 (dk_at dksX6_isSeenFrom_1 3 rfl rfl)
theorem dX6_isSeenFrom_28 : decode cX6_isSeenFrom 28 = .ok (.bipush 16, 2) := dk_16 16 (dk_at dksX6_isSeenFrom_1 4 rfl rfl)
theorem dX6_isSeenFrom_30 : decode cX6_isSeenFrom 30 = .ok (.irem, 1) := dk_112 (dk_at dksX6_isSeenFrom_1 6 rfl rfl)
theorem dX6_isSeenFrom_31 : decode cX6_isSeenFrom 31 = .ok (.isub, 1) := dk_100 (dk_at dksX6_isSeenFrom_1 7 rfl rfl)
theorem dX6_isSeenFrom_32 : decode cX6_isSeenFrom 32 = .ok (.imul, 1) := dk_104 (dk_at dksX6_isSeenFrom_1 8 rfl rfl)
theorem dX6_isSeenFrom_33 : decode cX6_isSeenFrom 33 = .ok (.iadd, 1) := dk_96 (dk_at dksX6_isSeenFrom_1 9 rfl rfl)
theorem dX6_isSeenFrom_34 : decode cX6_isSeenFrom 34 = .ok (.iload_n 3, 1) := dk_29 (dk_at dksX6_isSeenFrom_1 10 rfl rfl)
theorem dX6_isSeenFrom_35 : decode cX6_isSeenFrom 35 = .ok (.invokestatic 93, 3) := dk_184 0 93 (dk_at dksX6_isSeenFrom_1 11 rfl rfl)
theorem dX6_isSeenFrom_38 : decode cX6_isSeenFrom 38 = .ok (.istore 5, 2) := dk_54 5 (dk_at dksX6_isSeenFrom_1 14 rfl rfl)
theorem dX6_isSeenFrom_40 : decode cX6_isSeenFrom 40 = .ok (.iload_n 1, 1) := dk_27 (dk_at dksX6_isSeenFrom_1 16 rfl rfl)
theorem dX6_isSeenFrom_41 : decode cX6_isSeenFrom 41 = .ok (.bipush 16, 2) := dk_16 16 (dk_at dksX6_isSeenFrom_1 17 rfl rfl)
theorem dX6_isSeenFrom_43 : decode cX6_isSeenFrom 43 = .ok (.idiv, 1) := dk_108 (dk_at dksX6_isSeenFrom_1 19 rfl rfl)
theorem dX6_isSeenFrom_44 : decode cX6_isSeenFrom 44 = .ok (.iload_n 3, 1) := dk_29 (dk_at dksX6_isSeenFrom_1 20 rfl rfl)
theorem dX6_isSeenFrom_45 : decode cX6_isSeenFrom 45 = .ok (.imul, 1) := dk_104 (dk_at dksX6_isSeenFrom_1 21 rfl rfl)
theorem dX6_isSeenFrom_46 : decode cX6_isSeenFrom 46 = .ok (.iload 4, 2) := dk_21 4 (dk_at dksX6_isSeenFrom_1 22 rfl rfl)
theorem dX6_isSeenFrom_48 : decode cX6_isSeenFrom 48 = .ok (.iload_n 2, 1) := dk_28 (dk_at dksX6_isSeenFrom_2 0 rfl rfl)
theorem dX6_isSeenFrom_49 : decode cX6_isSeenFrom 49 = .ok (.bipush 16, 2) := dk_16 16 (dk_at dksX6_isSeenFrom_2 1 rfl rfl)
theorem dX6_isSeenFrom_51 : decode cX6_isSeenFrom 51 = .ok (.idiv, 1) := dk_108 (dk_at dksX6_isSeenFrom_2 3 rfl rfl)
theorem dX6_isSeenFrom_52 : decode cX6_isSeenFrom 52 = .ok (.iload_n 1, 1) := dk_27 (dk_at dksX6_isSeenFrom_2 4 rfl rfl)
theorem dX6_isSeenFrom_53 : decode cX6_isSeenFrom 53 = .ok (.bipush 16, 2) := dk_16 16 (dk_at dksX6_isSeenFrom_2 5 rfl rfl)
theorem dX6_isSeenFrom_55 : decode cX6_isSeenFrom 55 = .ok (.idiv, 1) := dk_108 (dk_at dksX6_isSeenFrom_2 7 rfl rfl)
theorem dX6_isSeenFrom_56 : decode cX6_isSeenFrom 56 = .ok (.isub, 1) := dk_100 (dk_at dksX6_isSeenFrom_2 8 rfl rfl)
theorem dX6_isSeenFrom_57 : decode cX6_isSeenFrom 57 = .ok (.imul, 1) := dk_104 (dk_at dksX6_isSeenFrom_2 9 rfl rfl)
theorem dX6_isSeenFrom_58 : decode cX6_isSeenFrom 58 = .ok (.iadd, 1) := dk_96 (dk_at dksX6_isSeenFrom_2 10 rfl rfl)
theorem dX6_isSeenFrom_59 : decode cX6_isSeenFrom 59 = .ok (.iload_n 3, 1) := dk_29 (dk_at dksX6_isSeenFrom_2 11 rfl rfl)
theorem dX6_isSeenFrom_60 : decode cX6_isSeenFrom 60 = .ok (.invokestatic 93, 3) := dk_184 0 93 (dk_at dksX6_isSeenFrom_2 12 rfl rfl)
theorem dX6_isSeenFrom_63 : decode cX6_isSeenFrom 63 = .ok (.istore 6, 2) := dk_54 6 (dk_at dksX6_isSeenFrom_2 15 rfl rfl)
theorem dX6_isSeenFrom_65 : decode cX6_isSeenFrom 65 = .ok (.aload_n 0, 1) := dk_42 (dk_at dksX6_isSeenFrom_2 17 rfl rfl)
theorem dX6_isSeenFrom_66 : decode cX6_isSeenFrom 66 = .ok (.getfield 13, 3) := dk_180 0 13 (dk_at dksX6_isSeenFrom_2 18 rfl rfl)
theorem dX6_isSeenFrom_69 : decode cX6_isSeenFrom 69 = .ok (.bipush 13, 2) := dk_16 13 (dk_at dksX6_isSeenFrom_2 21 rfl rfl)
theorem dX6_isSeenFrom_71 : decode cX6_isSeenFrom 71 = .ok (.bipush 16, 2) := dk_16 16 (dk_at dksX6_isSeenFrom_3 0 rfl rfl)
theorem dX6_isSeenFrom_73 : decode cX6_isSeenFrom 73 = .ok (.iload 6, 2) := dk_21 6 (dk_at dksX6_isSeenFrom_3 2 rfl rfl)
theorem dX6_isSeenFrom_75 : decode cX6_isSeenFrom 75 = .ok (.imul, 1) := dk_104 (dk_at dksX6_isSeenFrom_3 4 rfl rfl)
theorem dX6_isSeenFrom_76 : decode cX6_isSeenFrom 76 = .ok (.iadd, 1) := dk_96 (dk_at dksX6_isSeenFrom_3 5 rfl rfl)
theorem dX6_isSeenFrom_77 : decode cX6_isSeenFrom 77 = .ok (.iload 5, 2) := dk_21 5 (dk_at dksX6_isSeenFrom_3 6 rfl rfl)
theorem dX6_isSeenFrom_79 : decode cX6_isSeenFrom 79 = .ok (.iadd, 1) := dk_96 (dk_at dksX6_isSeenFrom_3 8 rfl rfl)
theorem dX6_isSeenFrom_80 : decode cX6_isSeenFrom 80 = .ok (.iaload, 1) := dk_46 (dk_at dksX6_isSeenFrom_3 9 rfl rfl)
theorem dX6_isSeenFrom_81 : decode cX6_isSeenFrom 81 = .ok (.iload_n 3, 1) := dk_29 (dk_at dksX6_isSeenFrom_3 10 rfl rfl)
theorem dX6_isSeenFrom_82 : decode cX6_isSeenFrom 82 = .ok (.imul, 1) := dk_104 (dk_at dksX6_isSeenFrom_3 11 rfl rfl)
theorem dX6_isSeenFrom_83 : decode cX6_isSeenFrom 83 = .ok (.aload_n 0, 1) := dk_42 (dk_at dksX6_isSeenFrom_3 12 rfl rfl)
theorem dX6_isSeenFrom_84 : decode cX6_isSeenFrom 84 = .ok (.getfield 13, 3) := dk_180 0 13 (dk_at dksX6_isSeenFrom_3 13 rfl rfl)
theorem dX6_isSeenFrom_87 : decode cX6_isSeenFrom 87 = .ok (.bipush 13, 2) := dk_16 13 (dk_at dksX6_isSeenFrom_3 16 rfl rfl)
theorem dX6_isSeenFrom_89 : decode cX6_isSeenFrom 89 = .ok (.iload_n 1, 1) := dk_27 (dk_at dksX6_isSeenFrom_3 18 rfl rfl)
theorem dX6_isSeenFrom_90 : decode cX6_isSeenFrom 90 = .ok (.iadd, 1) := dk_96 (dk_at dksX6_isSeenFrom_3 19 rfl rfl)
theorem dX6_isSeenFrom_91 : decode cX6_isSeenFrom 91 = .ok (.iaload, 1) := dk_46 (dk_at dksX6_isSeenFrom_3 20 rfl rfl)
theorem dX6_isSeenFrom_92 : decode cX6_isSeenFrom 92 = .ok (.iload_n 3, 1) := dk_29 (dk_at dksX6_isSeenFrom_3 21 rfl rfl)
theorem dX6_isSeenFrom_93 : decode cX6_isSeenFrom 93 = .ok (.iload 4, 2) := dk_21 4 (dk_at dksX6_isSeenFrom_3 22 rfl rfl)
theorem dX6_isSeenFrom_95 : decode cX6_isSeenFrom 95 = .ok (.isub, 1) := dk_100 (dk_at dksX6_isSeenFrom_4 0 rfl rfl)
theorem dX6_isSeenFrom_96 : decode cX6_isSeenFrom 96 = .ok (.imul, 1) := dk_104 (dk_at dksX6_isSeenFrom_4 1 rfl rfl)
theorem dX6_isSeenFrom_97 : decode cX6_isSeenFrom 97 = .ok (.aload_n 0, 1) := dk_42 (dk_at dksX6_isSeenFrom_4 2 rfl rfl)
theorem dX6_isSeenFrom_98 : decode cX6_isSeenFrom 98 = .ok (.getfield 13, 3) := dk_180 0 13 (dk_at dksX6_isSeenFrom_4 3 rfl rfl)
theorem dX6_isSeenFrom_101 : decode cX6_isSeenFrom 101 = .ok (.bipush 13, 2) := dk_16 13 (dk_at dksX6_isSeenFrom_4 6 rfl rfl)
theorem dX6_isSeenFrom_103 : decode cX6_isSeenFrom 103 = .ok (.iload_n 2, 1) := dk_28 (dk_at dksX6_isSeenFrom_4 8 rfl rfl)
theorem dX6_isSeenFrom_104 : decode cX6_isSeenFrom 104 = .ok (.iadd, 1) := dk_96 (dk_at dksX6_isSeenFrom_4 9 rfl rfl)
theorem dX6_isSeenFrom_105 : decode cX6_isSeenFrom 105 = .ok (.iaload, 1) := dk_46 (dk_at dksX6_isSeenFrom_4 10 rfl rfl)
theorem dX6_isSeenFrom_106 : decode cX6_isSeenFrom 106 = .ok (.iload 4, 2) := dk_21 4 (dk_at dksX6_isSeenFrom_4 11 rfl rfl)
theorem dX6_isSeenFrom_108 : decode cX6_isSeenFrom 108 = .ok (.imul, 1) := dk_104 (dk_at dksX6_isSeenFrom_4 13 rfl rfl)
theorem dX6_isSeenFrom_109 : decode cX6_isSeenFrom 109 = .ok (.iadd, 1) := dk_96 (dk_at dksX6_isSeenFrom_4 14 rfl rfl)
theorem dX6_isSeenFrom_110 : decode cX6_isSeenFrom 110 = .ok (.if_icmp .le 5, 3) := dk_164 0 5 (dk_at dksX6_isSeenFrom_4 15 rfl rfl)
theorem dX6_isSeenFrom_113 : decode cX6_isSeenFrom 113 = .ok (.iconst 0, 1) := dk_3 (dk_at dksX6_isSeenFrom_4 18 rfl rfl)
theorem dX6_isSeenFrom_114 : decode cX6_isSeenFrom 114 = .ok (.ireturn, 1) := dk_172 (dk_at dksX6_isSeenFrom_4 19 rfl rfl)
theorem dX6_isSeenFrom_115 : decode cX6_isSeenFrom 115 = .ok (.iinc 4 1, 3) := dk_132 4 1 (dk_at dksX6_isSeenFrom_4 20 rfl rfl)
theorem dX6_isSeenFrom_118 : decode cX6_isSeenFrom 118 = .ok (.goto (-109), 3) := dk_167 255 147 (dk_at dksX6_isSeenFrom_5 0 rfl rfl)
theorem dX6_isSeenFrom_121 : decode cX6_isSeenFrom 121 = .ok (.iconst 1, 1) := dk_4 (dk_at dksX6_isSeenFrom_5 3 rfl rfl)
theorem dX6_isSeenFrom_122 : decode cX6_isSeenFrom 122 = .ok (.ireturn, 1) := dk_172 (dk_at dksX6_isSeenFrom_5 4 rfl rfl)
abbrev cX6_far : ByteArray := prog_30_method_10_code
def yX6_far : MethodName := ⟨RX6, "far", "(II)I"⟩
def dkwX6_far_1 : List UInt8 := [184, 0, 69, 172]
abbrev dktX6_far_1 : List UInt8 := dkwX6_far_1 ++ []
def dkwX6_far_0 : List UInt8 := [26, 16, 16, 112, 27, 16, 16, 112, 100, 184, 0, 63, 26, 16, 16, 108, 27, 16, 16, 108, 100, 184, 0, 63]
abbrev dktX6_far_0 : List UInt8 := dkwX6_far_0 ++ dktX6_far_1
theorem dksX6_far_0 : cX6_far.data.toList.drop 0 = dktX6_far_0 := by decide +kernel
theorem dksX6_far_1 : cX6_far.data.toList.drop 24 = dktX6_far_1 := dk_seg dksX6_far_0 24 rfl rfl
theorem dX6_far_0 : decode cX6_far 0 = .ok (.iload_n 0, 1) := dk_26 (dk_at dksX6_far_0 0 rfl rfl)
theorem dX6_far_1 : decode cX6_far 1 = .ok (.bipush 16, 2) := dk_16 16 (dk_at dksX6_far_0 1 rfl rfl)
theorem dX6_far_3 : decode cX6_far 3 = .ok (.irem, 1) := dk_112 (dk_at dksX6_far_0 3 rfl rfl)
theorem dX6_far_4 : decode cX6_far 4 = .ok (.iload_n 1, 1) := dk_27 (dk_at dksX6_far_0 4 rfl rfl)
theorem dX6_far_5 : decode cX6_far 5 = .ok (.bipush 16, 2) := dk_16 16 (dk_at dksX6_far_0 5 rfl rfl)
theorem dX6_far_7 : decode cX6_far 7 = .ok (.irem, 1) := dk_112 (dk_at dksX6_far_0 7 rfl rfl)
theorem dX6_far_8 : decode cX6_far 8 = .ok (.isub, 1) := dk_100 (dk_at dksX6_far_0 8 rfl rfl)
theorem dX6_far_9 : decode cX6_far 9 = .ok (.invokestatic 63, 3) := dk_184 0 63 (dk_at dksX6_far_0 9 rfl rfl)
theorem dX6_far_12 : decode cX6_far 12 = .ok (.iload_n 0, 1) := dk_26 (dk_at dksX6_far_0 12 rfl rfl)
theorem dX6_far_13 : decode cX6_far 13 = .ok (.bipush 16, 2) := dk_16 16 (dk_at dksX6_far_0 13 rfl rfl)
theorem dX6_far_15 : decode cX6_far 15 = .ok (.idiv, 1) := dk_108 (dk_at dksX6_far_0 15 rfl rfl)
theorem dX6_far_16 : decode cX6_far 16 = .ok (.iload_n 1, 1) := dk_27 (dk_at dksX6_far_0 16 rfl rfl)
theorem dX6_far_17 : decode cX6_far 17 = .ok (.bipush 16, 2) := dk_16 16 (dk_at dksX6_far_0 17 rfl rfl)
theorem dX6_far_19 : decode cX6_far 19 = .ok (.idiv, 1) := dk_108 (dk_at dksX6_far_0 19 rfl rfl)
theorem dX6_far_20 : decode cX6_far 20 = .ok (.isub, 1) := dk_100 (dk_at dksX6_far_0 20 rfl rfl)
theorem dX6_far_21 : decode cX6_far 21 = .ok (.invokestatic 63, 3) := dk_184 0 63 (dk_at dksX6_far_0 21 rfl rfl)
theorem dX6_far_24 : decode cX6_far 24 = .ok (.invokestatic 69, 3) := dk_184 0 69 (dk_at dksX6_far_1 0 rfl rfl)
theorem dX6_far_27 : decode cX6_far 27 = .ok (.ireturn, 1) := dk_172 (dk_at dksX6_far_1 3 rfl rfl)
abbrev cX6_nearest : ByteArray := prog_30_method_14_code
def yX6_nearest : MethodName := ⟨RX6, "nearest", "(II)I"⟩
def dkwX6_nearest_0 : List UInt8 := [5, 26, 104, 27, 96, 5, 27, 104, 184, 0, 87, 172]
abbrev dktX6_nearest_0 : List UInt8 := dkwX6_nearest_0 ++ []
theorem dksX6_nearest_0 : cX6_nearest.data.toList.drop 0 = dktX6_nearest_0 := by decide +kernel
theorem dX6_nearest_0 : decode cX6_nearest 0 = .ok (.iconst 2, 1) := dk_5 (dk_at dksX6_nearest_0 0 rfl rfl)
theorem dX6_nearest_1 : decode cX6_nearest 1 = .ok (.iload_n 0, 1) := dk_26 (dk_at dksX6_nearest_0 1 rfl rfl)
theorem dX6_nearest_2 : decode cX6_nearest 2 = .ok (.imul, 1) := dk_104 (dk_at dksX6_nearest_0 2 rfl rfl)
theorem dX6_nearest_3 : decode cX6_nearest 3 = .ok (.iload_n 1, 1) := dk_27 (dk_at dksX6_nearest_0 3 rfl rfl)
theorem dX6_nearest_4 : decode cX6_nearest 4 = .ok (.iadd, 1) := dk_96 (dk_at dksX6_nearest_0 4 rfl rfl)
theorem dX6_nearest_5 : decode cX6_nearest 5 = .ok (.iconst 2, 1) := dk_5 (dk_at dksX6_nearest_0 5 rfl rfl)
theorem dX6_nearest_6 : decode cX6_nearest 6 = .ok (.iload_n 1, 1) := dk_27 (dk_at dksX6_nearest_0 6 rfl rfl)
theorem dX6_nearest_7 : decode cX6_nearest 7 = .ok (.imul, 1) := dk_104 (dk_at dksX6_nearest_0 7 rfl rfl)
theorem dX6_nearest_8 : decode cX6_nearest 8 = .ok (.invokestatic 87, 3) := dk_184 0 87 (dk_at dksX6_nearest_0 8 rfl rfl)
theorem dX6_nearest_11 : decode cX6_nearest 11 = .ok (.ireturn, 1) := dk_172 (dk_at dksX6_nearest_0 11 rfl rfl)
abbrev cX6_gun : ByteArray := prog_30_method_17_code
def yX6_gun : MethodName := ⟨RX6, "gun", "(IIII)I"⟩
def dkwX6_gun_6 : List UInt8 := [3, 92, 46, 4, 96, 79, 42, 180, 0, 13, 3, 46, 4, 100, 172]
abbrev dktX6_gun_6 : List UInt8 := dkwX6_gun_6 ++ []
def dkwX6_gun_5 : List UInt8 := [180, 0, 13, 21, 5, 5, 96, 29, 79, 42, 180, 0, 13, 21, 5, 6, 96, 21, 4, 79, 42, 180, 0, 13]
abbrev dktX6_gun_5 : List UInt8 := dkwX6_gun_5 ++ dktX6_gun_6
def dkwX6_gun_4 : List UInt8 := [96, 54, 5, 42, 180, 0, 13, 21, 5, 27, 79, 42, 180, 0, 13, 21, 5, 4, 96, 28, 79, 42]
abbrev dktX6_gun_4 : List UInt8 := dkwX6_gun_4 ++ dktX6_gun_5
def dkwX6_gun_3 : List UInt8 := [167, 0, 4, 3, 5, 182, 0, 80, 153, 0, 5, 3, 172, 17, 1, 13, 7, 42, 180, 0, 13, 3, 46, 104]
abbrev dktX6_gun_3 : List UInt8 := dkwX6_gun_3 ++ dktX6_gun_4
def dkwX6_gun_2 : List UInt8 := [167, 0, 4, 3, 4, 182, 0, 80, 154, 0, 27, 42, 42, 180, 0, 13, 3, 46, 16, 8, 160, 0, 7, 4]
abbrev dktX6_gun_2 : List UInt8 := dkwX6_gun_2 ++ dktX6_gun_3
def dkwX6_gun_1 : List UInt8 := [153, 0, 21, 29, 184, 0, 100, 154, 0, 14, 21, 4, 3, 16, 40, 184, 0, 59, 154, 0, 7, 4]
abbrev dktX6_gun_1 : List UInt8 := dkwX6_gun_1 ++ dktX6_gun_2
def dkwX6_gun_0 : List UInt8 := [42, 3, 181, 0, 3, 42, 27, 3, 4, 184, 0, 59, 153, 0, 31, 28, 3, 16, 15, 184, 0, 59]
abbrev dktX6_gun_0 : List UInt8 := dkwX6_gun_0 ++ dktX6_gun_1
theorem dksX6_gun_0 : cX6_gun.data.toList.drop 0 = dktX6_gun_0 := by decide +kernel
theorem dksX6_gun_1 : cX6_gun.data.toList.drop 22 = dktX6_gun_1 := dk_seg dksX6_gun_0 22 rfl rfl
theorem dksX6_gun_2 : cX6_gun.data.toList.drop 44 = dktX6_gun_2 := dk_seg dksX6_gun_1 22 rfl rfl
theorem dksX6_gun_3 : cX6_gun.data.toList.drop 68 = dktX6_gun_3 := dk_seg dksX6_gun_2 24 rfl rfl
theorem dksX6_gun_4 : cX6_gun.data.toList.drop 92 = dktX6_gun_4 := dk_seg dksX6_gun_3 24 rfl rfl
theorem dksX6_gun_5 : cX6_gun.data.toList.drop 114 = dktX6_gun_5 := dk_seg dksX6_gun_4 22 rfl rfl
theorem dksX6_gun_6 : cX6_gun.data.toList.drop 138 = dktX6_gun_6 := dk_seg dksX6_gun_5 24 rfl rfl
theorem dX6_gun_0 : decode cX6_gun 0 = .ok (.aload_n 0, 1) := dk_42 (dk_at dksX6_gun_0 0 rfl rfl)
theorem dX6_gun_1 : decode cX6_gun 1 = .ok (.iconst 0, 1) := dk_3 (dk_at dksX6_gun_0 1 rfl rfl)
theorem dX6_gun_2 : decode cX6_gun 2 = .ok (.putfield 3, 3) := dk_181 0 3 (dk_at dksX6_gun_0 2 rfl rfl)
theorem dX6_gun_5 : decode cX6_gun 5 = .ok (.aload_n 0, 1) := dk_42 (dk_at dksX6_gun_0 5 rfl rfl)
theorem dX6_gun_6 : decode cX6_gun 6 = .ok (.iload_n 1, 1) := dk_27 (dk_at dksX6_gun_0 6 rfl rfl)
theorem dX6_gun_7 : decode cX6_gun 7 = .ok (.iconst 0, 1) := dk_3 (dk_at dksX6_gun_0 7 rfl rfl)
theorem dX6_gun_8 : decode cX6_gun 8 = .ok (.iconst 1, 1) := dk_4 (dk_at dksX6_gun_0 8 rfl rfl)
theorem dX6_gun_9 : decode cX6_gun 9 = .ok (.invokestatic 59, 3) := dk_184 0 59 (dk_at dksX6_gun_0 9 rfl rfl)
theorem dX6_gun_12 : decode cX6_gun 12 = .ok (.ifCond .eq 31, 3) := dk_153 0 31 (dk_at dksX6_gun_0 12 rfl rfl)
theorem dX6_gun_15 : decode cX6_gun 15 = .ok (.iload_n 2, 1) := dk_28 (dk_at dksX6_gun_0 15 rfl rfl)
theorem dX6_gun_16 : decode cX6_gun 16 = .ok (.iconst 0, 1) := dk_3 (dk_at dksX6_gun_0 16 rfl rfl)
theorem dX6_gun_17 : decode cX6_gun 17 = .ok (.bipush 15, 2) := dk_16 15 (dk_at dksX6_gun_0 17 rfl rfl)
theorem dX6_gun_19 : decode cX6_gun 19 = .ok (.invokestatic 59, 3) := dk_184 0 59 (dk_at dksX6_gun_0 19 rfl rfl)
theorem dX6_gun_22 : decode cX6_gun 22 = .ok (.ifCond .eq 21, 3) := dk_153 0 21 (dk_at dksX6_gun_1 0 rfl rfl)
theorem dX6_gun_25 : decode cX6_gun 25 = .ok (.iload_n 3, 1) := dk_29 (dk_at dksX6_gun_1 3 rfl rfl)
theorem dX6_gun_26 : decode cX6_gun 26 = .ok (.invokestatic 100, 3) := dk_184 0 100 (dk_at dksX6_gun_1 4 rfl rfl)
theorem dX6_gun_29 : decode cX6_gun 29 = .ok (.ifCond .ne 14, 3) := dk_154 0 14 (dk_at dksX6_gun_1 7 rfl rfl)
theorem dX6_gun_32 : decode cX6_gun 32 = .ok (.iload 4, 2) := dk_21 4 (dk_at dksX6_gun_1 10 rfl rfl)
theorem dX6_gun_34 : decode cX6_gun 34 = .ok (.iconst 0, 1) := dk_3 (dk_at dksX6_gun_1 12 rfl rfl)
theorem dX6_gun_35 : decode cX6_gun 35 = .ok (.bipush 40, 2) := dk_16 40 (dk_at dksX6_gun_1 13 rfl rfl)
theorem dX6_gun_37 : decode cX6_gun 37 = .ok (.invokestatic 59, 3) := dk_184 0 59 (dk_at dksX6_gun_1 15 rfl rfl)
theorem dX6_gun_40 : decode cX6_gun 40 = .ok (.ifCond .ne 7, 3) := dk_154 0 7 (dk_at dksX6_gun_1 18 rfl rfl)
theorem dX6_gun_43 : decode cX6_gun 43 = .ok (.iconst 1, 1) := dk_4 (dk_at dksX6_gun_1 21 rfl rfl)
theorem dX6_gun_44 : decode cX6_gun 44 = .ok (.goto 4, 3) := dk_167 0 4 (dk_at dksX6_gun_2 0 rfl rfl)
theorem dX6_gun_47 : decode cX6_gun 47 = .ok (.iconst 0, 1) := dk_3 (dk_at dksX6_gun_2 3 rfl rfl)
theorem dX6_gun_48 : decode cX6_gun 48 = .ok (.iconst 1, 1) := dk_4 (dk_at dksX6_gun_2 4 rfl rfl)
theorem dX6_gun_49 : decode cX6_gun 49 = .ok (.invokevirtual 80, 3) := dk_182 0 80 (dk_at dksX6_gun_2 5 rfl rfl)
theorem dX6_gun_52 : decode cX6_gun 52 = .ok (.ifCond .ne 27, 3) := dk_154 0 27 (dk_at dksX6_gun_2 8 rfl rfl)
theorem dX6_gun_55 : decode cX6_gun 55 = .ok (.aload_n 0, 1) := dk_42 (dk_at dksX6_gun_2 11 rfl rfl)
theorem dX6_gun_56 : decode cX6_gun 56 = .ok (.aload_n 0, 1) := dk_42 (dk_at dksX6_gun_2 12 rfl rfl)
theorem dX6_gun_57 : decode cX6_gun 57 = .ok (.getfield 13, 3) := dk_180 0 13 (dk_at dksX6_gun_2 13 rfl rfl)
theorem dX6_gun_60 : decode cX6_gun 60 = .ok (.iconst 0, 1) := dk_3 (dk_at dksX6_gun_2 16 rfl rfl)
theorem dX6_gun_61 : decode cX6_gun 61 = .ok (.iaload, 1) := dk_46 (dk_at dksX6_gun_2 17 rfl rfl)
theorem dX6_gun_62 : decode cX6_gun 62 = .ok (.bipush 8, 2) := dk_16 8 (dk_at dksX6_gun_2 18 rfl rfl)
theorem dX6_gun_64 : decode cX6_gun 64 = .ok (.if_icmp .ne 7, 3) := dk_160 0 7 (dk_at dksX6_gun_2 20 rfl rfl)
theorem dX6_gun_67 : decode cX6_gun 67 = .ok (.iconst 1, 1) := dk_4 (dk_at dksX6_gun_2 23 rfl rfl)
theorem dX6_gun_68 : decode cX6_gun 68 = .ok (.goto 4, 3) := dk_167 0 4 (dk_at dksX6_gun_3 0 rfl rfl)
theorem dX6_gun_71 : decode cX6_gun 71 = .ok (.iconst 0, 1) := dk_3 (dk_at dksX6_gun_3 3 rfl rfl)
theorem dX6_gun_72 : decode cX6_gun 72 = .ok (.iconst 2, 1) := dk_5 (dk_at dksX6_gun_3 4 rfl rfl)
theorem dX6_gun_73 : decode cX6_gun 73 = .ok (.invokevirtual 80, 3) := dk_182 0 80 (dk_at dksX6_gun_3 5 rfl rfl)
theorem dX6_gun_76 : decode cX6_gun 76 = .ok (.ifCond .eq 5, 3) := dk_153 0 5 (dk_at dksX6_gun_3 8 rfl rfl)
theorem dX6_gun_79 : decode cX6_gun 79 = .ok (.iconst 0, 1) := dk_3 (dk_at dksX6_gun_3 11 rfl rfl)
theorem dX6_gun_80 : decode cX6_gun 80 = .ok (.ireturn, 1) := dk_172 (dk_at dksX6_gun_3 12 rfl rfl)
theorem dX6_gun_81 : decode cX6_gun 81 = .ok (.sipush 269, 3) := dk_17 1 13 (dk_at dksX6_gun_3 13 rfl rfl)
theorem dX6_gun_84 : decode cX6_gun 84 = .ok (.iconst 4, 1) := dk_7 (dk_at dksX6_gun_3 16 rfl rfl)
theorem dX6_gun_85 : decode cX6_gun 85 = .ok (.aload_n 0, 1) := dk_42 (dk_at dksX6_gun_3 17 rfl rfl)
theorem dX6_gun_86 : decode cX6_gun 86 = .ok (.getfield 13, 3) := dk_180 0 13 (dk_at dksX6_gun_3 18 rfl rfl)
theorem dX6_gun_89 : decode cX6_gun 89 = .ok (.iconst 0, 1) := dk_3 (dk_at dksX6_gun_3 21 rfl rfl)
theorem dX6_gun_90 : decode cX6_gun 90 = .ok (.iaload, 1) := dk_46 (dk_at dksX6_gun_3 22 rfl rfl)
theorem dX6_gun_91 : decode cX6_gun 91 = .ok (.imul, 1) := dk_104 (dk_at dksX6_gun_3 23 rfl rfl)
theorem dX6_gun_92 : decode cX6_gun 92 = .ok (.iadd, 1) := dk_96 (dk_at dksX6_gun_4 0 rfl rfl)
theorem dX6_gun_93 : decode cX6_gun 93 = .ok (.istore 5, 2) := dk_54 5 (dk_at dksX6_gun_4 1 rfl rfl)
theorem dX6_gun_95 : decode cX6_gun 95 = .ok (.aload_n 0, 1) := dk_42 (dk_at dksX6_gun_4 3 rfl rfl)
theorem dX6_gun_96 : decode cX6_gun 96 = .ok (.getfield 13, 3) := dk_180 0 13 (dk_at dksX6_gun_4 4 rfl rfl)
theorem dX6_gun_99 : decode cX6_gun 99 = .ok (.iload 5, 2) := dk_21 5 (dk_at dksX6_gun_4 7 rfl rfl)
theorem dX6_gun_101 : decode cX6_gun 101 = .ok (.iload_n 1, 1) := dk_27 (dk_at dksX6_gun_4 9 rfl rfl)
theorem dX6_gun_102 : decode cX6_gun 102 = .ok (.iastore, 1) := dk_79 (dk_at dksX6_gun_4 10 rfl rfl)
theorem dX6_gun_103 : decode cX6_gun 103 = .ok (.aload_n 0, 1) := dk_42 (dk_at dksX6_gun_4 11 rfl rfl)
theorem dX6_gun_104 : decode cX6_gun 104 = .ok (.getfield 13, 3) := dk_180 0 13 (dk_at dksX6_gun_4 12 rfl rfl)
theorem dX6_gun_107 : decode cX6_gun 107 = .ok (.iload 5, 2) := dk_21 5 (dk_at dksX6_gun_4 15 rfl rfl)
theorem dX6_gun_109 : decode cX6_gun 109 = .ok (.iconst 1, 1) := dk_4 (dk_at dksX6_gun_4 17 rfl rfl)
theorem dX6_gun_110 : decode cX6_gun 110 = .ok (.iadd, 1) := dk_96 (dk_at dksX6_gun_4 18 rfl rfl)
theorem dX6_gun_111 : decode cX6_gun 111 = .ok (.iload_n 2, 1) := dk_28 (dk_at dksX6_gun_4 19 rfl rfl)
theorem dX6_gun_112 : decode cX6_gun 112 = .ok (.iastore, 1) := dk_79 (dk_at dksX6_gun_4 20 rfl rfl)
theorem dX6_gun_113 : decode cX6_gun 113 = .ok (.aload_n 0, 1) := dk_42 (dk_at dksX6_gun_4 21 rfl rfl)
theorem dX6_gun_114 : decode cX6_gun 114 = .ok (.getfield 13, 3) := dk_180 0 13 (dk_at dksX6_gun_5 0 rfl rfl)
theorem dX6_gun_117 : decode cX6_gun 117 = .ok (.iload 5, 2) := dk_21 5 (dk_at dksX6_gun_5 3 rfl rfl)
theorem dX6_gun_119 : decode cX6_gun 119 = .ok (.iconst 2, 1) := dk_5 (dk_at dksX6_gun_5 5 rfl rfl)
theorem dX6_gun_120 : decode cX6_gun 120 = .ok (.iadd, 1) := dk_96 (dk_at dksX6_gun_5 6 rfl rfl)
theorem dX6_gun_121 : decode cX6_gun 121 = .ok (.iload_n 3, 1) := dk_29 (dk_at dksX6_gun_5 7 rfl rfl)
theorem dX6_gun_122 : decode cX6_gun 122 = .ok (.iastore, 1) := dk_79 (dk_at dksX6_gun_5 8 rfl rfl)
theorem dX6_gun_123 : decode cX6_gun 123 = .ok (.aload_n 0, 1) := dk_42 (dk_at dksX6_gun_5 9 rfl rfl)
theorem dX6_gun_124 : decode cX6_gun 124 = .ok (.getfield 13, 3) := dk_180 0 13 (dk_at dksX6_gun_5 10 rfl rfl)
theorem dX6_gun_127 : decode cX6_gun 127 = .ok (.iload 5, 2) := dk_21 5 (dk_at dksX6_gun_5 13 rfl rfl)
theorem dX6_gun_129 : decode cX6_gun 129 = .ok (.iconst 3, 1) := dk_6 (dk_at dksX6_gun_5 15 rfl rfl)
theorem dX6_gun_130 : decode cX6_gun 130 = .ok (.iadd, 1) := dk_96 (dk_at dksX6_gun_5 16 rfl rfl)
theorem dX6_gun_131 : decode cX6_gun 131 = .ok (.iload 4, 2) := dk_21 4 (dk_at dksX6_gun_5 17 rfl rfl)
theorem dX6_gun_133 : decode cX6_gun 133 = .ok (.iastore, 1) := dk_79 (dk_at dksX6_gun_5 19 rfl rfl)
theorem dX6_gun_134 : decode cX6_gun 134 = .ok (.aload_n 0, 1) := dk_42 (dk_at dksX6_gun_5 20 rfl rfl)
theorem dX6_gun_135 : decode cX6_gun 135 = .ok (.getfield 13, 3) := dk_180 0 13 (dk_at dksX6_gun_5 21 rfl rfl)
theorem dX6_gun_138 : decode cX6_gun 138 = .ok (.iconst 0, 1) := dk_3 (dk_at dksX6_gun_6 0 rfl rfl)
theorem dX6_gun_139 : decode cX6_gun 139 = .ok (.dup2, 1) := dk_92 (dk_at dksX6_gun_6 1 rfl rfl)
theorem dX6_gun_140 : decode cX6_gun 140 = .ok (.iaload, 1) := dk_46 (dk_at dksX6_gun_6 2 rfl rfl)
theorem dX6_gun_141 : decode cX6_gun 141 = .ok (.iconst 1, 1) := dk_4 (dk_at dksX6_gun_6 3 rfl rfl)
theorem dX6_gun_142 : decode cX6_gun 142 = .ok (.iadd, 1) := dk_96 (dk_at dksX6_gun_6 4 rfl rfl)
theorem dX6_gun_143 : decode cX6_gun 143 = .ok (.iastore, 1) := dk_79 (dk_at dksX6_gun_6 5 rfl rfl)
theorem dX6_gun_144 : decode cX6_gun 144 = .ok (.aload_n 0, 1) := dk_42 (dk_at dksX6_gun_6 6 rfl rfl)
theorem dX6_gun_145 : decode cX6_gun 145 = .ok (.getfield 13, 3) := dk_180 0 13 (dk_at dksX6_gun_6 7 rfl rfl)
theorem dX6_gun_148 : decode cX6_gun 148 = .ok (.iconst 0, 1) := dk_3 (dk_at dksX6_gun_6 10 rfl rfl)
theorem dX6_gun_149 : decode cX6_gun 149 = .ok (.iaload, 1) := dk_46 (dk_at dksX6_gun_6 11 rfl rfl)
theorem dX6_gun_150 : decode cX6_gun 150 = .ok (.iconst 1, 1) := dk_4 (dk_at dksX6_gun_6 12 rfl rfl)
theorem dX6_gun_151 : decode cX6_gun 151 = .ok (.isub, 1) := dk_100 (dk_at dksX6_gun_6 13 rfl rfl)
theorem dX6_gun_152 : decode cX6_gun 152 = .ok (.ireturn, 1) := dk_172 (dk_at dksX6_gun_6 14 rfl rfl)
abbrev cX6_noYear : ByteArray := prog_30_method_9_code
def yX6_noYear : MethodName := ⟨RX6, "noYear", "(I)Z"⟩
def dkwX6_noYear_0 : List UInt8 := [26, 17, 7, 8, 17, 7, 207, 184, 0, 59, 154, 0, 7, 4, 167, 0, 4, 3, 172]
abbrev dktX6_noYear_0 : List UInt8 := dkwX6_noYear_0 ++ []
theorem dksX6_noYear_0 : cX6_noYear.data.toList.drop 0 = dktX6_noYear_0 := by decide +kernel
theorem dX6_noYear_0 : decode cX6_noYear 0 = .ok (.iload_n 0, 1) := dk_26 (dk_at dksX6_noYear_0 0 rfl rfl)
theorem dX6_noYear_1 : decode cX6_noYear 1 = .ok (.sipush 1800, 3) := dk_17 7 8 (dk_at dksX6_noYear_0 1 rfl rfl)
theorem dX6_noYear_4 : decode cX6_noYear 4 = .ok (.sipush 1999, 3) := dk_17 7 207 (dk_at dksX6_noYear_0 4 rfl rfl)
theorem dX6_noYear_7 : decode cX6_noYear 7 = .ok (.invokestatic 59, 3) := dk_184 0 59 (dk_at dksX6_noYear_0 7 rfl rfl)
theorem dX6_noYear_10 : decode cX6_noYear 10 = .ok (.ifCond .ne 7, 3) := dk_154 0 7 (dk_at dksX6_noYear_0 10 rfl rfl)
theorem dX6_noYear_13 : decode cX6_noYear 13 = .ok (.iconst 1, 1) := dk_4 (dk_at dksX6_noYear_0 13 rfl rfl)
theorem dX6_noYear_14 : decode cX6_noYear 14 = .ok (.goto 4, 3) := dk_167 0 4 (dk_at dksX6_noYear_0 14 rfl rfl)
theorem dX6_noYear_17 : decode cX6_noYear 17 = .ok (.iconst 0, 1) := dk_3 (dk_at dksX6_noYear_0 17 rfl rfl)
theorem dX6_noYear_18 : decode cX6_noYear 18 = .ok (.ireturn, 1) := dk_172 (dk_at dksX6_noYear_0 18 rfl rfl)
abbrev cX6_day : ByteArray := prog_30_method_18_code
def yX6_day : MethodName := ⟨RX6, "day", "(I)V"⟩
def dkwX6_day_1 : List UInt8 := [27, 79, 177]
abbrev dktX6_day_1 : List UInt8 := dkwX6_day_1 ++ []
def dkwX6_day_0 : List UInt8 := [42, 3, 181, 0, 3, 42, 27, 184, 0, 100, 4, 182, 0, 80, 153, 0, 4, 177, 42, 180, 0, 13, 16, 8]
abbrev dktX6_day_0 : List UInt8 := dkwX6_day_0 ++ dktX6_day_1
theorem dksX6_day_0 : cX6_day.data.toList.drop 0 = dktX6_day_0 := by decide +kernel
theorem dksX6_day_1 : cX6_day.data.toList.drop 24 = dktX6_day_1 := dk_seg dksX6_day_0 24 rfl rfl
theorem dX6_day_0 : decode cX6_day 0 = .ok (.aload_n 0, 1) := dk_42 (dk_at dksX6_day_0 0 rfl rfl)
theorem dX6_day_1 : decode cX6_day 1 = .ok (.iconst 0, 1) := dk_3 (dk_at dksX6_day_0 1 rfl rfl)
theorem dX6_day_2 : decode cX6_day 2 = .ok (.putfield 3, 3) := dk_181 0 3 (dk_at dksX6_day_0 2 rfl rfl)
theorem dX6_day_5 : decode cX6_day 5 = .ok (.aload_n 0, 1) := dk_42 (dk_at dksX6_day_0 5 rfl rfl)
theorem dX6_day_6 : decode cX6_day 6 = .ok (.iload_n 1, 1) := dk_27 (dk_at dksX6_day_0 6 rfl rfl)
theorem dX6_day_7 : decode cX6_day 7 = .ok (.invokestatic 100, 3) := dk_184 0 100 (dk_at dksX6_day_0 7 rfl rfl)
theorem dX6_day_10 : decode cX6_day 10 = .ok (.iconst 1, 1) := dk_4 (dk_at dksX6_day_0 10 rfl rfl)
theorem dX6_day_11 : decode cX6_day 11 = .ok (.invokevirtual 80, 3) := dk_182 0 80 (dk_at dksX6_day_0 11 rfl rfl)
theorem dX6_day_14 : decode cX6_day 14 = .ok (.ifCond .eq 4, 3) := dk_153 0 4 (dk_at dksX6_day_0 14 rfl rfl)
theorem dX6_day_17 : decode cX6_day 17 = .ok (.return_, 1) := dk_177 (dk_at dksX6_day_0 17 rfl rfl)
theorem dX6_day_18 : decode cX6_day 18 = .ok (.aload_n 0, 1) := dk_42 (dk_at dksX6_day_0 18 rfl rfl)
theorem dX6_day_19 : decode cX6_day 19 = .ok (.getfield 13, 3) := dk_180 0 13 (dk_at dksX6_day_0 19 rfl rfl)
theorem dX6_day_22 : decode cX6_day 22 = .ok (.bipush 8, 2) := dk_16 8 (dk_at dksX6_day_0 22 rfl rfl)
theorem dX6_day_24 : decode cX6_day 24 = .ok (.iload_n 1, 1) := dk_27 (dk_at dksX6_day_1 0 rfl rfl)
theorem dX6_day_25 : decode cX6_day 25 = .ok (.iastore, 1) := dk_79 (dk_at dksX6_day_1 1 rfl rfl)
theorem dX6_day_26 : decode cX6_day 26 = .ok (.return_, 1) := dk_177 (dk_at dksX6_day_1 2 rfl rfl)
abbrev cX6_feed : ByteArray := prog_30_method_19_code
def yX6_feed : MethodName := ⟨RX6, "feed", "(IIIII)I"⟩
def dkwX6_feed_5 : List UInt8 := [180, 0, 103, 172]
abbrev dktX6_feed_5 : List UInt8 := dkwX6_feed_5 ++ []
def dkwX6_feed_4 : List UInt8 := [100, 122, 145, 84, 132, 6, 1, 167, 255, 213, 42, 89, 180, 0, 103, 16, 20, 96, 181, 0, 103, 42]
abbrev dktX6_feed_4 : List UInt8 := dkwX6_feed_4 ++ dktX6_feed_5
def dkwX6_feed_3 : List UInt8 := [180, 0, 103, 21, 6, 96, 42, 180, 0, 27, 21, 6, 7, 108, 46, 16, 24, 16, 8, 21, 6, 7, 112, 104]
abbrev dktX6_feed_3 : List UInt8 := dkwX6_feed_3 ++ dktX6_feed_4
def dkwX6_feed_2 : List UInt8 := [79, 42, 180, 0, 27, 7, 21, 5, 79, 3, 54, 6, 21, 6, 16, 20, 162, 0, 42, 42, 180, 0, 20, 42]
abbrev dktX6_feed_2 : List UInt8 := dkwX6_feed_2 ++ dktX6_feed_3
def dkwX6_feed_1 : List UInt8 := [3, 27, 79, 42, 180, 0, 27, 4, 28, 79, 42, 180, 0, 27, 5, 29, 79, 42, 180, 0, 27, 6, 21, 4]
abbrev dktX6_feed_1 : List UInt8 := dkwX6_feed_1 ++ dktX6_feed_2
def dkwX6_feed_0 : List UInt8 := [42, 3, 181, 0, 3, 42, 180, 0, 103, 16, 20, 96, 17, 1, 144, 164, 0, 5, 2, 172, 42, 180, 0, 27]
abbrev dktX6_feed_0 : List UInt8 := dkwX6_feed_0 ++ dktX6_feed_1
theorem dksX6_feed_0 : cX6_feed.data.toList.drop 0 = dktX6_feed_0 := by decide +kernel
theorem dksX6_feed_1 : cX6_feed.data.toList.drop 24 = dktX6_feed_1 := dk_seg dksX6_feed_0 24 rfl rfl
theorem dksX6_feed_2 : cX6_feed.data.toList.drop 48 = dktX6_feed_2 := dk_seg dksX6_feed_1 24 rfl rfl
theorem dksX6_feed_3 : cX6_feed.data.toList.drop 72 = dktX6_feed_3 := dk_seg dksX6_feed_2 24 rfl rfl
theorem dksX6_feed_4 : cX6_feed.data.toList.drop 96 = dktX6_feed_4 := dk_seg dksX6_feed_3 24 rfl rfl
theorem dksX6_feed_5 : cX6_feed.data.toList.drop 118 = dktX6_feed_5 := dk_seg dksX6_feed_4 22 rfl rfl
theorem dX6_feed_0 : decode cX6_feed 0 = .ok (.aload_n 0, 1) := dk_42 (dk_at dksX6_feed_0 0 rfl rfl)
theorem dX6_feed_1 : decode cX6_feed 1 = .ok (.iconst 0, 1) := dk_3 (dk_at dksX6_feed_0 1 rfl rfl)
theorem dX6_feed_2 : decode cX6_feed 2 = .ok (.putfield 3, 3) := dk_181 0 3 (dk_at dksX6_feed_0 2 rfl rfl)
theorem dX6_feed_5 : decode cX6_feed 5 = .ok (.aload_n 0, 1) := dk_42 (dk_at dksX6_feed_0 5 rfl rfl)
theorem dX6_feed_6 : decode cX6_feed 6 = .ok (.getfield 103, 3) := dk_180 0 103 (dk_at dksX6_feed_0 6 rfl rfl)
theorem dX6_feed_9 : decode cX6_feed 9 = .ok (.bipush 20, 2) := dk_16 20 (dk_at dksX6_feed_0 9 rfl rfl)
theorem dX6_feed_11 : decode cX6_feed 11 = .ok (.iadd, 1) := dk_96 (dk_at dksX6_feed_0 11 rfl rfl)
theorem dX6_feed_12 : decode cX6_feed 12 = .ok (.sipush 400, 3) := dk_17 1 144 (dk_at dksX6_feed_0 12 rfl rfl)
theorem dX6_feed_15 : decode cX6_feed 15 = .ok (.if_icmp .le 5, 3) := dk_164 0 5 (dk_at dksX6_feed_0 15 rfl rfl)
theorem dX6_feed_18 : decode cX6_feed 18 = .ok (.iconst (-1), 1) := dk_2 (dk_at dksX6_feed_0 18 rfl rfl)
theorem dX6_feed_19 : decode cX6_feed 19 = .ok (.ireturn, 1) := dk_172 (dk_at dksX6_feed_0 19 rfl rfl)
theorem dX6_feed_20 : decode cX6_feed 20 = .ok (.aload_n 0, 1) := dk_42 (dk_at dksX6_feed_0 20 rfl rfl)
theorem dX6_feed_21 : decode cX6_feed 21 = .ok (.getfield 27, 3) := dk_180 0 27 (dk_at dksX6_feed_0 21 rfl rfl)
theorem dX6_feed_24 : decode cX6_feed 24 = .ok (.iconst 0, 1) := dk_3 (dk_at dksX6_feed_1 0 rfl rfl)
theorem dX6_feed_25 : decode cX6_feed 25 = .ok (.iload_n 1, 1) := dk_27 (dk_at dksX6_feed_1 1 rfl rfl)
theorem dX6_feed_26 : decode cX6_feed 26 = .ok (.iastore, 1) := dk_79 (dk_at dksX6_feed_1 2 rfl rfl)
theorem dX6_feed_27 : decode cX6_feed 27 = .ok (.aload_n 0, 1) := dk_42 (dk_at dksX6_feed_1 3 rfl rfl)
theorem dX6_feed_28 : decode cX6_feed 28 = .ok (.getfield 27, 3) := dk_180 0 27 (dk_at dksX6_feed_1 4 rfl rfl)
theorem dX6_feed_31 : decode cX6_feed 31 = .ok (.iconst 1, 1) := dk_4 (dk_at dksX6_feed_1 7 rfl rfl)
theorem dX6_feed_32 : decode cX6_feed 32 = .ok (.iload_n 2, 1) := dk_28 (dk_at dksX6_feed_1 8 rfl rfl)
theorem dX6_feed_33 : decode cX6_feed 33 = .ok (.iastore, 1) := dk_79 (dk_at dksX6_feed_1 9 rfl rfl)
theorem dX6_feed_34 : decode cX6_feed 34 = .ok (.aload_n 0, 1) := dk_42 (dk_at dksX6_feed_1 10 rfl rfl)
theorem dX6_feed_35 : decode cX6_feed 35 = .ok (.getfield 27, 3) := dk_180 0 27 (dk_at dksX6_feed_1 11 rfl rfl)
theorem dX6_feed_38 : decode cX6_feed 38 = .ok (.iconst 2, 1) := dk_5 (dk_at dksX6_feed_1 14 rfl rfl)
theorem dX6_feed_39 : decode cX6_feed 39 = .ok (.iload_n 3, 1) := dk_29 (dk_at dksX6_feed_1 15 rfl rfl)
theorem dX6_feed_40 : decode cX6_feed 40 = .ok (.iastore, 1) := dk_79 (dk_at dksX6_feed_1 16 rfl rfl)
theorem dX6_feed_41 : decode cX6_feed 41 = .ok (.aload_n 0, 1) := dk_42 (dk_at dksX6_feed_1 17 rfl rfl)
theorem dX6_feed_42 : decode cX6_feed 42 = .ok (.getfield 27, 3) := dk_180 0 27 (dk_at dksX6_feed_1 18 rfl rfl)
theorem dX6_feed_45 : decode cX6_feed 45 = .ok (.iconst 3, 1) := dk_6 (dk_at dksX6_feed_1 21 rfl rfl)
theorem dX6_feed_46 : decode cX6_feed 46 = .ok (.iload 4, 2) := dk_21 4 (dk_at dksX6_feed_1 22 rfl rfl)
theorem dX6_feed_48 : decode cX6_feed 48 = .ok (.iastore, 1) := dk_79 (dk_at dksX6_feed_2 0 rfl rfl)
theorem dX6_feed_49 : decode cX6_feed 49 = .ok (.aload_n 0, 1) := dk_42 (dk_at dksX6_feed_2 1 rfl rfl)
theorem dX6_feed_50 : decode cX6_feed 50 = .ok (.getfield 27, 3) := dk_180 0 27 (dk_at dksX6_feed_2 2 rfl rfl)
theorem dX6_feed_53 : decode cX6_feed 53 = .ok (.iconst 4, 1) := dk_7 (dk_at dksX6_feed_2 5 rfl rfl)
theorem dX6_feed_54 : decode cX6_feed 54 = .ok (.iload 5, 2) := dk_21 5 (dk_at dksX6_feed_2 6 rfl rfl)
theorem dX6_feed_56 : decode cX6_feed 56 = .ok (.iastore, 1) := dk_79 (dk_at dksX6_feed_2 8 rfl rfl)
theorem dX6_feed_57 : decode cX6_feed 57 = .ok (.iconst 0, 1) := dk_3 (dk_at dksX6_feed_2 9 rfl rfl)
theorem dX6_feed_58 : decode cX6_feed 58 = .ok (.istore 6, 2) := dk_54 6 (dk_at dksX6_feed_2 10 rfl rfl)
theorem dX6_feed_60 : decode cX6_feed 60 = .ok (.iload 6, 2) := dk_21 6 (dk_at dksX6_feed_2 12 rfl rfl)
theorem dX6_feed_62 : decode cX6_feed 62 = .ok (.bipush 20, 2) := dk_16 20 (dk_at dksX6_feed_2 14 rfl rfl)
theorem dX6_feed_64 : decode cX6_feed 64 = .ok (.if_icmp .ge 42, 3) := dk_162 0 42 (dk_at dksX6_feed_2 16 rfl rfl)
theorem dX6_feed_67 : decode cX6_feed 67 = .ok (.aload_n 0, 1) := dk_42 (dk_at dksX6_feed_2 19 rfl rfl)
theorem dX6_feed_68 : decode cX6_feed 68 = .ok (.getfield 20, 3) := dk_180 0 20 (dk_at dksX6_feed_2 20 rfl rfl)
theorem dX6_feed_71 : decode cX6_feed 71 = .ok (.aload_n 0, 1) := dk_42 (dk_at dksX6_feed_2 23 rfl rfl)
theorem dX6_feed_72 : decode cX6_feed 72 = .ok (.getfield 103, 3) := dk_180 0 103 (dk_at dksX6_feed_3 0 rfl rfl)
theorem dX6_feed_75 : decode cX6_feed 75 = .ok (.iload 6, 2) := dk_21 6 (dk_at dksX6_feed_3 3 rfl rfl)
theorem dX6_feed_77 : decode cX6_feed 77 = .ok (.iadd, 1) := dk_96 (dk_at dksX6_feed_3 5 rfl rfl)
theorem dX6_feed_78 : decode cX6_feed 78 = .ok (.aload_n 0, 1) := dk_42 (dk_at dksX6_feed_3 6 rfl rfl)
theorem dX6_feed_79 : decode cX6_feed 79 = .ok (.getfield 27, 3) := dk_180 0 27 (dk_at dksX6_feed_3 7 rfl rfl)
theorem dX6_feed_82 : decode cX6_feed 82 = .ok (.iload 6, 2) := dk_21 6 (dk_at dksX6_feed_3 10 rfl rfl)
theorem dX6_feed_84 : decode cX6_feed 84 = .ok (.iconst 4, 1) := dk_7 (dk_at dksX6_feed_3 12 rfl rfl)
theorem dX6_feed_85 : decode cX6_feed 85 = .ok (.idiv, 1) := dk_108 (dk_at dksX6_feed_3 13 rfl rfl)
theorem dX6_feed_86 : decode cX6_feed 86 = .ok (.iaload, 1) := dk_46 (dk_at dksX6_feed_3 14 rfl rfl)
theorem dX6_feed_87 : decode cX6_feed 87 = .ok (.bipush 24, 2) := dk_16 24 (dk_at dksX6_feed_3 15 rfl rfl)
theorem dX6_feed_89 : decode cX6_feed 89 = .ok (.bipush 8, 2) := dk_16 8 (dk_at dksX6_feed_3 17 rfl rfl)
theorem dX6_feed_91 : decode cX6_feed 91 = .ok (.iload 6, 2) := dk_21 6 (dk_at dksX6_feed_3 19 rfl rfl)
theorem dX6_feed_93 : decode cX6_feed 93 = .ok (.iconst 4, 1) := dk_7 (dk_at dksX6_feed_3 21 rfl rfl)
theorem dX6_feed_94 : decode cX6_feed 94 = .ok (.irem, 1) := dk_112 (dk_at dksX6_feed_3 22 rfl rfl)
theorem dX6_feed_95 : decode cX6_feed 95 = .ok (.imul, 1) := dk_104 (dk_at dksX6_feed_3 23 rfl rfl)
theorem dX6_feed_96 : decode cX6_feed 96 = .ok (.isub, 1) := dk_100 (dk_at dksX6_feed_4 0 rfl rfl)
theorem dX6_feed_97 : decode cX6_feed 97 = .ok (.ishr, 1) := dk_122 (dk_at dksX6_feed_4 1 rfl rfl)
theorem dX6_feed_98 : decode cX6_feed 98 = .ok (.i2b, 1) := dk_145 (dk_at dksX6_feed_4 2 rfl rfl)
theorem dX6_feed_99 : decode cX6_feed 99 = .ok (.bastore, 1) := dk_84 (dk_at dksX6_feed_4 3 rfl rfl)
theorem dX6_feed_100 : decode cX6_feed 100 = .ok (.iinc 6 1, 3) := dk_132 6 1 (dk_at dksX6_feed_4 4 rfl rfl)
theorem dX6_feed_103 : decode cX6_feed 103 = .ok (.goto (-43), 3) := dk_167 255 213 (dk_at dksX6_feed_4 7 rfl rfl)
theorem dX6_feed_106 : decode cX6_feed 106 = .ok (.aload_n 0, 1) := dk_42 (dk_at dksX6_feed_4 10 rfl rfl)
theorem dX6_feed_107 : decode cX6_feed 107 = .ok (.dup, 1) := dk_89 (dk_at dksX6_feed_4 11 rfl rfl)
theorem dX6_feed_108 : decode cX6_feed 108 = .ok (.getfield 103, 3) := dk_180 0 103 (dk_at dksX6_feed_4 12 rfl rfl)
theorem dX6_feed_111 : decode cX6_feed 111 = .ok (.bipush 20, 2) := dk_16 20 (dk_at dksX6_feed_4 15 rfl rfl)
theorem dX6_feed_113 : decode cX6_feed 113 = .ok (.iadd, 1) := dk_96 (dk_at dksX6_feed_4 17 rfl rfl)
theorem dX6_feed_114 : decode cX6_feed 114 = .ok (.putfield 103, 3) := dk_181 0 103 (dk_at dksX6_feed_4 18 rfl rfl)
theorem dX6_feed_117 : decode cX6_feed 117 = .ok (.aload_n 0, 1) := dk_42 (dk_at dksX6_feed_4 21 rfl rfl)
theorem dX6_feed_118 : decode cX6_feed 118 = .ok (.getfield 103, 3) := dk_180 0 103 (dk_at dksX6_feed_5 0 rfl rfl)
theorem dX6_feed_121 : decode cX6_feed 121 = .ok (.ireturn, 1) := dk_172 (dk_at dksX6_feed_5 3 rfl rfl)
abbrev cX6_end : ByteArray := prog_30_method_20_code
def yX6_end : MethodName := ⟨RX6, "end", "(I)Z"⟩
def dkwX6_end_1 : List UInt8 := [4, 172]
abbrev dktX6_end_1 : List UInt8 := dkwX6_end_1 ++ []
def dkwX6_end_0 : List UInt8 := [42, 3, 181, 0, 3, 27, 155, 0, 11, 27, 42, 180, 0, 103, 164, 0, 5, 3, 172, 42, 27, 181, 0, 103]
abbrev dktX6_end_0 : List UInt8 := dkwX6_end_0 ++ dktX6_end_1
theorem dksX6_end_0 : cX6_end.data.toList.drop 0 = dktX6_end_0 := by decide +kernel
theorem dksX6_end_1 : cX6_end.data.toList.drop 24 = dktX6_end_1 := dk_seg dksX6_end_0 24 rfl rfl
theorem dX6_end_0 : decode cX6_end 0 = .ok (.aload_n 0, 1) := dk_42 (dk_at dksX6_end_0 0 rfl rfl)
theorem dX6_end_1 : decode cX6_end 1 = .ok (.iconst 0, 1) := dk_3 (dk_at dksX6_end_0 1 rfl rfl)
theorem dX6_end_2 : decode cX6_end 2 = .ok (.putfield 3, 3) := dk_181 0 3 (dk_at dksX6_end_0 2 rfl rfl)
theorem dX6_end_5 : decode cX6_end 5 = .ok (.iload_n 1, 1) := dk_27 (dk_at dksX6_end_0 5 rfl rfl)
theorem dX6_end_6 : decode cX6_end 6 = .ok (.ifCond .lt 11, 3) := dk_155 0 11 (dk_at dksX6_end_0 6 rfl rfl)
theorem dX6_end_9 : decode cX6_end 9 = .ok (.iload_n 1, 1) := dk_27 (dk_at dksX6_end_0 9 rfl rfl)
theorem dX6_end_10 : decode cX6_end 10 = .ok (.aload_n 0, 1) := dk_42 (dk_at dksX6_end_0 10 rfl rfl)
theorem dX6_end_11 : decode cX6_end 11 = .ok (.getfield 103, 3) := dk_180 0 103 (dk_at dksX6_end_0 11 rfl rfl)
theorem dX6_end_14 : decode cX6_end 14 = .ok (.if_icmp .le 5, 3) := dk_164 0 5 (dk_at dksX6_end_0 14 rfl rfl)
theorem dX6_end_17 : decode cX6_end 17 = .ok (.iconst 0, 1) := dk_3 (dk_at dksX6_end_0 17 rfl rfl)
theorem dX6_end_18 : decode cX6_end 18 = .ok (.ireturn, 1) := dk_172 (dk_at dksX6_end_0 18 rfl rfl)
theorem dX6_end_19 : decode cX6_end 19 = .ok (.aload_n 0, 1) := dk_42 (dk_at dksX6_end_0 19 rfl rfl)
theorem dX6_end_20 : decode cX6_end 20 = .ok (.iload_n 1, 1) := dk_27 (dk_at dksX6_end_0 20 rfl rfl)
theorem dX6_end_21 : decode cX6_end 21 = .ok (.putfield 103, 3) := dk_181 0 103 (dk_at dksX6_end_0 21 rfl rfl)
theorem dX6_end_24 : decode cX6_end 24 = .ok (.iconst 1, 1) := dk_4 (dk_at dksX6_end_1 0 rfl rfl)
theorem dX6_end_25 : decode cX6_end 25 = .ok (.ireturn, 1) := dk_172 (dk_at dksX6_end_1 1 rfl rfl)
abbrev cX6_fault : ByteArray := prog_30_method_29_code
def yX6_fault : MethodName := ⟨RX6, "fault", "()I"⟩
def dkwX6_fault_0 : List UInt8 := [42, 3, 181, 0, 3, 42, 180, 0, 24, 172]
abbrev dktX6_fault_0 : List UInt8 := dkwX6_fault_0 ++ []
theorem dksX6_fault_0 : cX6_fault.data.toList.drop 0 = dktX6_fault_0 := by decide +kernel
theorem dX6_fault_0 : decode cX6_fault 0 = .ok (.aload_n 0, 1) := dk_42 (dk_at dksX6_fault_0 0 rfl rfl)
theorem dX6_fault_1 : decode cX6_fault 1 = .ok (.iconst 0, 1) := dk_3 (dk_at dksX6_fault_0 1 rfl rfl)
theorem dX6_fault_2 : decode cX6_fault 2 = .ok (.putfield 3, 3) := dk_181 0 3 (dk_at dksX6_fault_0 2 rfl rfl)
theorem dX6_fault_5 : decode cX6_fault 5 = .ok (.aload_n 0, 1) := dk_42 (dk_at dksX6_fault_0 5 rfl rfl)
theorem dX6_fault_6 : decode cX6_fault 6 = .ok (.getfield 24, 3) := dk_180 0 24 (dk_at dksX6_fault_0 6 rfl rfl)
theorem dX6_fault_9 : decode cX6_fault 9 = .ok (.ireturn, 1) := dk_172 (dk_at dksX6_fault_0 9 rfl rfl)
abbrev cX6_law : ByteArray := prog_30_method_47_code
def yX6_law : MethodName := ⟨RX6, "law", "()I"⟩
def dkwX6_law_3 : List UInt8 := [46, 4, 100, 172]
abbrev dktX6_law_3 : List UInt8 := dkwX6_law_3 ++ []
def dkwX6_law_2 : List UInt8 := [42, 180, 0, 13, 5, 46, 182, 1, 4, 42, 180, 0, 13, 5, 92, 46, 4, 96, 79, 42, 180, 0, 13, 5]
abbrev dktX6_law_2 : List UInt8 := dkwX6_law_2 ++ dktX6_law_3
def dkwX6_law_1 : List UInt8 := [180, 0, 13, 5, 46, 7, 160, 0, 7, 4, 167, 0, 4, 3, 5, 182, 0, 80, 153, 0, 5, 3, 172, 42]
abbrev dktX6_law_1 : List UInt8 := dkwX6_law_1 ++ dktX6_law_2
def dkwX6_law_0 : List UInt8 := [42, 42, 3, 182, 1, 0, 154, 0, 7, 4, 167, 0, 4, 3, 4, 182, 0, 80, 154, 0, 26, 42, 42]
abbrev dktX6_law_0 : List UInt8 := dkwX6_law_0 ++ dktX6_law_1
theorem dksX6_law_0 : cX6_law.data.toList.drop 0 = dktX6_law_0 := by decide +kernel
theorem dksX6_law_1 : cX6_law.data.toList.drop 23 = dktX6_law_1 := dk_seg dksX6_law_0 23 rfl rfl
theorem dksX6_law_2 : cX6_law.data.toList.drop 47 = dktX6_law_2 := dk_seg dksX6_law_1 24 rfl rfl
theorem dksX6_law_3 : cX6_law.data.toList.drop 71 = dktX6_law_3 := dk_seg dksX6_law_2 24 rfl rfl
theorem dX6_law_0 : decode cX6_law 0 = .ok (.aload_n 0, 1) := dk_42 (dk_at dksX6_law_0 0 rfl rfl)
theorem dX6_law_1 : decode cX6_law 1 = .ok (.aload_n 0, 1) := dk_42 (dk_at dksX6_law_0 1 rfl rfl)
theorem dX6_law_2 : decode cX6_law 2 = .ok (.iconst 0, 1) := dk_3 (dk_at dksX6_law_0 2 rfl rfl)
theorem dX6_law_3 : decode cX6_law 3 = .ok (.invokevirtual 256, 3) := dk_182 1 0 (dk_at dksX6_law_0 3 rfl rfl)
theorem dX6_law_6 : decode cX6_law 6 = .ok (.ifCond .ne 7, 3) := dk_154 0 7 (dk_at dksX6_law_0 6 rfl rfl)
theorem dX6_law_9 : decode cX6_law 9 = .ok (.iconst 1, 1) := dk_4 (dk_at dksX6_law_0 9 rfl rfl)
theorem dX6_law_10 : decode cX6_law 10 = .ok (.goto 4, 3) := dk_167 0 4 (dk_at dksX6_law_0 10 rfl rfl)
theorem dX6_law_13 : decode cX6_law 13 = .ok (.iconst 0, 1) := dk_3 (dk_at dksX6_law_0 13 rfl rfl)
theorem dX6_law_14 : decode cX6_law 14 = .ok (.iconst 1, 1) := dk_4 (dk_at dksX6_law_0 14 rfl rfl)
theorem dX6_law_15 : decode cX6_law 15 = .ok (.invokevirtual 80, 3) := dk_182 0 80 (dk_at dksX6_law_0 15 rfl rfl)
theorem dX6_law_18 : decode cX6_law 18 = .ok (.ifCond .ne 26, 3) := dk_154 0 26 (dk_at dksX6_law_0 18 rfl rfl)
theorem dX6_law_21 : decode cX6_law 21 = .ok (.aload_n 0, 1) := dk_42 (dk_at dksX6_law_0 21 rfl rfl)
theorem dX6_law_22 : decode cX6_law 22 = .ok (.aload_n 0, 1) := dk_42 (dk_at dksX6_law_0 22 rfl rfl)
theorem dX6_law_23 : decode cX6_law 23 = .ok (.getfield 13, 3) := dk_180 0 13 (dk_at dksX6_law_1 0 rfl rfl)
theorem dX6_law_26 : decode cX6_law 26 = .ok (.iconst 2, 1) := dk_5 (dk_at dksX6_law_1 3 rfl rfl)
theorem dX6_law_27 : decode cX6_law 27 = .ok (.iaload, 1) := dk_46 (dk_at dksX6_law_1 4 rfl rfl)
theorem dX6_law_28 : decode cX6_law 28 = .ok (.iconst 4, 1) := dk_7 (dk_at dksX6_law_1 5 rfl rfl)
theorem dX6_law_29 : decode cX6_law 29 = .ok (.if_icmp .ne 7, 3) := dk_160 0 7 (dk_at dksX6_law_1 6 rfl rfl)
theorem dX6_law_32 : decode cX6_law 32 = .ok (.iconst 1, 1) := dk_4 (dk_at dksX6_law_1 9 rfl rfl)
theorem dX6_law_33 : decode cX6_law 33 = .ok (.goto 4, 3) := dk_167 0 4 (dk_at dksX6_law_1 10 rfl rfl)
theorem dX6_law_36 : decode cX6_law 36 = .ok (.iconst 0, 1) := dk_3 (dk_at dksX6_law_1 13 rfl rfl)
theorem dX6_law_37 : decode cX6_law 37 = .ok (.iconst 2, 1) := dk_5 (dk_at dksX6_law_1 14 rfl rfl)
theorem dX6_law_38 : decode cX6_law 38 = .ok (.invokevirtual 80, 3) := dk_182 0 80 (dk_at dksX6_law_1 15 rfl rfl)
theorem dX6_law_41 : decode cX6_law 41 = .ok (.ifCond .eq 5, 3) := dk_153 0 5 (dk_at dksX6_law_1 18 rfl rfl)
theorem dX6_law_44 : decode cX6_law 44 = .ok (.iconst 0, 1) := dk_3 (dk_at dksX6_law_1 21 rfl rfl)
theorem dX6_law_45 : decode cX6_law 45 = .ok (.ireturn, 1) := dk_172 (dk_at dksX6_law_1 22 rfl rfl)
theorem dX6_law_46 : decode cX6_law 46 = .ok (.aload_n 0, 1) := dk_42 (dk_at dksX6_law_1 23 rfl rfl)
theorem dX6_law_47 : decode cX6_law 47 = .ok (.aload_n 0, 1) := dk_42 (dk_at dksX6_law_2 0 rfl rfl)
theorem dX6_law_48 : decode cX6_law 48 = .ok (.getfield 13, 3) := dk_180 0 13 (dk_at dksX6_law_2 1 rfl rfl)
theorem dX6_law_51 : decode cX6_law 51 = .ok (.iconst 2, 1) := dk_5 (dk_at dksX6_law_2 4 rfl rfl)
theorem dX6_law_52 : decode cX6_law 52 = .ok (.iaload, 1) := dk_46 (dk_at dksX6_law_2 5 rfl rfl)
theorem dX6_law_53 : decode cX6_law 53 = .ok (.invokevirtual 260, 3) := dk_182 1 4 (dk_at dksX6_law_2 6 rfl rfl)
theorem dX6_law_56 : decode cX6_law 56 = .ok (.aload_n 0, 1) := dk_42 (dk_at dksX6_law_2 9 rfl rfl)
theorem dX6_law_57 : decode cX6_law 57 = .ok (.getfield 13, 3) := dk_180 0 13 (dk_at dksX6_law_2 10 rfl rfl)
theorem dX6_law_60 : decode cX6_law 60 = .ok (.iconst 2, 1) := dk_5 (dk_at dksX6_law_2 13 rfl rfl)
theorem dX6_law_61 : decode cX6_law 61 = .ok (.dup2, 1) := dk_92 (dk_at dksX6_law_2 14 rfl rfl)
theorem dX6_law_62 : decode cX6_law 62 = .ok (.iaload, 1) := dk_46 (dk_at dksX6_law_2 15 rfl rfl)
theorem dX6_law_63 : decode cX6_law 63 = .ok (.iconst 1, 1) := dk_4 (dk_at dksX6_law_2 16 rfl rfl)
theorem dX6_law_64 : decode cX6_law 64 = .ok (.iadd, 1) := dk_96 (dk_at dksX6_law_2 17 rfl rfl)
theorem dX6_law_65 : decode cX6_law 65 = .ok (.iastore, 1) := dk_79 (dk_at dksX6_law_2 18 rfl rfl)
theorem dX6_law_66 : decode cX6_law 66 = .ok (.aload_n 0, 1) := dk_42 (dk_at dksX6_law_2 19 rfl rfl)
theorem dX6_law_67 : decode cX6_law 67 = .ok (.getfield 13, 3) := dk_180 0 13 (dk_at dksX6_law_2 20 rfl rfl)
theorem dX6_law_70 : decode cX6_law 70 = .ok (.iconst 2, 1) := dk_5 (dk_at dksX6_law_2 23 rfl rfl)
theorem dX6_law_71 : decode cX6_law 71 = .ok (.iaload, 1) := dk_46 (dk_at dksX6_law_3 0 rfl rfl)
theorem dX6_law_72 : decode cX6_law 72 = .ok (.iconst 1, 1) := dk_4 (dk_at dksX6_law_3 1 rfl rfl)
theorem dX6_law_73 : decode cX6_law 73 = .ok (.isub, 1) := dk_100 (dk_at dksX6_law_3 2 rfl rfl)
theorem dX6_law_74 : decode cX6_law 74 = .ok (.ireturn, 1) := dk_172 (dk_at dksX6_law_3 3 rfl rfl)
abbrev cX6_reads : ByteArray := prog_30_method_45_code
def yX6_reads : MethodName := ⟨RX6, "reads", "(Z)Z"⟩
def dkwX6_reads_2 : List UInt8 := [184, 0, 144, 28, 79, 28, 155, 0, 7, 4, 167, 0, 4, 3, 172]
abbrev dktX6_reads_2 : List UInt8 := dkwX6_reads_2 ++ []
def dkwX6_reads_1 : List UInt8 := [61, 42, 28, 156, 0, 10, 42, 180, 0, 121, 167, 0, 4, 2, 181, 0, 24, 42, 180, 0, 13, 16, 9]
abbrev dktX6_reads_1 : List UInt8 := dkwX6_reads_1 ++ dktX6_reads_2
def dkwX6_reads_0 : List UInt8 := [42, 182, 0, 247, 42, 27, 181, 0, 151, 27, 153, 0, 10, 42, 182, 0, 250, 167, 0, 7, 42, 182, 0, 253]
abbrev dktX6_reads_0 : List UInt8 := dkwX6_reads_0 ++ dktX6_reads_1
theorem dksX6_reads_0 : cX6_reads.data.toList.drop 0 = dktX6_reads_0 := by decide +kernel
theorem dksX6_reads_1 : cX6_reads.data.toList.drop 24 = dktX6_reads_1 := dk_seg dksX6_reads_0 24 rfl rfl
theorem dksX6_reads_2 : cX6_reads.data.toList.drop 47 = dktX6_reads_2 := dk_seg dksX6_reads_1 23 rfl rfl
theorem dX6_reads_0 : decode cX6_reads 0 = .ok (.aload_n 0, 1) := dk_42 (dk_at dksX6_reads_0 0 rfl rfl)
theorem dX6_reads_1 : decode cX6_reads 1 = .ok (.invokevirtual 247, 3) := dk_182 0 247 (dk_at dksX6_reads_0 1 rfl rfl)
theorem dX6_reads_4 : decode cX6_reads 4 = .ok (.aload_n 0, 1) := dk_42 (dk_at dksX6_reads_0 4 rfl rfl)
theorem dX6_reads_5 : decode cX6_reads 5 = .ok (.iload_n 1, 1) := dk_27 (dk_at dksX6_reads_0 5 rfl rfl)
theorem dX6_reads_6 : decode cX6_reads 6 = .ok (.putfield 151, 3) := dk_181 0 151 (dk_at dksX6_reads_0 6 rfl rfl)
theorem dX6_reads_9 : decode cX6_reads 9 = .ok (.iload_n 1, 1) := dk_27 (dk_at dksX6_reads_0 9 rfl rfl)
theorem dX6_reads_10 : decode cX6_reads 10 = .ok (.ifCond .eq 10, 3) := dk_153 0 10 (dk_at dksX6_reads_0 10 rfl rfl)
theorem dX6_reads_13 : decode cX6_reads 13 = .ok (.aload_n 0, 1) := dk_42 (dk_at dksX6_reads_0 13 rfl rfl)
theorem dX6_reads_14 : decode cX6_reads 14 = .ok (.invokevirtual 250, 3) := dk_182 0 250 (dk_at dksX6_reads_0 14 rfl rfl)
theorem dX6_reads_17 : decode cX6_reads 17 = .ok (.goto 7, 3) := dk_167 0 7 (dk_at dksX6_reads_0 17 rfl rfl)
theorem dX6_reads_20 : decode cX6_reads 20 = .ok (.aload_n 0, 1) := dk_42 (dk_at dksX6_reads_0 20 rfl rfl)
theorem dX6_reads_21 : decode cX6_reads 21 = .ok (.invokevirtual 253, 3) := dk_182 0 253 (dk_at dksX6_reads_0 21 rfl rfl)
theorem dX6_reads_24 : decode cX6_reads 24 = .ok (.istore_n 2, 1) := dk_61 (dk_at dksX6_reads_1 0 rfl rfl)
theorem dX6_reads_25 : decode cX6_reads 25 = .ok (.aload_n 0, 1) := dk_42 (dk_at dksX6_reads_1 1 rfl rfl)
theorem dX6_reads_26 : decode cX6_reads 26 = .ok (.iload_n 2, 1) := dk_28 (dk_at dksX6_reads_1 2 rfl rfl)
theorem dX6_reads_27 : decode cX6_reads 27 = .ok (.ifCond .ge 10, 3) := dk_156 0 10 (dk_at dksX6_reads_1 3 rfl rfl)
theorem dX6_reads_30 : decode cX6_reads 30 = .ok (.aload_n 0, 1) := dk_42 (dk_at dksX6_reads_1 6 rfl rfl)
theorem dX6_reads_31 : decode cX6_reads 31 = .ok (.getfield 121, 3) := dk_180 0 121 (dk_at dksX6_reads_1 7 rfl rfl)
theorem dX6_reads_34 : decode cX6_reads 34 = .ok (.goto 4, 3) := dk_167 0 4 (dk_at dksX6_reads_1 10 rfl rfl)
theorem dX6_reads_37 : decode cX6_reads 37 = .ok (.iconst (-1), 1) := dk_2 (dk_at dksX6_reads_1 13 rfl rfl)
theorem dX6_reads_38 : decode cX6_reads 38 = .ok (.putfield 24, 3) := dk_181 0 24 (dk_at dksX6_reads_1 14 rfl rfl)
theorem dX6_reads_41 : decode cX6_reads 41 = .ok (.aload_n 0, 1) := dk_42 (dk_at dksX6_reads_1 17 rfl rfl)
theorem dX6_reads_42 : decode cX6_reads 42 = .ok (.getfield 13, 3) := dk_180 0 13 (dk_at dksX6_reads_1 18 rfl rfl)
theorem dX6_reads_45 : decode cX6_reads 45 = .ok (.bipush 9, 2) := dk_16 9 (dk_at dksX6_reads_1 21 rfl rfl)
theorem dX6_reads_47 : decode cX6_reads 47 = .ok (.invokestatic 144, 3) := dk_184 0 144 (dk_at dksX6_reads_2 0 rfl rfl)
theorem dX6_reads_50 : decode cX6_reads 50 = .ok (.iload_n 2, 1) := dk_28 (dk_at dksX6_reads_2 3 rfl rfl)
theorem dX6_reads_51 : decode cX6_reads 51 = .ok (.iastore, 1) := dk_79 (dk_at dksX6_reads_2 4 rfl rfl)
theorem dX6_reads_52 : decode cX6_reads 52 = .ok (.iload_n 2, 1) := dk_28 (dk_at dksX6_reads_2 5 rfl rfl)
theorem dX6_reads_53 : decode cX6_reads 53 = .ok (.ifCond .lt 7, 3) := dk_155 0 7 (dk_at dksX6_reads_2 6 rfl rfl)
theorem dX6_reads_56 : decode cX6_reads 56 = .ok (.iconst 1, 1) := dk_4 (dk_at dksX6_reads_2 9 rfl rfl)
theorem dX6_reads_57 : decode cX6_reads 57 = .ok (.goto 4, 3) := dk_167 0 4 (dk_at dksX6_reads_2 10 rfl rfl)
theorem dX6_reads_60 : decode cX6_reads 60 = .ok (.iconst 0, 1) := dk_3 (dk_at dksX6_reads_2 13 rfl rfl)
theorem dX6_reads_61 : decode cX6_reads 61 = .ok (.ireturn, 1) := dk_172 (dk_at dksX6_reads_2 14 rfl rfl)
abbrev cX6_uses : ByteArray := prog_30_method_21_code
def yX6_uses : MethodName := ⟨RX6, "uses", "()V"⟩
def dkwX6_uses_1 : List UInt8 := [3, 181, 0, 112, 42, 3, 181, 0, 115, 177]
abbrev dktX6_uses_1 : List UInt8 := dkwX6_uses_1 ++ []
def dkwX6_uses_0 : List UInt8 := [42, 3, 181, 0, 3, 42, 42, 180, 0, 103, 181, 0, 106, 42, 3, 181, 0, 103, 42, 3, 181, 0, 109, 42]
abbrev dktX6_uses_0 : List UInt8 := dkwX6_uses_0 ++ dktX6_uses_1
theorem dksX6_uses_0 : cX6_uses.data.toList.drop 0 = dktX6_uses_0 := by decide +kernel
theorem dksX6_uses_1 : cX6_uses.data.toList.drop 24 = dktX6_uses_1 := dk_seg dksX6_uses_0 24 rfl rfl
theorem dX6_uses_0 : decode cX6_uses 0 = .ok (.aload_n 0, 1) := dk_42 (dk_at dksX6_uses_0 0 rfl rfl)
theorem dX6_uses_1 : decode cX6_uses 1 = .ok (.iconst 0, 1) := dk_3 (dk_at dksX6_uses_0 1 rfl rfl)
theorem dX6_uses_2 : decode cX6_uses 2 = .ok (.putfield 3, 3) := dk_181 0 3 (dk_at dksX6_uses_0 2 rfl rfl)
theorem dX6_uses_5 : decode cX6_uses 5 = .ok (.aload_n 0, 1) := dk_42 (dk_at dksX6_uses_0 5 rfl rfl)
theorem dX6_uses_6 : decode cX6_uses 6 = .ok (.aload_n 0, 1) := dk_42 (dk_at dksX6_uses_0 6 rfl rfl)
theorem dX6_uses_7 : decode cX6_uses 7 = .ok (.getfield 103, 3) := dk_180 0 103 (dk_at dksX6_uses_0 7 rfl rfl)
theorem dX6_uses_10 : decode cX6_uses 10 = .ok (.putfield 106, 3) := dk_181 0 106 (dk_at dksX6_uses_0 10 rfl rfl)
theorem dX6_uses_13 : decode cX6_uses 13 = .ok (.aload_n 0, 1) := dk_42 (dk_at dksX6_uses_0 13 rfl rfl)
theorem dX6_uses_14 : decode cX6_uses 14 = .ok (.iconst 0, 1) := dk_3 (dk_at dksX6_uses_0 14 rfl rfl)
theorem dX6_uses_15 : decode cX6_uses 15 = .ok (.putfield 103, 3) := dk_181 0 103 (dk_at dksX6_uses_0 15 rfl rfl)
theorem dX6_uses_18 : decode cX6_uses 18 = .ok (.aload_n 0, 1) := dk_42 (dk_at dksX6_uses_0 18 rfl rfl)
theorem dX6_uses_19 : decode cX6_uses 19 = .ok (.iconst 0, 1) := dk_3 (dk_at dksX6_uses_0 19 rfl rfl)
theorem dX6_uses_20 : decode cX6_uses 20 = .ok (.putfield 109, 3) := dk_181 0 109 (dk_at dksX6_uses_0 20 rfl rfl)
theorem dX6_uses_23 : decode cX6_uses 23 = .ok (.aload_n 0, 1) := dk_42 (dk_at dksX6_uses_0 23 rfl rfl)
theorem dX6_uses_24 : decode cX6_uses 24 = .ok (.iconst 0, 1) := dk_3 (dk_at dksX6_uses_1 0 rfl rfl)
theorem dX6_uses_25 : decode cX6_uses 25 = .ok (.putfield 112, 3) := dk_181 0 112 (dk_at dksX6_uses_1 1 rfl rfl)
theorem dX6_uses_28 : decode cX6_uses 28 = .ok (.aload_n 0, 1) := dk_42 (dk_at dksX6_uses_1 4 rfl rfl)
theorem dX6_uses_29 : decode cX6_uses 29 = .ok (.iconst 0, 1) := dk_3 (dk_at dksX6_uses_1 5 rfl rfl)
theorem dX6_uses_30 : decode cX6_uses 30 = .ok (.putfield 115, 3) := dk_181 0 115 (dk_at dksX6_uses_1 6 rfl rfl)
theorem dX6_uses_33 : decode cX6_uses 33 = .ok (.return_, 1) := dk_177 (dk_at dksX6_uses_1 9 rfl rfl)
abbrev cX6_readOne : ByteArray := prog_30_method_44_code
def yX6_readOne : MethodName := ⟨RX6, "readOne", "()I"⟩
def dkwX6_readOne_2 : List UInt8 := [180, 0, 106, 160, 0, 7, 4, 167, 0, 4, 2, 172]
abbrev dktX6_readOne_2 : List UInt8 := dkwX6_readOne_2 ++ []
def dkwX6_readOne_1 : List UInt8 := [172, 42, 180, 0, 13, 27, 5, 96, 42, 180, 0, 112, 79, 42, 182, 0, 124, 42, 180, 0, 109, 42]
abbrev dktX6_readOne_1 : List UInt8 := dkwX6_readOne_1 ++ dktX6_readOne_2
def dkwX6_readOne_0 : List UInt8 := [16, 9, 3, 184, 0, 229, 60, 42, 180, 0, 13, 27, 4, 96, 3, 79, 42, 182, 0, 205, 154, 0, 5, 2]
abbrev dktX6_readOne_0 : List UInt8 := dkwX6_readOne_0 ++ dktX6_readOne_1
theorem dksX6_readOne_0 : cX6_readOne.data.toList.drop 0 = dktX6_readOne_0 := by decide +kernel
theorem dksX6_readOne_1 : cX6_readOne.data.toList.drop 24 = dktX6_readOne_1 := dk_seg dksX6_readOne_0 24 rfl rfl
theorem dksX6_readOne_2 : cX6_readOne.data.toList.drop 46 = dktX6_readOne_2 := dk_seg dksX6_readOne_1 22 rfl rfl
theorem dX6_readOne_0 : decode cX6_readOne 0 = .ok (.bipush 9, 2) := dk_16 9 (dk_at dksX6_readOne_0 0 rfl rfl)
theorem dX6_readOne_2 : decode cX6_readOne 2 = .ok (.iconst 0, 1) := dk_3 (dk_at dksX6_readOne_0 2 rfl rfl)
theorem dX6_readOne_3 : decode cX6_readOne 3 = .ok (.invokestatic 229, 3) := dk_184 0 229 (dk_at dksX6_readOne_0 3 rfl rfl)
theorem dX6_readOne_6 : decode cX6_readOne 6 = .ok (.istore_n 1, 1) := dk_60 (dk_at dksX6_readOne_0 6 rfl rfl)
theorem dX6_readOne_7 : decode cX6_readOne 7 = .ok (.aload_n 0, 1) := dk_42 (dk_at dksX6_readOne_0 7 rfl rfl)
theorem dX6_readOne_8 : decode cX6_readOne 8 = .ok (.getfield 13, 3) := dk_180 0 13 (dk_at dksX6_readOne_0 8 rfl rfl)
theorem dX6_readOne_11 : decode cX6_readOne 11 = .ok (.iload_n 1, 1) := dk_27 (dk_at dksX6_readOne_0 11 rfl rfl)
theorem dX6_readOne_12 : decode cX6_readOne 12 = .ok (.iconst 1, 1) := dk_4 (dk_at dksX6_readOne_0 12 rfl rfl)
theorem dX6_readOne_13 : decode cX6_readOne 13 = .ok (.iadd, 1) := dk_96 (dk_at dksX6_readOne_0 13 rfl rfl)
theorem dX6_readOne_14 : decode cX6_readOne 14 = .ok (.iconst 0, 1) := dk_3 (dk_at dksX6_readOne_0 14 rfl rfl)
theorem dX6_readOne_15 : decode cX6_readOne 15 = .ok (.iastore, 1) := dk_79 (dk_at dksX6_readOne_0 15 rfl rfl)
theorem dX6_readOne_16 : decode cX6_readOne 16 = .ok (.aload_n 0, 1) := dk_42 (dk_at dksX6_readOne_0 16 rfl rfl)
theorem dX6_readOne_17 : decode cX6_readOne 17 = .ok (.invokevirtual 205, 3) := dk_182 0 205 (dk_at dksX6_readOne_0 17 rfl rfl)
theorem dX6_readOne_20 : decode cX6_readOne 20 = .ok (.ifCond .ne 5, 3) := dk_154 0 5 (dk_at dksX6_readOne_0 20 rfl rfl)
theorem dX6_readOne_23 : decode cX6_readOne 23 = .ok (.iconst (-1), 1) := dk_2 (dk_at dksX6_readOne_0 23 rfl rfl)
theorem dX6_readOne_24 : decode cX6_readOne 24 = .ok (.ireturn, 1) := dk_172 (dk_at dksX6_readOne_1 0 rfl rfl)
theorem dX6_readOne_25 : decode cX6_readOne 25 = .ok (.aload_n 0, 1) := dk_42 (dk_at dksX6_readOne_1 1 rfl rfl)
theorem dX6_readOne_26 : decode cX6_readOne 26 = .ok (.getfield 13, 3) := dk_180 0 13 (dk_at dksX6_readOne_1 2 rfl rfl)
theorem dX6_readOne_29 : decode cX6_readOne 29 = .ok (.iload_n 1, 1) := dk_27 (dk_at dksX6_readOne_1 5 rfl rfl)
theorem dX6_readOne_30 : decode cX6_readOne 30 = .ok (.iconst 2, 1) := dk_5 (dk_at dksX6_readOne_1 6 rfl rfl)
theorem dX6_readOne_31 : decode cX6_readOne 31 = .ok (.iadd, 1) := dk_96 (dk_at dksX6_readOne_1 7 rfl rfl)
theorem dX6_readOne_32 : decode cX6_readOne 32 = .ok (.aload_n 0, 1) := dk_42 (dk_at dksX6_readOne_1 8 rfl rfl)
theorem dX6_readOne_33 : decode cX6_readOne 33 = .ok (.getfield 112, 3) := dk_180 0 112 (dk_at dksX6_readOne_1 9 rfl rfl)
theorem dX6_readOne_36 : decode cX6_readOne 36 = .ok (.iastore, 1) := dk_79 (dk_at dksX6_readOne_1 12 rfl rfl)
theorem dX6_readOne_37 : decode cX6_readOne 37 = .ok (.aload_n 0, 1) := dk_42 (dk_at dksX6_readOne_1 13 rfl rfl)
theorem dX6_readOne_38 : decode cX6_readOne 38 = .ok (.invokevirtual 124, 3) := dk_182 0 124 (dk_at dksX6_readOne_1 14 rfl rfl)
theorem dX6_readOne_41 : decode cX6_readOne 41 = .ok (.aload_n 0, 1) := dk_42 (dk_at dksX6_readOne_1 17 rfl rfl)
theorem dX6_readOne_42 : decode cX6_readOne 42 = .ok (.getfield 109, 3) := dk_180 0 109 (dk_at dksX6_readOne_1 18 rfl rfl)
theorem dX6_readOne_45 : decode cX6_readOne 45 = .ok (.aload_n 0, 1) := dk_42 (dk_at dksX6_readOne_1 21 rfl rfl)
theorem dX6_readOne_46 : decode cX6_readOne 46 = .ok (.getfield 106, 3) := dk_180 0 106 (dk_at dksX6_readOne_2 0 rfl rfl)
theorem dX6_readOne_49 : decode cX6_readOne 49 = .ok (.if_icmp .ne 7, 3) := dk_160 0 7 (dk_at dksX6_readOne_2 3 rfl rfl)
theorem dX6_readOne_52 : decode cX6_readOne 52 = .ok (.iconst 1, 1) := dk_4 (dk_at dksX6_readOne_2 6 rfl rfl)
theorem dX6_readOne_53 : decode cX6_readOne 53 = .ok (.goto 4, 3) := dk_167 0 4 (dk_at dksX6_readOne_2 7 rfl rfl)
theorem dX6_readOne_56 : decode cX6_readOne 56 = .ok (.iconst (-1), 1) := dk_2 (dk_at dksX6_readOne_2 10 rfl rfl)
theorem dX6_readOne_57 : decode cX6_readOne 57 = .ok (.ireturn, 1) := dk_172 (dk_at dksX6_readOne_2 11 rfl rfl)
abbrev cX6_lineAt : ByteArray := prog_30_method_31_code
def yX6_lineAt : MethodName := ⟨RX6, "lineAt", "(II)I"⟩
def dkwX6_lineAt_0 : List UInt8 := [26, 184, 0, 144, 4, 96, 6, 27, 104, 96, 172]
abbrev dktX6_lineAt_0 : List UInt8 := dkwX6_lineAt_0 ++ []
theorem dksX6_lineAt_0 : cX6_lineAt.data.toList.drop 0 = dktX6_lineAt_0 := by decide +kernel
theorem dX6_lineAt_0 : decode cX6_lineAt 0 = .ok (.iload_n 0, 1) := dk_26 (dk_at dksX6_lineAt_0 0 rfl rfl)
theorem dX6_lineAt_1 : decode cX6_lineAt 1 = .ok (.invokestatic 144, 3) := dk_184 0 144 (dk_at dksX6_lineAt_0 1 rfl rfl)
theorem dX6_lineAt_4 : decode cX6_lineAt 4 = .ok (.iconst 1, 1) := dk_4 (dk_at dksX6_lineAt_0 4 rfl rfl)
theorem dX6_lineAt_5 : decode cX6_lineAt 5 = .ok (.iadd, 1) := dk_96 (dk_at dksX6_lineAt_0 5 rfl rfl)
theorem dX6_lineAt_6 : decode cX6_lineAt 6 = .ok (.iconst 3, 1) := dk_6 (dk_at dksX6_lineAt_0 6 rfl rfl)
theorem dX6_lineAt_7 : decode cX6_lineAt 7 = .ok (.iload_n 1, 1) := dk_27 (dk_at dksX6_lineAt_0 7 rfl rfl)
theorem dX6_lineAt_8 : decode cX6_lineAt 8 = .ok (.imul, 1) := dk_104 (dk_at dksX6_lineAt_0 8 rfl rfl)
theorem dX6_lineAt_9 : decode cX6_lineAt 9 = .ok (.iadd, 1) := dk_96 (dk_at dksX6_lineAt_0 9 rfl rfl)
theorem dX6_lineAt_10 : decode cX6_lineAt 10 = .ok (.ireturn, 1) := dk_172 (dk_at dksX6_lineAt_0 10 rfl rfl)
abbrev cX6_textAt : ByteArray := prog_30_method_30_code
def yX6_textAt : MethodName := ⟨RX6, "textAt", "(I)I"⟩
def dkwX6_textAt_0 : List UInt8 := [17, 4, 142, 17, 3, 63, 26, 104, 96, 172]
abbrev dktX6_textAt_0 : List UInt8 := dkwX6_textAt_0 ++ []
theorem dksX6_textAt_0 : cX6_textAt.data.toList.drop 0 = dktX6_textAt_0 := by decide +kernel
theorem dX6_textAt_0 : decode cX6_textAt 0 = .ok (.sipush 1166, 3) := dk_17 4 142 (dk_at dksX6_textAt_0 0 rfl rfl)
theorem dX6_textAt_3 : decode cX6_textAt 3 = .ok (.sipush 831, 3) := dk_17 3 63 (dk_at dksX6_textAt_0 3 rfl rfl)
theorem dX6_textAt_6 : decode cX6_textAt 6 = .ok (.iload_n 0, 1) := dk_26 (dk_at dksX6_textAt_0 6 rfl rfl)
theorem dX6_textAt_7 : decode cX6_textAt 7 = .ok (.imul, 1) := dk_104 (dk_at dksX6_textAt_0 7 rfl rfl)
theorem dX6_textAt_8 : decode cX6_textAt 8 = .ok (.iadd, 1) := dk_96 (dk_at dksX6_textAt_0 8 rfl rfl)
theorem dX6_textAt_9 : decode cX6_textAt 9 = .ok (.ireturn, 1) := dk_172 (dk_at dksX6_textAt_0 9 rfl rfl)
abbrev cX6_readCond : ByteArray := prog_30_method_41_code
def yX6_readCond : MethodName := ⟨RX6, "readCond", "()Z"⟩
def dkwX6_readCond_1 : List UInt8 := [154, 0, 5, 3, 172, 42, 16, 17, 3, 182, 0, 147, 167, 255, 231, 4, 172]
abbrev dktX6_readCond_1 : List UInt8 := dkwX6_readCond_1 ++ []
def dkwX6_readCond_0 : List UInt8 := [42, 182, 0, 224, 154, 0, 5, 3, 172, 42, 18, 227, 182, 0, 210, 153, 0, 22, 42, 182, 0, 224]
abbrev dktX6_readCond_0 : List UInt8 := dkwX6_readCond_0 ++ dktX6_readCond_1
theorem dksX6_readCond_0 : cX6_readCond.data.toList.drop 0 = dktX6_readCond_0 := by decide +kernel
theorem dksX6_readCond_1 : cX6_readCond.data.toList.drop 22 = dktX6_readCond_1 := dk_seg dksX6_readCond_0 22 rfl rfl
theorem dX6_readCond_0 : decode cX6_readCond 0 = .ok (.aload_n 0, 1) := dk_42 (dk_at dksX6_readCond_0 0 rfl rfl)
theorem dX6_readCond_1 : decode cX6_readCond 1 = .ok (.invokevirtual 224, 3) := dk_182 0 224 (dk_at dksX6_readCond_0 1 rfl rfl)
theorem dX6_readCond_4 : decode cX6_readCond 4 = .ok (.ifCond .ne 5, 3) := dk_154 0 5 (dk_at dksX6_readCond_0 4 rfl rfl)
theorem dX6_readCond_7 : decode cX6_readCond 7 = .ok (.iconst 0, 1) := dk_3 (dk_at dksX6_readCond_0 7 rfl rfl)
theorem dX6_readCond_8 : decode cX6_readCond 8 = .ok (.ireturn, 1) := dk_172 (dk_at dksX6_readCond_0 8 rfl rfl)
theorem dX6_readCond_9 : decode cX6_readCond 9 = .ok (.aload_n 0, 1) := dk_42 (dk_at dksX6_readCond_0 9 rfl rfl)
theorem dX6_readCond_10 : decode cX6_readCond 10 = .ok (.ldc 227, 2) := dk_18 227 (dk_at dksX6_readCond_0 10 rfl rfl)
theorem dX6_readCond_12 : decode cX6_readCond 12 = .ok (.invokevirtual 210, 3) := dk_182 0 210 (dk_at dksX6_readCond_0 12 rfl rfl)
theorem dX6_readCond_15 : decode cX6_readCond 15 = .ok (.ifCond .eq 22, 3) := dk_153 0 22 (dk_at dksX6_readCond_0 15 rfl rfl)
theorem dX6_readCond_18 : decode cX6_readCond 18 = .ok (.aload_n 0, 1) := dk_42 (dk_at dksX6_readCond_0 18 rfl rfl)
theorem dX6_readCond_19 : decode cX6_readCond 19 = .ok (.invokevirtual 224, 3) := dk_182 0 224 (dk_at dksX6_readCond_0 19 rfl rfl)
theorem dX6_readCond_22 : decode cX6_readCond 22 = .ok (.ifCond .ne 5, 3) := dk_154 0 5 (dk_at dksX6_readCond_1 0 rfl rfl)
theorem dX6_readCond_25 : decode cX6_readCond 25 = .ok (.iconst 0, 1) := dk_3 (dk_at dksX6_readCond_1 3 rfl rfl)
theorem dX6_readCond_26 : decode cX6_readCond 26 = .ok (.ireturn, 1) := dk_172 (dk_at dksX6_readCond_1 4 rfl rfl)
theorem dX6_readCond_27 : decode cX6_readCond 27 = .ok (.aload_n 0, 1) := dk_42 (dk_at dksX6_readCond_1 5 rfl rfl)
theorem dX6_readCond_28 : decode cX6_readCond 28 = .ok (.bipush 17, 2) := dk_16 17 (dk_at dksX6_readCond_1 6 rfl rfl)
theorem dX6_readCond_30 : decode cX6_readCond 30 = .ok (.iconst 0, 1) := dk_3 (dk_at dksX6_readCond_1 8 rfl rfl)
theorem dX6_readCond_31 : decode cX6_readCond 31 = .ok (.invokevirtual 147, 3) := dk_182 0 147 (dk_at dksX6_readCond_1 9 rfl rfl)
theorem dX6_readCond_34 : decode cX6_readCond 34 = .ok (.goto (-25), 3) := dk_167 255 231 (dk_at dksX6_readCond_1 12 rfl rfl)
theorem dX6_readCond_37 : decode cX6_readCond 37 = .ok (.iconst 1, 1) := dk_4 (dk_at dksX6_readCond_1 15 rfl rfl)
theorem dX6_readCond_38 : decode cX6_readCond 38 = .ok (.ireturn, 1) := dk_172 (dk_at dksX6_readCond_1 16 rfl rfl)
abbrev cX6_readAllOf : ByteArray := prog_30_method_40_code
def yX6_readAllOf : MethodName := ⟨RX6, "readAllOf", "()Z"⟩
def dkwX6_readAllOf_1 : List UInt8 := [154, 0, 5, 3, 172, 42, 16, 16, 3, 182, 0, 147, 167, 255, 231, 4, 172]
abbrev dktX6_readAllOf_1 : List UInt8 := dkwX6_readAllOf_1 ++ []
def dkwX6_readAllOf_0 : List UInt8 := [42, 182, 0, 213, 154, 0, 5, 3, 172, 42, 18, 222, 182, 0, 210, 153, 0, 22, 42, 182, 0, 213]
abbrev dktX6_readAllOf_0 : List UInt8 := dkwX6_readAllOf_0 ++ dktX6_readAllOf_1
theorem dksX6_readAllOf_0 : cX6_readAllOf.data.toList.drop 0 = dktX6_readAllOf_0 := by decide +kernel
theorem dksX6_readAllOf_1 : cX6_readAllOf.data.toList.drop 22 = dktX6_readAllOf_1 := dk_seg dksX6_readAllOf_0 22 rfl rfl
theorem dX6_readAllOf_0 : decode cX6_readAllOf 0 = .ok (.aload_n 0, 1) := dk_42 (dk_at dksX6_readAllOf_0 0 rfl rfl)
theorem dX6_readAllOf_1 : decode cX6_readAllOf 1 = .ok (.invokevirtual 213, 3) := dk_182 0 213 (dk_at dksX6_readAllOf_0 1 rfl rfl)
theorem dX6_readAllOf_4 : decode cX6_readAllOf 4 = .ok (.ifCond .ne 5, 3) := dk_154 0 5 (dk_at dksX6_readAllOf_0 4 rfl rfl)
theorem dX6_readAllOf_7 : decode cX6_readAllOf 7 = .ok (.iconst 0, 1) := dk_3 (dk_at dksX6_readAllOf_0 7 rfl rfl)
theorem dX6_readAllOf_8 : decode cX6_readAllOf 8 = .ok (.ireturn, 1) := dk_172 (dk_at dksX6_readAllOf_0 8 rfl rfl)
theorem dX6_readAllOf_9 : decode cX6_readAllOf 9 = .ok (.aload_n 0, 1) := dk_42 (dk_at dksX6_readAllOf_0 9 rfl rfl)
theorem dX6_readAllOf_10 : decode cX6_readAllOf 10 = .ok (.ldc 222, 2) := dk_18 222 (dk_at dksX6_readAllOf_0 10 rfl rfl)
theorem dX6_readAllOf_12 : decode cX6_readAllOf 12 = .ok (.invokevirtual 210, 3) := dk_182 0 210 (dk_at dksX6_readAllOf_0 12 rfl rfl)
theorem dX6_readAllOf_15 : decode cX6_readAllOf 15 = .ok (.ifCond .eq 22, 3) := dk_153 0 22 (dk_at dksX6_readAllOf_0 15 rfl rfl)
theorem dX6_readAllOf_18 : decode cX6_readAllOf 18 = .ok (.aload_n 0, 1) := dk_42 (dk_at dksX6_readAllOf_0 18 rfl rfl)
theorem dX6_readAllOf_19 : decode cX6_readAllOf 19 = .ok (.invokevirtual 213, 3) := dk_182 0 213 (dk_at dksX6_readAllOf_0 19 rfl rfl)
theorem dX6_readAllOf_22 : decode cX6_readAllOf 22 = .ok (.ifCond .ne 5, 3) := dk_154 0 5 (dk_at dksX6_readAllOf_1 0 rfl rfl)
theorem dX6_readAllOf_25 : decode cX6_readAllOf 25 = .ok (.iconst 0, 1) := dk_3 (dk_at dksX6_readAllOf_1 3 rfl rfl)
theorem dX6_readAllOf_26 : decode cX6_readAllOf 26 = .ok (.ireturn, 1) := dk_172 (dk_at dksX6_readAllOf_1 4 rfl rfl)
theorem dX6_readAllOf_27 : decode cX6_readAllOf 27 = .ok (.aload_n 0, 1) := dk_42 (dk_at dksX6_readAllOf_1 5 rfl rfl)
theorem dX6_readAllOf_28 : decode cX6_readAllOf 28 = .ok (.bipush 16, 2) := dk_16 16 (dk_at dksX6_readAllOf_1 6 rfl rfl)
theorem dX6_readAllOf_30 : decode cX6_readAllOf 30 = .ok (.iconst 0, 1) := dk_3 (dk_at dksX6_readAllOf_1 8 rfl rfl)
theorem dX6_readAllOf_31 : decode cX6_readAllOf 31 = .ok (.invokevirtual 147, 3) := dk_182 0 147 (dk_at dksX6_readAllOf_1 9 rfl rfl)
theorem dX6_readAllOf_34 : decode cX6_readAllOf 34 = .ok (.goto (-25), 3) := dk_167 255 231 (dk_at dksX6_readAllOf_1 12 rfl rfl)
theorem dX6_readAllOf_37 : decode cX6_readAllOf 37 = .ok (.iconst 1, 1) := dk_4 (dk_at dksX6_readAllOf_1 15 rfl rfl)
theorem dX6_readAllOf_38 : decode cX6_readAllOf 38 = .ok (.ireturn, 1) := dk_172 (dk_at dksX6_readAllOf_1 16 rfl rfl)
abbrev cX6_readAtom : ByteArray := prog_30_method_39_code
def yX6_readAtom : MethodName := ⟨RX6, "readAtom", "()Z"⟩
def dkwX6_readAtom_8 : List UInt8 := [154, 0, 5, 3, 172, 42, 27, 153, 0, 8, 16, 13, 167, 0, 5, 16, 14, 3, 182, 0, 147, 4, 172]
abbrev dktX6_readAtom_8 : List UInt8 := dkwX6_readAtom_8 ++ []
def dkwX6_readAtom_7 : List UInt8 := [16, 60, 182, 0, 193, 60, 27, 154, 0, 12, 42, 16, 62, 182, 0, 193, 153, 0, 10, 42, 182, 0, 219]
abbrev dktX6_readAtom_7 : List UInt8 := dkwX6_readAtom_7 ++ dktX6_readAtom_8
def dkwX6_readAtom_6 : List UInt8 := [96, 4, 100, 46, 155, 0, 7, 4, 167, 0, 4, 3, 172, 42, 182, 0, 219, 154, 0, 5, 3, 172, 42]
abbrev dktX6_readAtom_6 : List UInt8 := dkwX6_readAtom_6 ++ dktX6_readAtom_7
def dkwX6_readAtom_5 : List UInt8 := [182, 0, 216, 153, 0, 34, 42, 180, 0, 13, 16, 9, 184, 0, 144, 16, 31, 96, 5, 42, 180, 0, 112, 104]
abbrev dktX6_readAtom_5 : List UInt8 := dkwX6_readAtom_5 ++ dktX6_readAtom_6
def dkwX6_readAtom_4 : List UInt8 := [3, 172, 42, 89, 180, 0, 115, 4, 100, 181, 0, 115, 42, 16, 15, 3, 182, 0, 147, 4, 172, 42]
abbrev dktX6_readAtom_4 : List UInt8 := dkwX6_readAtom_4 ++ dktX6_readAtom_5
def dkwX6_readAtom_3 : List UInt8 := [16, 6, 160, 0, 5, 3, 172, 42, 89, 180, 0, 115, 4, 96, 181, 0, 115, 42, 182, 0, 213, 154, 0, 5]
abbrev dktX6_readAtom_3 : List UInt8 := dkwX6_readAtom_3 ++ dktX6_readAtom_4
def dkwX6_readAtom_2 : List UInt8 := [181, 0, 115, 42, 16, 41, 182, 0, 193, 172, 42, 18, 208, 182, 0, 210, 153, 0, 52, 42, 180, 0, 115]
abbrev dktX6_readAtom_2 : List UInt8 := dkwX6_readAtom_2 ++ dktX6_readAtom_3
def dkwX6_readAtom_1 : List UInt8 := [180, 0, 115, 4, 96, 181, 0, 115, 42, 182, 0, 205, 154, 0, 5, 3, 172, 42, 89, 180, 0, 115, 4, 100]
abbrev dktX6_readAtom_1 : List UInt8 := dkwX6_readAtom_1 ++ dktX6_readAtom_2
def dkwX6_readAtom_0 : List UInt8 := [42, 16, 40, 182, 0, 193, 153, 0, 50, 42, 180, 0, 115, 16, 6, 160, 0, 5, 3, 172, 42, 89]
abbrev dktX6_readAtom_0 : List UInt8 := dkwX6_readAtom_0 ++ dktX6_readAtom_1
theorem dksX6_readAtom_0 : cX6_readAtom.data.toList.drop 0 = dktX6_readAtom_0 := by decide +kernel
theorem dksX6_readAtom_1 : cX6_readAtom.data.toList.drop 22 = dktX6_readAtom_1 := dk_seg dksX6_readAtom_0 22 rfl rfl
theorem dksX6_readAtom_2 : cX6_readAtom.data.toList.drop 46 = dktX6_readAtom_2 := dk_seg dksX6_readAtom_1 24 rfl rfl
theorem dksX6_readAtom_3 : cX6_readAtom.data.toList.drop 69 = dktX6_readAtom_3 := dk_seg dksX6_readAtom_2 23 rfl rfl
theorem dksX6_readAtom_4 : cX6_readAtom.data.toList.drop 93 = dktX6_readAtom_4 := dk_seg dksX6_readAtom_3 24 rfl rfl
theorem dksX6_readAtom_5 : cX6_readAtom.data.toList.drop 115 = dktX6_readAtom_5 := dk_seg dksX6_readAtom_4 22 rfl rfl
theorem dksX6_readAtom_6 : cX6_readAtom.data.toList.drop 139 = dktX6_readAtom_6 := dk_seg dksX6_readAtom_5 24 rfl rfl
theorem dksX6_readAtom_7 : cX6_readAtom.data.toList.drop 162 = dktX6_readAtom_7 := dk_seg dksX6_readAtom_6 23 rfl rfl
theorem dksX6_readAtom_8 : cX6_readAtom.data.toList.drop 185 = dktX6_readAtom_8 := dk_seg dksX6_readAtom_7 23 rfl rfl
theorem dX6_readAtom_0 : decode cX6_readAtom 0 = .ok (.aload_n 0, 1) := dk_42 (dk_at dksX6_readAtom_0 0 rfl rfl)
theorem dX6_readAtom_1 : decode cX6_readAtom 1 = .ok (.bipush 40, 2) := dk_16 40 (dk_at dksX6_readAtom_0 1 rfl rfl)
theorem dX6_readAtom_3 : decode cX6_readAtom 3 = .ok (.invokevirtual 193, 3) := dk_182 0 193 (dk_at dksX6_readAtom_0 3 rfl rfl)
theorem dX6_readAtom_6 : decode cX6_readAtom 6 = .ok (.ifCond .eq 50, 3) := dk_153 0 50 (dk_at dksX6_readAtom_0 6 rfl rfl)
theorem dX6_readAtom_9 : decode cX6_readAtom 9 = .ok (.aload_n 0, 1) := dk_42 (dk_at dksX6_readAtom_0 9 rfl rfl)
theorem dX6_readAtom_10 : decode cX6_readAtom 10 = .ok (.getfield 115, 3) := dk_180 0 115 (dk_at dksX6_readAtom_0 10 rfl rfl)
theorem dX6_readAtom_13 : decode cX6_readAtom 13 = .ok (.bipush 6, 2) := dk_16 6 (dk_at dksX6_readAtom_0 13 rfl rfl)
theorem dX6_readAtom_15 : decode cX6_readAtom 15 = .ok (.if_icmp .ne 5, 3) := dk_160 0 5 (dk_at dksX6_readAtom_0 15 rfl rfl)
theorem dX6_readAtom_18 : decode cX6_readAtom 18 = .ok (.iconst 0, 1) := dk_3 (dk_at dksX6_readAtom_0 18 rfl rfl)
theorem dX6_readAtom_19 : decode cX6_readAtom 19 = .ok (.ireturn, 1) := dk_172 (dk_at dksX6_readAtom_0 19 rfl rfl)
theorem dX6_readAtom_20 : decode cX6_readAtom 20 = .ok (.aload_n 0, 1) := dk_42 (dk_at dksX6_readAtom_0 20 rfl rfl)
theorem dX6_readAtom_21 : decode cX6_readAtom 21 = .ok (.dup, 1) := dk_89 (dk_at dksX6_readAtom_0 21 rfl rfl)
theorem dX6_readAtom_22 : decode cX6_readAtom 22 = .ok (.getfield 115, 3) := dk_180 0 115 (dk_at dksX6_readAtom_1 0 rfl rfl)
theorem dX6_readAtom_25 : decode cX6_readAtom 25 = .ok (.iconst 1, 1) := dk_4 (dk_at dksX6_readAtom_1 3 rfl rfl)
theorem dX6_readAtom_26 : decode cX6_readAtom 26 = .ok (.iadd, 1) := dk_96 (dk_at dksX6_readAtom_1 4 rfl rfl)
theorem dX6_readAtom_27 : decode cX6_readAtom 27 = .ok (.putfield 115, 3) := dk_181 0 115 (dk_at dksX6_readAtom_1 5 rfl rfl)
theorem dX6_readAtom_30 : decode cX6_readAtom 30 = .ok (.aload_n 0, 1) := dk_42 (dk_at dksX6_readAtom_1 8 rfl rfl)
theorem dX6_readAtom_31 : decode cX6_readAtom 31 = .ok (.invokevirtual 205, 3) := dk_182 0 205 (dk_at dksX6_readAtom_1 9 rfl rfl)
theorem dX6_readAtom_34 : decode cX6_readAtom 34 = .ok (.ifCond .ne 5, 3) := dk_154 0 5 (dk_at dksX6_readAtom_1 12 rfl rfl)
theorem dX6_readAtom_37 : decode cX6_readAtom 37 = .ok (.iconst 0, 1) := dk_3 (dk_at dksX6_readAtom_1 15 rfl rfl)
theorem dX6_readAtom_38 : decode cX6_readAtom 38 = .ok (.ireturn, 1) := dk_172 (dk_at dksX6_readAtom_1 16 rfl rfl)
theorem dX6_readAtom_39 : decode cX6_readAtom 39 = .ok (.aload_n 0, 1) := dk_42 (dk_at dksX6_readAtom_1 17 rfl rfl)
theorem dX6_readAtom_40 : decode cX6_readAtom 40 = .ok (.dup, 1) := dk_89 (dk_at dksX6_readAtom_1 18 rfl rfl)
theorem dX6_readAtom_41 : decode cX6_readAtom 41 = .ok (.getfield 115, 3) := dk_180 0 115 (dk_at dksX6_readAtom_1 19 rfl rfl)
theorem dX6_readAtom_44 : decode cX6_readAtom 44 = .ok (.iconst 1, 1) := dk_4 (dk_at dksX6_readAtom_1 22 rfl rfl)
theorem dX6_readAtom_45 : decode cX6_readAtom 45 = .ok (.isub, 1) := dk_100 (dk_at dksX6_readAtom_1 23 rfl rfl)
theorem dX6_readAtom_46 : decode cX6_readAtom 46 = .ok (.putfield 115, 3) := dk_181 0 115 (dk_at dksX6_readAtom_2 0 rfl rfl)
theorem dX6_readAtom_49 : decode cX6_readAtom 49 = .ok (.aload_n 0, 1) := dk_42 (dk_at dksX6_readAtom_2 3 rfl rfl)
theorem dX6_readAtom_50 : decode cX6_readAtom 50 = .ok (.bipush 41, 2) := dk_16 41 (dk_at dksX6_readAtom_2 4 rfl rfl)
theorem dX6_readAtom_52 : decode cX6_readAtom 52 = .ok (.invokevirtual 193, 3) := dk_182 0 193 (dk_at dksX6_readAtom_2 6 rfl rfl)
theorem dX6_readAtom_55 : decode cX6_readAtom 55 = .ok (.ireturn, 1) := dk_172 (dk_at dksX6_readAtom_2 9 rfl rfl)
theorem dX6_readAtom_56 : decode cX6_readAtom 56 = .ok (.aload_n 0, 1) := dk_42 (dk_at dksX6_readAtom_2 10 rfl rfl)
theorem dX6_readAtom_57 : decode cX6_readAtom 57 = .ok (.ldc 208, 2) := dk_18 208 (dk_at dksX6_readAtom_2 11 rfl rfl)
theorem dX6_readAtom_59 : decode cX6_readAtom 59 = .ok (.invokevirtual 210, 3) := dk_182 0 210 (dk_at dksX6_readAtom_2 13 rfl rfl)
theorem dX6_readAtom_62 : decode cX6_readAtom 62 = .ok (.ifCond .eq 52, 3) := dk_153 0 52 (dk_at dksX6_readAtom_2 16 rfl rfl)
theorem dX6_readAtom_65 : decode cX6_readAtom 65 = .ok (.aload_n 0, 1) := dk_42 (dk_at dksX6_readAtom_2 19 rfl rfl)
theorem dX6_readAtom_66 : decode cX6_readAtom 66 = .ok (.getfield 115, 3) := dk_180 0 115 (dk_at dksX6_readAtom_2 20 rfl rfl)
theorem dX6_readAtom_69 : decode cX6_readAtom 69 = .ok (.bipush 6, 2) := dk_16 6 (dk_at dksX6_readAtom_3 0 rfl rfl)
theorem dX6_readAtom_71 : decode cX6_readAtom 71 = .ok (.if_icmp .ne 5, 3) := dk_160 0 5 (dk_at dksX6_readAtom_3 2 rfl rfl)
theorem dX6_readAtom_74 : decode cX6_readAtom 74 = .ok (.iconst 0, 1) := dk_3 (dk_at dksX6_readAtom_3 5 rfl rfl)
theorem dX6_readAtom_75 : decode cX6_readAtom 75 = .ok (.ireturn, 1) := dk_172 (dk_at dksX6_readAtom_3 6 rfl rfl)
theorem dX6_readAtom_76 : decode cX6_readAtom 76 = .ok (.aload_n 0, 1) := dk_42 (dk_at dksX6_readAtom_3 7 rfl rfl)
theorem dX6_readAtom_77 : decode cX6_readAtom 77 = .ok (.dup, 1) := dk_89 (dk_at dksX6_readAtom_3 8 rfl rfl)
theorem dX6_readAtom_78 : decode cX6_readAtom 78 = .ok (.getfield 115, 3) := dk_180 0 115 (dk_at dksX6_readAtom_3 9 rfl rfl)
theorem dX6_readAtom_81 : decode cX6_readAtom 81 = .ok (.iconst 1, 1) := dk_4 (dk_at dksX6_readAtom_3 12 rfl rfl)
theorem dX6_readAtom_82 : decode cX6_readAtom 82 = .ok (.iadd, 1) := dk_96 (dk_at dksX6_readAtom_3 13 rfl rfl)
theorem dX6_readAtom_83 : decode cX6_readAtom 83 = .ok (.putfield 115, 3) := dk_181 0 115 (dk_at dksX6_readAtom_3 14 rfl rfl)
theorem dX6_readAtom_86 : decode cX6_readAtom 86 = .ok (.aload_n 0, 1) := dk_42 (dk_at dksX6_readAtom_3 17 rfl rfl)
theorem dX6_readAtom_87 : decode cX6_readAtom 87 = .ok (.invokevirtual 213, 3) := dk_182 0 213 (dk_at dksX6_readAtom_3 18 rfl rfl)
theorem dX6_readAtom_90 : decode cX6_readAtom 90 = .ok (.ifCond .ne 5, 3) := dk_154 0 5 (dk_at dksX6_readAtom_3 21 rfl rfl)
theorem dX6_readAtom_93 : decode cX6_readAtom 93 = .ok (.iconst 0, 1) := dk_3 (dk_at dksX6_readAtom_4 0 rfl rfl)
theorem dX6_readAtom_94 : decode cX6_readAtom 94 = .ok (.ireturn, 1) := dk_172 (dk_at dksX6_readAtom_4 1 rfl rfl)
theorem dX6_readAtom_95 : decode cX6_readAtom 95 = .ok (.aload_n 0, 1) := dk_42 (dk_at dksX6_readAtom_4 2 rfl rfl)
theorem dX6_readAtom_96 : decode cX6_readAtom 96 = .ok (.dup, 1) := dk_89 (dk_at dksX6_readAtom_4 3 rfl rfl)
theorem dX6_readAtom_97 : decode cX6_readAtom 97 = .ok (.getfield 115, 3) := dk_180 0 115 (dk_at dksX6_readAtom_4 4 rfl rfl)
theorem dX6_readAtom_100 : decode cX6_readAtom 100 = .ok (.iconst 1, 1) := dk_4 (dk_at dksX6_readAtom_4 7 rfl rfl)
theorem dX6_readAtom_101 : decode cX6_readAtom 101 = .ok (.isub, 1) := dk_100 (dk_at dksX6_readAtom_4 8 rfl rfl)
theorem dX6_readAtom_102 : decode cX6_readAtom 102 = .ok (.putfield 115, 3) := dk_181 0 115 (dk_at dksX6_readAtom_4 9 rfl rfl)
theorem dX6_readAtom_105 : decode cX6_readAtom 105 = .ok (.aload_n 0, 1) := dk_42 (dk_at dksX6_readAtom_4 12 rfl rfl)
theorem dX6_readAtom_106 : decode cX6_readAtom 106 = .ok (.bipush 15, 2) := dk_16 15 (dk_at dksX6_readAtom_4 13 rfl rfl)
theorem dX6_readAtom_108 : decode cX6_readAtom 108 = .ok (.iconst 0, 1) := dk_3 (dk_at dksX6_readAtom_4 15 rfl rfl)
theorem dX6_readAtom_109 : decode cX6_readAtom 109 = .ok (.invokevirtual 147, 3) := dk_182 0 147 (dk_at dksX6_readAtom_4 16 rfl rfl)
theorem dX6_readAtom_112 : decode cX6_readAtom 112 = .ok (.iconst 1, 1) := dk_4 (dk_at dksX6_readAtom_4 19 rfl rfl)
theorem dX6_readAtom_113 : decode cX6_readAtom 113 = .ok (.ireturn, 1) := dk_172 (dk_at dksX6_readAtom_4 20 rfl rfl)
theorem dX6_readAtom_114 : decode cX6_readAtom 114 = .ok (.aload_n 0, 1) := dk_42 (dk_at dksX6_readAtom_4 21 rfl rfl)
theorem dX6_readAtom_115 : decode cX6_readAtom 115 = .ok (.invokevirtual 216, 3) := dk_182 0 216 (dk_at dksX6_readAtom_5 0 rfl rfl)
theorem dX6_readAtom_118 : decode cX6_readAtom 118 = .ok (.ifCond .eq 34, 3) := dk_153 0 34 (dk_at dksX6_readAtom_5 3 rfl rfl)
theorem dX6_readAtom_121 : decode cX6_readAtom 121 = .ok (.aload_n 0, 1) := dk_42 (dk_at dksX6_readAtom_5 6 rfl rfl)
theorem dX6_readAtom_122 : decode cX6_readAtom 122 = .ok (.getfield 13, 3) := dk_180 0 13 (dk_at dksX6_readAtom_5 7 rfl rfl)
theorem dX6_readAtom_125 : decode cX6_readAtom 125 = .ok (.bipush 9, 2) := dk_16 9 (dk_at dksX6_readAtom_5 10 rfl rfl)
theorem dX6_readAtom_127 : decode cX6_readAtom 127 = .ok (.invokestatic 144, 3) := dk_184 0 144 (dk_at dksX6_readAtom_5 12 rfl rfl)
theorem dX6_readAtom_130 : decode cX6_readAtom 130 = .ok (.bipush 31, 2) := dk_16 31 (dk_at dksX6_readAtom_5 15 rfl rfl)
theorem dX6_readAtom_132 : decode cX6_readAtom 132 = .ok (.iadd, 1) := dk_96 (dk_at dksX6_readAtom_5 17 rfl rfl)
theorem dX6_readAtom_133 : decode cX6_readAtom 133 = .ok (.iconst 2, 1) := dk_5 (dk_at dksX6_readAtom_5 18 rfl rfl)
theorem dX6_readAtom_134 : decode cX6_readAtom 134 = .ok (.aload_n 0, 1) := dk_42 (dk_at dksX6_readAtom_5 19 rfl rfl)
theorem dX6_readAtom_135 : decode cX6_readAtom 135 = .ok (.getfield 112, 3) := dk_180 0 112 (dk_at dksX6_readAtom_5 20 rfl rfl)
theorem dX6_readAtom_138 : decode cX6_readAtom 138 = .ok (.imul, 1) := dk_104 (dk_at dksX6_readAtom_5 23 rfl rfl)
theorem dX6_readAtom_139 : decode cX6_readAtom 139 = .ok (.iadd, 1) := dk_96 (dk_at dksX6_readAtom_6 0 rfl rfl)
theorem dX6_readAtom_140 : decode cX6_readAtom 140 = .ok (.iconst 1, 1) := dk_4 (dk_at dksX6_readAtom_6 1 rfl rfl)
theorem dX6_readAtom_141 : decode cX6_readAtom 141 = .ok (.isub, 1) := dk_100 (dk_at dksX6_readAtom_6 2 rfl rfl)
theorem dX6_readAtom_142 : decode cX6_readAtom 142 = .ok (.iaload, 1) := dk_46 (dk_at dksX6_readAtom_6 3 rfl rfl)
theorem dX6_readAtom_143 : decode cX6_readAtom 143 = .ok (.ifCond .lt 7, 3) := dk_155 0 7 (dk_at dksX6_readAtom_6 4 rfl rfl)
theorem dX6_readAtom_146 : decode cX6_readAtom 146 = .ok (.iconst 1, 1) := dk_4 (dk_at dksX6_readAtom_6 7 rfl rfl)
theorem dX6_readAtom_147 : decode cX6_readAtom 147 = .ok (.goto 4, 3) := dk_167 0 4 (dk_at dksX6_readAtom_6 8 rfl rfl)
theorem dX6_readAtom_150 : decode cX6_readAtom 150 = .ok (.iconst 0, 1) := dk_3 (dk_at dksX6_readAtom_6 11 rfl rfl)
theorem dX6_readAtom_151 : decode cX6_readAtom 151 = .ok (.ireturn, 1) := dk_172 (dk_at dksX6_readAtom_6 12 rfl rfl)
theorem dX6_readAtom_152 : decode cX6_readAtom 152 = .ok (.aload_n 0, 1) := dk_42 (dk_at dksX6_readAtom_6 13 rfl rfl)
theorem dX6_readAtom_153 : decode cX6_readAtom 153 = .ok (.invokevirtual 219, 3) := dk_182 0 219 (dk_at dksX6_readAtom_6 14 rfl rfl)
theorem dX6_readAtom_156 : decode cX6_readAtom 156 = .ok (.ifCond .ne 5, 3) := dk_154 0 5 (dk_at dksX6_readAtom_6 17 rfl rfl)
theorem dX6_readAtom_159 : decode cX6_readAtom 159 = .ok (.iconst 0, 1) := dk_3 (dk_at dksX6_readAtom_6 20 rfl rfl)
theorem dX6_readAtom_160 : decode cX6_readAtom 160 = .ok (.ireturn, 1) := dk_172 (dk_at dksX6_readAtom_6 21 rfl rfl)
theorem dX6_readAtom_161 : decode cX6_readAtom 161 = .ok (.aload_n 0, 1) := dk_42 (dk_at dksX6_readAtom_6 22 rfl rfl)
theorem dX6_readAtom_162 : decode cX6_readAtom 162 = .ok (.bipush 60, 2) := dk_16 60 (dk_at dksX6_readAtom_7 0 rfl rfl)
theorem dX6_readAtom_164 : decode cX6_readAtom 164 = .ok (.invokevirtual 193, 3) := dk_182 0 193 (dk_at dksX6_readAtom_7 2 rfl rfl)
theorem dX6_readAtom_167 : decode cX6_readAtom 167 = .ok (.istore_n 1, 1) := dk_60 (dk_at dksX6_readAtom_7 5 rfl rfl)
theorem dX6_readAtom_168 : decode cX6_readAtom 168 = .ok (.iload_n 1, 1) := dk_27 (dk_at dksX6_readAtom_7 6 rfl rfl)
theorem dX6_readAtom_169 : decode cX6_readAtom 169 = .ok (.ifCond .ne 12, 3) := dk_154 0 12 (dk_at dksX6_readAtom_7 7 rfl rfl)
theorem dX6_readAtom_172 : decode cX6_readAtom 172 = .ok (.aload_n 0, 1) := dk_42 (dk_at dksX6_readAtom_7 10 rfl rfl)
theorem dX6_readAtom_173 : decode cX6_readAtom 173 = .ok (.bipush 62, 2) := dk_16 62 (dk_at dksX6_readAtom_7 11 rfl rfl)
theorem dX6_readAtom_175 : decode cX6_readAtom 175 = .ok (.invokevirtual 193, 3) := dk_182 0 193 (dk_at dksX6_readAtom_7 13 rfl rfl)
theorem dX6_readAtom_178 : decode cX6_readAtom 178 = .ok (.ifCond .eq 10, 3) := dk_153 0 10 (dk_at dksX6_readAtom_7 16 rfl rfl)
theorem dX6_readAtom_181 : decode cX6_readAtom 181 = .ok (.aload_n 0, 1) := dk_42 (dk_at dksX6_readAtom_7 19 rfl rfl)
theorem dX6_readAtom_182 : decode cX6_readAtom 182 = .ok (.invokevirtual 219, 3) := dk_182 0 219 (dk_at dksX6_readAtom_7 20 rfl rfl)
theorem dX6_readAtom_185 : decode cX6_readAtom 185 = .ok (.ifCond .ne 5, 3) := dk_154 0 5 (dk_at dksX6_readAtom_8 0 rfl rfl)
theorem dX6_readAtom_188 : decode cX6_readAtom 188 = .ok (.iconst 0, 1) := dk_3 (dk_at dksX6_readAtom_8 3 rfl rfl)
theorem dX6_readAtom_189 : decode cX6_readAtom 189 = .ok (.ireturn, 1) := dk_172 (dk_at dksX6_readAtom_8 4 rfl rfl)
theorem dX6_readAtom_190 : decode cX6_readAtom 190 = .ok (.aload_n 0, 1) := dk_42 (dk_at dksX6_readAtom_8 5 rfl rfl)
theorem dX6_readAtom_191 : decode cX6_readAtom 191 = .ok (.iload_n 1, 1) := dk_27 (dk_at dksX6_readAtom_8 6 rfl rfl)
theorem dX6_readAtom_192 : decode cX6_readAtom 192 = .ok (.ifCond .eq 8, 3) := dk_153 0 8 (dk_at dksX6_readAtom_8 7 rfl rfl)
theorem dX6_readAtom_195 : decode cX6_readAtom 195 = .ok (.bipush 13, 2) := dk_16 13 (dk_at dksX6_readAtom_8 10 rfl rfl)
theorem dX6_readAtom_197 : decode cX6_readAtom 197 = .ok (.goto 5, 3) := dk_167 0 5 (dk_at dksX6_readAtom_8 12 rfl rfl)
theorem dX6_readAtom_200 : decode cX6_readAtom 200 = .ok (.bipush 14, 2) := dk_16 14 (dk_at dksX6_readAtom_8 15 rfl rfl)
theorem dX6_readAtom_202 : decode cX6_readAtom 202 = .ok (.iconst 0, 1) := dk_3 (dk_at dksX6_readAtom_8 17 rfl rfl)
theorem dX6_readAtom_203 : decode cX6_readAtom 203 = .ok (.invokevirtual 147, 3) := dk_182 0 147 (dk_at dksX6_readAtom_8 18 rfl rfl)
theorem dX6_readAtom_206 : decode cX6_readAtom 206 = .ok (.iconst 1, 1) := dk_4 (dk_at dksX6_readAtom_8 21 rfl rfl)
theorem dX6_readAtom_207 : decode cX6_readAtom 207 = .ok (.ireturn, 1) := dk_172 (dk_at dksX6_readAtom_8 22 rfl rfl)
abbrev cX6_sign : ByteArray := prog_30_method_27_code
def yX6_sign : MethodName := ⟨RX6, "sign", "(I)Z"⟩
def dkwX6_sign_1 : List UInt8 := [181, 0, 109, 4, 172]
abbrev dktX6_sign_1 : List UInt8 := dkwX6_sign_1 ++ []
def dkwX6_sign_0 : List UInt8 := [42, 182, 0, 124, 42, 27, 27, 182, 0, 118, 154, 0, 5, 3, 172, 42, 89, 180, 0, 109, 4, 96]
abbrev dktX6_sign_0 : List UInt8 := dkwX6_sign_0 ++ dktX6_sign_1
theorem dksX6_sign_0 : cX6_sign.data.toList.drop 0 = dktX6_sign_0 := by decide +kernel
theorem dksX6_sign_1 : cX6_sign.data.toList.drop 22 = dktX6_sign_1 := dk_seg dksX6_sign_0 22 rfl rfl
theorem dX6_sign_0 : decode cX6_sign 0 = .ok (.aload_n 0, 1) := dk_42 (dk_at dksX6_sign_0 0 rfl rfl)
theorem dX6_sign_1 : decode cX6_sign 1 = .ok (.invokevirtual 124, 3) := dk_182 0 124 (dk_at dksX6_sign_0 1 rfl rfl)
theorem dX6_sign_4 : decode cX6_sign 4 = .ok (.aload_n 0, 1) := dk_42 (dk_at dksX6_sign_0 4 rfl rfl)
theorem dX6_sign_5 : decode cX6_sign 5 = .ok (.iload_n 1, 1) := dk_27 (dk_at dksX6_sign_0 5 rfl rfl)
theorem dX6_sign_6 : decode cX6_sign 6 = .ok (.iload_n 1, 1) := dk_27 (dk_at dksX6_sign_0 6 rfl rfl)
theorem dX6_sign_7 : decode cX6_sign 7 = .ok (.invokevirtual 118, 3) := dk_182 0 118 (dk_at dksX6_sign_0 7 rfl rfl)
theorem dX6_sign_10 : decode cX6_sign 10 = .ok (.ifCond .ne 5, 3) := dk_154 0 5 (dk_at dksX6_sign_0 10 rfl rfl)
theorem dX6_sign_13 : decode cX6_sign 13 = .ok (.iconst 0, 1) := dk_3 (dk_at dksX6_sign_0 13 rfl rfl)
theorem dX6_sign_14 : decode cX6_sign 14 = .ok (.ireturn, 1) := dk_172 (dk_at dksX6_sign_0 14 rfl rfl)
theorem dX6_sign_15 : decode cX6_sign 15 = .ok (.aload_n 0, 1) := dk_42 (dk_at dksX6_sign_0 15 rfl rfl)
theorem dX6_sign_16 : decode cX6_sign 16 = .ok (.dup, 1) := dk_89 (dk_at dksX6_sign_0 16 rfl rfl)
theorem dX6_sign_17 : decode cX6_sign 17 = .ok (.getfield 109, 3) := dk_180 0 109 (dk_at dksX6_sign_0 17 rfl rfl)
theorem dX6_sign_20 : decode cX6_sign 20 = .ok (.iconst 1, 1) := dk_4 (dk_at dksX6_sign_0 20 rfl rfl)
theorem dX6_sign_21 : decode cX6_sign 21 = .ok (.iadd, 1) := dk_96 (dk_at dksX6_sign_0 21 rfl rfl)
theorem dX6_sign_22 : decode cX6_sign 22 = .ok (.putfield 109, 3) := dk_181 0 109 (dk_at dksX6_sign_1 0 rfl rfl)
theorem dX6_sign_25 : decode cX6_sign 25 = .ok (.iconst 1, 1) := dk_4 (dk_at dksX6_sign_1 3 rfl rfl)
theorem dX6_sign_26 : decode cX6_sign 26 = .ok (.ireturn, 1) := dk_172 (dk_at dksX6_sign_1 4 rfl rfl)
abbrev cX6_blanks : ByteArray := prog_30_method_23_code
def yX6_blanks : MethodName := ⟨RX6, "blanks", "()V"⟩
def dkwX6_blanks_1 : List UInt8 := [42, 42, 180, 0, 109, 181, 0, 121, 177]
abbrev dktX6_blanks_1 : List UInt8 := dkwX6_blanks_1 ++ []
def dkwX6_blanks_0 : List UInt8 := [42, 16, 32, 16, 32, 182, 0, 118, 153, 0, 16, 42, 89, 180, 0, 109, 4, 96, 181, 0, 109, 167, 255, 235]
abbrev dktX6_blanks_0 : List UInt8 := dkwX6_blanks_0 ++ dktX6_blanks_1
theorem dksX6_blanks_0 : cX6_blanks.data.toList.drop 0 = dktX6_blanks_0 := by decide +kernel
theorem dksX6_blanks_1 : cX6_blanks.data.toList.drop 24 = dktX6_blanks_1 := dk_seg dksX6_blanks_0 24 rfl rfl
theorem dX6_blanks_0 : decode cX6_blanks 0 = .ok (.aload_n 0, 1) := dk_42 (dk_at dksX6_blanks_0 0 rfl rfl)
theorem dX6_blanks_1 : decode cX6_blanks 1 = .ok (.bipush 32, 2) := dk_16 32 (dk_at dksX6_blanks_0 1 rfl rfl)
theorem dX6_blanks_3 : decode cX6_blanks 3 = .ok (.bipush 32, 2) := dk_16 32 (dk_at dksX6_blanks_0 3 rfl rfl)
theorem dX6_blanks_5 : decode cX6_blanks 5 = .ok (.invokevirtual 118, 3) := dk_182 0 118 (dk_at dksX6_blanks_0 5 rfl rfl)
theorem dX6_blanks_8 : decode cX6_blanks 8 = .ok (.ifCond .eq 16, 3) := dk_153 0 16 (dk_at dksX6_blanks_0 8 rfl rfl)
theorem dX6_blanks_11 : decode cX6_blanks 11 = .ok (.aload_n 0, 1) := dk_42 (dk_at dksX6_blanks_0 11 rfl rfl)
theorem dX6_blanks_12 : decode cX6_blanks 12 = .ok (.dup, 1) := dk_89 (dk_at dksX6_blanks_0 12 rfl rfl)
theorem dX6_blanks_13 : decode cX6_blanks 13 = .ok (.getfield 109, 3) := dk_180 0 109 (dk_at dksX6_blanks_0 13 rfl rfl)
theorem dX6_blanks_16 : decode cX6_blanks 16 = .ok (.iconst 1, 1) := dk_4 (dk_at dksX6_blanks_0 16 rfl rfl)
theorem dX6_blanks_17 : decode cX6_blanks 17 = .ok (.iadd, 1) := dk_96 (dk_at dksX6_blanks_0 17 rfl rfl)
theorem dX6_blanks_18 : decode cX6_blanks 18 = .ok (.putfield 109, 3) := dk_181 0 109 (dk_at dksX6_blanks_0 18 rfl rfl)
theorem dX6_blanks_21 : decode cX6_blanks 21 = .ok (.goto (-21), 3) := dk_167 255 235 (dk_at dksX6_blanks_0 21 rfl rfl)
theorem dX6_blanks_24 : decode cX6_blanks 24 = .ok (.aload_n 0, 1) := dk_42 (dk_at dksX6_blanks_1 0 rfl rfl)
theorem dX6_blanks_25 : decode cX6_blanks 25 = .ok (.aload_n 0, 1) := dk_42 (dk_at dksX6_blanks_1 1 rfl rfl)
theorem dX6_blanks_26 : decode cX6_blanks 26 = .ok (.getfield 109, 3) := dk_180 0 109 (dk_at dksX6_blanks_1 2 rfl rfl)
theorem dX6_blanks_29 : decode cX6_blanks 29 = .ok (.putfield 121, 3) := dk_181 0 121 (dk_at dksX6_blanks_1 5 rfl rfl)
theorem dX6_blanks_32 : decode cX6_blanks 32 = .ok (.return_, 1) := dk_177 (dk_at dksX6_blanks_1 8 rfl rfl)
abbrev cX6_isAt : ByteArray := prog_30_method_22_code
def yX6_isAt : MethodName := ⟨RX6, "isAt", "(II)Z"⟩
def dkwX6_isAt_1 : List UInt8 := [42, 180, 0, 20, 42, 180, 0, 109, 51, 28, 163, 0, 7, 4, 167, 0, 4, 3, 172]
abbrev dktX6_isAt_1 : List UInt8 := dkwX6_isAt_1 ++ []
def dkwX6_isAt_0 : List UInt8 := [42, 180, 0, 109, 42, 180, 0, 106, 162, 0, 33, 42, 180, 0, 20, 42, 180, 0, 109, 51, 27, 161, 0, 20]
abbrev dktX6_isAt_0 : List UInt8 := dkwX6_isAt_0 ++ dktX6_isAt_1
theorem dksX6_isAt_0 : cX6_isAt.data.toList.drop 0 = dktX6_isAt_0 := by decide +kernel
theorem dksX6_isAt_1 : cX6_isAt.data.toList.drop 24 = dktX6_isAt_1 := dk_seg dksX6_isAt_0 24 rfl rfl
theorem dX6_isAt_0 : decode cX6_isAt 0 = .ok (.aload_n 0, 1) := dk_42 (dk_at dksX6_isAt_0 0 rfl rfl)
theorem dX6_isAt_1 : decode cX6_isAt 1 = .ok (.getfield 109, 3) := dk_180 0 109 (dk_at dksX6_isAt_0 1 rfl rfl)
theorem dX6_isAt_4 : decode cX6_isAt 4 = .ok (.aload_n 0, 1) := dk_42 (dk_at dksX6_isAt_0 4 rfl rfl)
theorem dX6_isAt_5 : decode cX6_isAt 5 = .ok (.getfield 106, 3) := dk_180 0 106 (dk_at dksX6_isAt_0 5 rfl rfl)
theorem dX6_isAt_8 : decode cX6_isAt 8 = .ok (.if_icmp .ge 33, 3) := dk_162 0 33 (dk_at dksX6_isAt_0 8 rfl rfl)
theorem dX6_isAt_11 : decode cX6_isAt 11 = .ok (.aload_n 0, 1) := dk_42 (dk_at dksX6_isAt_0 11 rfl rfl)
theorem dX6_isAt_12 : decode cX6_isAt 12 = .ok (.getfield 20, 3) := dk_180 0 20 (dk_at dksX6_isAt_0 12 rfl rfl)
theorem dX6_isAt_15 : decode cX6_isAt 15 = .ok (.aload_n 0, 1) := dk_42 (dk_at dksX6_isAt_0 15 rfl rfl)
theorem dX6_isAt_16 : decode cX6_isAt 16 = .ok (.getfield 109, 3) := dk_180 0 109 (dk_at dksX6_isAt_0 16 rfl rfl)
theorem dX6_isAt_19 : decode cX6_isAt 19 = .ok (.baload, 1) := dk_51 (dk_at dksX6_isAt_0 19 rfl rfl)
theorem dX6_isAt_20 : decode cX6_isAt 20 = .ok (.iload_n 1, 1) := dk_27 (dk_at dksX6_isAt_0 20 rfl rfl)
theorem dX6_isAt_21 : decode cX6_isAt 21 = .ok (.if_icmp .lt 20, 3) := dk_161 0 20 (dk_at dksX6_isAt_0 21 rfl rfl)
theorem dX6_isAt_24 : decode cX6_isAt 24 = .ok (.aload_n 0, 1) := dk_42 (dk_at dksX6_isAt_1 0 rfl rfl)
theorem dX6_isAt_25 : decode cX6_isAt 25 = .ok (.getfield 20, 3) := dk_180 0 20 (dk_at dksX6_isAt_1 1 rfl rfl)
theorem dX6_isAt_28 : decode cX6_isAt 28 = .ok (.aload_n 0, 1) := dk_42 (dk_at dksX6_isAt_1 4 rfl rfl)
theorem dX6_isAt_29 : decode cX6_isAt 29 = .ok (.getfield 109, 3) := dk_180 0 109 (dk_at dksX6_isAt_1 5 rfl rfl)
theorem dX6_isAt_32 : decode cX6_isAt 32 = .ok (.baload, 1) := dk_51 (dk_at dksX6_isAt_1 8 rfl rfl)
theorem dX6_isAt_33 : decode cX6_isAt 33 = .ok (.iload_n 2, 1) := dk_28 (dk_at dksX6_isAt_1 9 rfl rfl)
theorem dX6_isAt_34 : decode cX6_isAt 34 = .ok (.if_icmp .gt 7, 3) := dk_163 0 7 (dk_at dksX6_isAt_1 10 rfl rfl)
theorem dX6_isAt_37 : decode cX6_isAt 37 = .ok (.iconst 1, 1) := dk_4 (dk_at dksX6_isAt_1 13 rfl rfl)
theorem dX6_isAt_38 : decode cX6_isAt 38 = .ok (.goto 4, 3) := dk_167 0 4 (dk_at dksX6_isAt_1 14 rfl rfl)
theorem dX6_isAt_41 : decode cX6_isAt 41 = .ok (.iconst 0, 1) := dk_3 (dk_at dksX6_isAt_1 17 rfl rfl)
theorem dX6_isAt_42 : decode cX6_isAt 42 = .ok (.ireturn, 1) := dk_172 (dk_at dksX6_isAt_1 18 rfl rfl)
abbrev cX6_passes : ByteArray := prog_30_method_26_code
def yX6_passes : MethodName := ⟨RX6, "passes", "(Ljava/lang/String;)Z"⟩
def dkwX6_passes_0 : List UInt8 := [42, 182, 0, 137, 42, 43, 182, 0, 140, 153, 0, 5, 4, 172, 42, 42, 180, 0, 121, 181, 0, 109, 3, 172]
abbrev dktX6_passes_0 : List UInt8 := dkwX6_passes_0 ++ []
theorem dksX6_passes_0 : cX6_passes.data.toList.drop 0 = dktX6_passes_0 := by decide +kernel
theorem dX6_passes_0 : decode cX6_passes 0 = .ok (.aload_n 0, 1) := dk_42 (dk_at dksX6_passes_0 0 rfl rfl)
theorem dX6_passes_1 : decode cX6_passes 1 = .ok (.invokevirtual 137, 3) := dk_182 0 137 (dk_at dksX6_passes_0 1 rfl rfl)
theorem dX6_passes_4 : decode cX6_passes 4 = .ok (.aload_n 0, 1) := dk_42 (dk_at dksX6_passes_0 4 rfl rfl)
theorem dX6_passes_5 : decode cX6_passes 5 = .ok (.aload_n 1, 1) := dk_43 (dk_at dksX6_passes_0 5 rfl rfl)
theorem dX6_passes_6 : decode cX6_passes 6 = .ok (.invokevirtual 140, 3) := dk_182 0 140 (dk_at dksX6_passes_0 6 rfl rfl)
theorem dX6_passes_9 : decode cX6_passes 9 = .ok (.ifCond .eq 5, 3) := dk_153 0 5 (dk_at dksX6_passes_0 9 rfl rfl)
theorem dX6_passes_12 : decode cX6_passes 12 = .ok (.iconst 1, 1) := dk_4 (dk_at dksX6_passes_0 12 rfl rfl)
theorem dX6_passes_13 : decode cX6_passes 13 = .ok (.ireturn, 1) := dk_172 (dk_at dksX6_passes_0 13 rfl rfl)
theorem dX6_passes_14 : decode cX6_passes 14 = .ok (.aload_n 0, 1) := dk_42 (dk_at dksX6_passes_0 14 rfl rfl)
theorem dX6_passes_15 : decode cX6_passes 15 = .ok (.aload_n 0, 1) := dk_42 (dk_at dksX6_passes_0 15 rfl rfl)
theorem dX6_passes_16 : decode cX6_passes 16 = .ok (.getfield 121, 3) := dk_180 0 121 (dk_at dksX6_passes_0 16 rfl rfl)
theorem dX6_passes_19 : decode cX6_passes 19 = .ok (.putfield 109, 3) := dk_181 0 109 (dk_at dksX6_passes_0 19 rfl rfl)
theorem dX6_passes_22 : decode cX6_passes 22 = .ok (.iconst 0, 1) := dk_3 (dk_at dksX6_passes_0 22 rfl rfl)
theorem dX6_passes_23 : decode cX6_passes 23 = .ok (.ireturn, 1) := dk_172 (dk_at dksX6_passes_0 23 rfl rfl)
abbrev cX6_letters : ByteArray := prog_30_method_24_code
def yX6_letters : MethodName := ⟨RX6, "letters", "()V"⟩
def dkwX6_letters_1 : List UInt8 := [181, 0, 109, 167, 255, 235, 177]
abbrev dktX6_letters_1 : List UInt8 := dkwX6_letters_1 ++ []
def dkwX6_letters_0 : List UInt8 := [42, 182, 0, 124, 42, 16, 97, 16, 122, 182, 0, 118, 153, 0, 16, 42, 89, 180, 0, 109, 4, 96]
abbrev dktX6_letters_0 : List UInt8 := dkwX6_letters_0 ++ dktX6_letters_1
theorem dksX6_letters_0 : cX6_letters.data.toList.drop 0 = dktX6_letters_0 := by decide +kernel
theorem dksX6_letters_1 : cX6_letters.data.toList.drop 22 = dktX6_letters_1 := dk_seg dksX6_letters_0 22 rfl rfl
theorem dX6_letters_0 : decode cX6_letters 0 = .ok (.aload_n 0, 1) := dk_42 (dk_at dksX6_letters_0 0 rfl rfl)
theorem dX6_letters_1 : decode cX6_letters 1 = .ok (.invokevirtual 124, 3) := dk_182 0 124 (dk_at dksX6_letters_0 1 rfl rfl)
theorem dX6_letters_4 : decode cX6_letters 4 = .ok (.aload_n 0, 1) := dk_42 (dk_at dksX6_letters_0 4 rfl rfl)
theorem dX6_letters_5 : decode cX6_letters 5 = .ok (.bipush 97, 2) := dk_16 97 (dk_at dksX6_letters_0 5 rfl rfl)
theorem dX6_letters_7 : decode cX6_letters 7 = .ok (.bipush 122, 2) := dk_16 122 (dk_at dksX6_letters_0 7 rfl rfl)
theorem dX6_letters_9 : decode cX6_letters 9 = .ok (.invokevirtual 118, 3) := dk_182 0 118 (dk_at dksX6_letters_0 9 rfl rfl)
theorem dX6_letters_12 : decode cX6_letters 12 = .ok (.ifCond .eq 16, 3) := dk_153 0 16 (dk_at dksX6_letters_0 12 rfl rfl)
theorem dX6_letters_15 : decode cX6_letters 15 = .ok (.aload_n 0, 1) := dk_42 (dk_at dksX6_letters_0 15 rfl rfl)
theorem dX6_letters_16 : decode cX6_letters 16 = .ok (.dup, 1) := dk_89 (dk_at dksX6_letters_0 16 rfl rfl)
theorem dX6_letters_17 : decode cX6_letters 17 = .ok (.getfield 109, 3) := dk_180 0 109 (dk_at dksX6_letters_0 17 rfl rfl)
theorem dX6_letters_20 : decode cX6_letters 20 = .ok (.iconst 1, 1) := dk_4 (dk_at dksX6_letters_0 20 rfl rfl)
theorem dX6_letters_21 : decode cX6_letters 21 = .ok (.iadd, 1) := dk_96 (dk_at dksX6_letters_0 21 rfl rfl)
theorem dX6_letters_22 : decode cX6_letters 22 = .ok (.putfield 109, 3) := dk_181 0 109 (dk_at dksX6_letters_1 0 rfl rfl)
theorem dX6_letters_25 : decode cX6_letters 25 = .ok (.goto (-21), 3) := dk_167 255 235 (dk_at dksX6_letters_1 3 rfl rfl)
theorem dX6_letters_28 : decode cX6_letters 28 = .ok (.return_, 1) := dk_177 (dk_at dksX6_letters_1 6 rfl rfl)
abbrev cX6_isWord : ByteArray := prog_30_method_25_code
def yX6_isWord : MethodName := ⟨RX6, "isWord", "(Ljava/lang/String;)Z"⟩
def dkwX6_isWord_2 : List UInt8 := [29, 182, 0, 133, 160, 0, 7, 4, 167, 0, 4, 3, 61, 132, 3, 1, 167, 255, 216, 28, 172]
abbrev dktX6_isWord_2 : List UInt8 := dkwX6_isWord_2 ++ []
def dkwX6_isWord_1 : List UInt8 := [28, 153, 0, 42, 29, 43, 182, 0, 127, 162, 0, 34, 42, 180, 0, 20, 42, 180, 0, 121, 29, 96, 51, 43]
abbrev dktX6_isWord_1 : List UInt8 := dkwX6_isWord_1 ++ dktX6_isWord_2
def dkwX6_isWord_0 : List UInt8 := [42, 180, 0, 109, 42, 180, 0, 121, 100, 43, 182, 0, 127, 160, 0, 7, 4, 167, 0, 4, 3, 61, 3, 62]
abbrev dktX6_isWord_0 : List UInt8 := dkwX6_isWord_0 ++ dktX6_isWord_1
theorem dksX6_isWord_0 : cX6_isWord.data.toList.drop 0 = dktX6_isWord_0 := by decide +kernel
theorem dksX6_isWord_1 : cX6_isWord.data.toList.drop 24 = dktX6_isWord_1 := dk_seg dksX6_isWord_0 24 rfl rfl
theorem dksX6_isWord_2 : cX6_isWord.data.toList.drop 48 = dktX6_isWord_2 := dk_seg dksX6_isWord_1 24 rfl rfl
theorem dX6_isWord_0 : decode cX6_isWord 0 = .ok (.aload_n 0, 1) := dk_42 (dk_at dksX6_isWord_0 0 rfl rfl)
theorem dX6_isWord_1 : decode cX6_isWord 1 = .ok (.getfield 109, 3) := dk_180 0 109 (dk_at dksX6_isWord_0 1 rfl rfl)
theorem dX6_isWord_4 : decode cX6_isWord 4 = .ok (.aload_n 0, 1) := dk_42 (dk_at dksX6_isWord_0 4 rfl rfl)
theorem dX6_isWord_5 : decode cX6_isWord 5 = .ok (.getfield 121, 3) := dk_180 0 121 (dk_at dksX6_isWord_0 5 rfl rfl)
theorem dX6_isWord_8 : decode cX6_isWord 8 = .ok (.isub, 1) := dk_100 (dk_at dksX6_isWord_0 8 rfl rfl)
theorem dX6_isWord_9 : decode cX6_isWord 9 = .ok (.aload_n 1, 1) := dk_43 (dk_at dksX6_isWord_0 9 rfl rfl)
theorem dX6_isWord_10 : decode cX6_isWord 10 = .ok (.invokevirtual 127, 3) := dk_182 0 127 (dk_at dksX6_isWord_0 10 rfl rfl)
theorem dX6_isWord_13 : decode cX6_isWord 13 = .ok (.if_icmp .ne 7, 3) := dk_160 0 7 (dk_at dksX6_isWord_0 13 rfl rfl)
theorem dX6_isWord_16 : decode cX6_isWord 16 = .ok (.iconst 1, 1) := dk_4 (dk_at dksX6_isWord_0 16 rfl rfl)
theorem dX6_isWord_17 : decode cX6_isWord 17 = .ok (.goto 4, 3) := dk_167 0 4 (dk_at dksX6_isWord_0 17 rfl rfl)
theorem dX6_isWord_20 : decode cX6_isWord 20 = .ok (.iconst 0, 1) := dk_3 (dk_at dksX6_isWord_0 20 rfl rfl)
theorem dX6_isWord_21 : decode cX6_isWord 21 = .ok (.istore_n 2, 1) := dk_61 (dk_at dksX6_isWord_0 21 rfl rfl)
theorem dX6_isWord_22 : decode cX6_isWord 22 = .ok (.iconst 0, 1) := dk_3 (dk_at dksX6_isWord_0 22 rfl rfl)
theorem dX6_isWord_23 : decode cX6_isWord 23 = .ok (.istore_n 3, 1) := dk_62 (dk_at dksX6_isWord_0 23 rfl rfl)
theorem dX6_isWord_24 : decode cX6_isWord 24 = .ok (.iload_n 2, 1) := dk_28 (dk_at dksX6_isWord_1 0 rfl rfl)
theorem dX6_isWord_25 : decode cX6_isWord 25 = .ok (.ifCond .eq 42, 3) := dk_153 0 42 (dk_at dksX6_isWord_1 1 rfl rfl)
theorem dX6_isWord_28 : decode cX6_isWord 28 = .ok (.iload_n 3, 1) := dk_29 (dk_at dksX6_isWord_1 4 rfl rfl)
theorem dX6_isWord_29 : decode cX6_isWord 29 = .ok (.aload_n 1, 1) := dk_43 (dk_at dksX6_isWord_1 5 rfl rfl)
theorem dX6_isWord_30 : decode cX6_isWord 30 = .ok (.invokevirtual 127, 3) := dk_182 0 127 (dk_at dksX6_isWord_1 6 rfl rfl)
theorem dX6_isWord_33 : decode cX6_isWord 33 = .ok (.if_icmp .ge 34, 3) := dk_162 0 34 (dk_at dksX6_isWord_1 9 rfl rfl)
theorem dX6_isWord_36 : decode cX6_isWord 36 = .ok (.aload_n 0, 1) := dk_42 (dk_at dksX6_isWord_1 12 rfl rfl)
theorem dX6_isWord_37 : decode cX6_isWord 37 = .ok (.getfield 20, 3) := dk_180 0 20 (dk_at dksX6_isWord_1 13 rfl rfl)
theorem dX6_isWord_40 : decode cX6_isWord 40 = .ok (.aload_n 0, 1) := dk_42 (dk_at dksX6_isWord_1 16 rfl rfl)
theorem dX6_isWord_41 : decode cX6_isWord 41 = .ok (.getfield 121, 3) := dk_180 0 121 (dk_at dksX6_isWord_1 17 rfl rfl)
theorem dX6_isWord_44 : decode cX6_isWord 44 = .ok (.iload_n 3, 1) := dk_29 (dk_at dksX6_isWord_1 20 rfl rfl)
theorem dX6_isWord_45 : decode cX6_isWord 45 = .ok (.iadd, 1) := dk_96 (dk_at dksX6_isWord_1 21 rfl rfl)
theorem dX6_isWord_46 : decode cX6_isWord 46 = .ok (.baload, 1) := dk_51 (dk_at dksX6_isWord_1 22 rfl rfl)
theorem dX6_isWord_47 : decode cX6_isWord 47 = .ok (.aload_n 1, 1) := dk_43 (dk_at dksX6_isWord_1 23 rfl rfl)
theorem dX6_isWord_48 : decode cX6_isWord 48 = .ok (.iload_n 3, 1) := dk_29 (dk_at dksX6_isWord_2 0 rfl rfl)
theorem dX6_isWord_49 : decode cX6_isWord 49 = .ok (.invokevirtual 133, 3) := dk_182 0 133 (dk_at dksX6_isWord_2 1 rfl rfl)
theorem dX6_isWord_52 : decode cX6_isWord 52 = .ok (.if_icmp .ne 7, 3) := dk_160 0 7 (dk_at dksX6_isWord_2 4 rfl rfl)
theorem dX6_isWord_55 : decode cX6_isWord 55 = .ok (.iconst 1, 1) := dk_4 (dk_at dksX6_isWord_2 7 rfl rfl)
theorem dX6_isWord_56 : decode cX6_isWord 56 = .ok (.goto 4, 3) := dk_167 0 4 (dk_at dksX6_isWord_2 8 rfl rfl)
theorem dX6_isWord_59 : decode cX6_isWord 59 = .ok (.iconst 0, 1) := dk_3 (dk_at dksX6_isWord_2 11 rfl rfl)
theorem dX6_isWord_60 : decode cX6_isWord 60 = .ok (.istore_n 2, 1) := dk_61 (dk_at dksX6_isWord_2 12 rfl rfl)
theorem dX6_isWord_61 : decode cX6_isWord 61 = .ok (.iinc 3 1, 3) := dk_132 3 1 (dk_at dksX6_isWord_2 13 rfl rfl)
theorem dX6_isWord_64 : decode cX6_isWord 64 = .ok (.goto (-40), 3) := dk_167 255 216 (dk_at dksX6_isWord_2 16 rfl rfl)
theorem dX6_isWord_67 : decode cX6_isWord 67 = .ok (.iload_n 2, 1) := dk_28 (dk_at dksX6_isWord_2 19 rfl rfl)
theorem dX6_isWord_68 : decode cX6_isWord 68 = .ok (.ireturn, 1) := dk_172 (dk_at dksX6_isWord_2 20 rfl rfl)
abbrev cX6_emits : ByteArray := prog_30_method_32_code
def yX6_emits : MethodName := ⟨RX6, "emits", "(II)V"⟩
def dkwX6_emits_1 : List UInt8 := [180, 0, 13, 29, 4, 96, 28, 79, 42, 89, 180, 0, 112, 4, 96, 181, 0, 112, 177]
abbrev dktX6_emits_1 : List UInt8 := dkwX6_emits_1 ++ []
def dkwX6_emits_0 : List UInt8 := [16, 9, 184, 0, 144, 16, 31, 96, 5, 42, 180, 0, 112, 104, 96, 62, 42, 180, 0, 13, 29, 27, 79, 42]
abbrev dktX6_emits_0 : List UInt8 := dkwX6_emits_0 ++ dktX6_emits_1
theorem dksX6_emits_0 : cX6_emits.data.toList.drop 0 = dktX6_emits_0 := by decide +kernel
theorem dksX6_emits_1 : cX6_emits.data.toList.drop 24 = dktX6_emits_1 := dk_seg dksX6_emits_0 24 rfl rfl
theorem dX6_emits_0 : decode cX6_emits 0 = .ok (.bipush 9, 2) := dk_16 9 (dk_at dksX6_emits_0 0 rfl rfl)
theorem dX6_emits_2 : decode cX6_emits 2 = .ok (.invokestatic 144, 3) := dk_184 0 144 (dk_at dksX6_emits_0 2 rfl rfl)
theorem dX6_emits_5 : decode cX6_emits 5 = .ok (.bipush 31, 2) := dk_16 31 (dk_at dksX6_emits_0 5 rfl rfl)
theorem dX6_emits_7 : decode cX6_emits 7 = .ok (.iadd, 1) := dk_96 (dk_at dksX6_emits_0 7 rfl rfl)
theorem dX6_emits_8 : decode cX6_emits 8 = .ok (.iconst 2, 1) := dk_5 (dk_at dksX6_emits_0 8 rfl rfl)
theorem dX6_emits_9 : decode cX6_emits 9 = .ok (.aload_n 0, 1) := dk_42 (dk_at dksX6_emits_0 9 rfl rfl)
theorem dX6_emits_10 : decode cX6_emits 10 = .ok (.getfield 112, 3) := dk_180 0 112 (dk_at dksX6_emits_0 10 rfl rfl)
theorem dX6_emits_13 : decode cX6_emits 13 = .ok (.imul, 1) := dk_104 (dk_at dksX6_emits_0 13 rfl rfl)
theorem dX6_emits_14 : decode cX6_emits 14 = .ok (.iadd, 1) := dk_96 (dk_at dksX6_emits_0 14 rfl rfl)
theorem dX6_emits_15 : decode cX6_emits 15 = .ok (.istore_n 3, 1) := dk_62 (dk_at dksX6_emits_0 15 rfl rfl)
theorem dX6_emits_16 : decode cX6_emits 16 = .ok (.aload_n 0, 1) := dk_42 (dk_at dksX6_emits_0 16 rfl rfl)
theorem dX6_emits_17 : decode cX6_emits 17 = .ok (.getfield 13, 3) := dk_180 0 13 (dk_at dksX6_emits_0 17 rfl rfl)
theorem dX6_emits_20 : decode cX6_emits 20 = .ok (.iload_n 3, 1) := dk_29 (dk_at dksX6_emits_0 20 rfl rfl)
theorem dX6_emits_21 : decode cX6_emits 21 = .ok (.iload_n 1, 1) := dk_27 (dk_at dksX6_emits_0 21 rfl rfl)
theorem dX6_emits_22 : decode cX6_emits 22 = .ok (.iastore, 1) := dk_79 (dk_at dksX6_emits_0 22 rfl rfl)
theorem dX6_emits_23 : decode cX6_emits 23 = .ok (.aload_n 0, 1) := dk_42 (dk_at dksX6_emits_0 23 rfl rfl)
theorem dX6_emits_24 : decode cX6_emits 24 = .ok (.getfield 13, 3) := dk_180 0 13 (dk_at dksX6_emits_1 0 rfl rfl)
theorem dX6_emits_27 : decode cX6_emits 27 = .ok (.iload_n 3, 1) := dk_29 (dk_at dksX6_emits_1 3 rfl rfl)
theorem dX6_emits_28 : decode cX6_emits 28 = .ok (.iconst 1, 1) := dk_4 (dk_at dksX6_emits_1 4 rfl rfl)
theorem dX6_emits_29 : decode cX6_emits 29 = .ok (.iadd, 1) := dk_96 (dk_at dksX6_emits_1 5 rfl rfl)
theorem dX6_emits_30 : decode cX6_emits 30 = .ok (.iload_n 2, 1) := dk_28 (dk_at dksX6_emits_1 6 rfl rfl)
theorem dX6_emits_31 : decode cX6_emits 31 = .ok (.iastore, 1) := dk_79 (dk_at dksX6_emits_1 7 rfl rfl)
theorem dX6_emits_32 : decode cX6_emits 32 = .ok (.aload_n 0, 1) := dk_42 (dk_at dksX6_emits_1 8 rfl rfl)
theorem dX6_emits_33 : decode cX6_emits 33 = .ok (.dup, 1) := dk_89 (dk_at dksX6_emits_1 9 rfl rfl)
theorem dX6_emits_34 : decode cX6_emits 34 = .ok (.getfield 112, 3) := dk_180 0 112 (dk_at dksX6_emits_1 10 rfl rfl)
theorem dX6_emits_37 : decode cX6_emits 37 = .ok (.iconst 1, 1) := dk_4 (dk_at dksX6_emits_1 13 rfl rfl)
theorem dX6_emits_38 : decode cX6_emits 38 = .ok (.iadd, 1) := dk_96 (dk_at dksX6_emits_1 14 rfl rfl)
theorem dX6_emits_39 : decode cX6_emits 39 = .ok (.putfield 112, 3) := dk_181 0 112 (dk_at dksX6_emits_1 15 rfl rfl)
theorem dX6_emits_42 : decode cX6_emits 42 = .ok (.return_, 1) := dk_177 (dk_at dksX6_emits_1 18 rfl rfl)
abbrev cX6_readTag : ByteArray := prog_30_method_38_code
def yX6_readTag : MethodName := ⟨RX6, "readTag", "()Z"⟩
def dkwX6_readTag_4 : List UInt8 := [4, 172]
abbrev dktX6_readTag_4 : List UInt8 := dkwX6_readTag_4 ++ []
def dkwX6_readTag_3 : List UInt8 := [181, 0, 109, 3, 172, 42, 27, 27, 16, 9, 160, 0, 10, 42, 182, 0, 187, 167, 0, 4, 3, 182, 0, 147]
abbrev dktX6_readTag_3 : List UInt8 := dkwX6_readTag_3 ++ dktX6_readTag_4
def dkwX6_readTag_2 : List UInt8 := [182, 0, 140, 153, 0, 8, 16, 8, 167, 0, 4, 2, 60, 27, 156, 0, 13, 42, 42, 180, 0, 121]
abbrev dktX6_readTag_2 : List UInt8 := dkwX6_readTag_2 ++ dktX6_readTag_3
def dkwX6_readTag_1 : List UInt8 := [167, 0, 36, 2, 167, 0, 32, 42, 18, 201, 182, 0, 140, 153, 0, 8, 16, 7, 167, 0, 18, 42, 18, 203]
abbrev dktX6_readTag_1 : List UInt8 := dkwX6_readTag_1 ++ dktX6_readTag_2
def dkwX6_readTag_0 : List UInt8 := [42, 182, 0, 137, 42, 180, 0, 151, 153, 0, 21, 42, 18, 199, 182, 0, 140, 153, 0, 8, 16, 9]
abbrev dktX6_readTag_0 : List UInt8 := dkwX6_readTag_0 ++ dktX6_readTag_1
theorem dksX6_readTag_0 : cX6_readTag.data.toList.drop 0 = dktX6_readTag_0 := by decide +kernel
theorem dksX6_readTag_1 : cX6_readTag.data.toList.drop 22 = dktX6_readTag_1 := dk_seg dksX6_readTag_0 22 rfl rfl
theorem dksX6_readTag_2 : cX6_readTag.data.toList.drop 46 = dktX6_readTag_2 := dk_seg dksX6_readTag_1 24 rfl rfl
theorem dksX6_readTag_3 : cX6_readTag.data.toList.drop 68 = dktX6_readTag_3 := dk_seg dksX6_readTag_2 22 rfl rfl
theorem dksX6_readTag_4 : cX6_readTag.data.toList.drop 92 = dktX6_readTag_4 := dk_seg dksX6_readTag_3 24 rfl rfl
theorem dX6_readTag_0 : decode cX6_readTag 0 = .ok (.aload_n 0, 1) := dk_42 (dk_at dksX6_readTag_0 0 rfl rfl)
theorem dX6_readTag_1 : decode cX6_readTag 1 = .ok (.invokevirtual 137, 3) := dk_182 0 137 (dk_at dksX6_readTag_0 1 rfl rfl)
theorem dX6_readTag_4 : decode cX6_readTag 4 = .ok (.aload_n 0, 1) := dk_42 (dk_at dksX6_readTag_0 4 rfl rfl)
theorem dX6_readTag_5 : decode cX6_readTag 5 = .ok (.getfield 151, 3) := dk_180 0 151 (dk_at dksX6_readTag_0 5 rfl rfl)
theorem dX6_readTag_8 : decode cX6_readTag 8 = .ok (.ifCond .eq 21, 3) := dk_153 0 21 (dk_at dksX6_readTag_0 8 rfl rfl)
theorem dX6_readTag_11 : decode cX6_readTag 11 = .ok (.aload_n 0, 1) := dk_42 (dk_at dksX6_readTag_0 11 rfl rfl)
theorem dX6_readTag_12 : decode cX6_readTag 12 = .ok (.ldc 199, 2) := dk_18 199 (dk_at dksX6_readTag_0 12 rfl rfl)
theorem dX6_readTag_14 : decode cX6_readTag 14 = .ok (.invokevirtual 140, 3) := dk_182 0 140 (dk_at dksX6_readTag_0 14 rfl rfl)
theorem dX6_readTag_17 : decode cX6_readTag 17 = .ok (.ifCond .eq 8, 3) := dk_153 0 8 (dk_at dksX6_readTag_0 17 rfl rfl)
theorem dX6_readTag_20 : decode cX6_readTag 20 = .ok (.bipush 9, 2) := dk_16 9 (dk_at dksX6_readTag_0 20 rfl rfl)
theorem dX6_readTag_22 : decode cX6_readTag 22 = .ok (.goto 36, 3) := dk_167 0 36 (dk_at dksX6_readTag_1 0 rfl rfl)
theorem dX6_readTag_25 : decode cX6_readTag 25 = .ok (.iconst (-1), 1) := dk_2 (dk_at dksX6_readTag_1 3 rfl rfl)
theorem dX6_readTag_26 : decode cX6_readTag 26 = .ok (.goto 32, 3) := dk_167 0 32 (dk_at dksX6_readTag_1 4 rfl rfl)
theorem dX6_readTag_29 : decode cX6_readTag 29 = .ok (.aload_n 0, 1) := dk_42 (dk_at dksX6_readTag_1 7 rfl rfl)
theorem dX6_readTag_30 : decode cX6_readTag 30 = .ok (.ldc 201, 2) := dk_18 201 (dk_at dksX6_readTag_1 8 rfl rfl)
theorem dX6_readTag_32 : decode cX6_readTag 32 = .ok (.invokevirtual 140, 3) := dk_182 0 140 (dk_at dksX6_readTag_1 10 rfl rfl)
theorem dX6_readTag_35 : decode cX6_readTag 35 = .ok (.ifCond .eq 8, 3) := dk_153 0 8 (dk_at dksX6_readTag_1 13 rfl rfl)
theorem dX6_readTag_38 : decode cX6_readTag 38 = .ok (.bipush 7, 2) := dk_16 7 (dk_at dksX6_readTag_1 16 rfl rfl)
theorem dX6_readTag_40 : decode cX6_readTag 40 = .ok (.goto 18, 3) := dk_167 0 18 (dk_at dksX6_readTag_1 18 rfl rfl)
theorem dX6_readTag_43 : decode cX6_readTag 43 = .ok (.aload_n 0, 1) := dk_42 (dk_at dksX6_readTag_1 21 rfl rfl)
theorem dX6_readTag_44 : decode cX6_readTag 44 = .ok (.ldc 203, 2) := dk_18 203 (dk_at dksX6_readTag_1 22 rfl rfl)
theorem dX6_readTag_46 : decode cX6_readTag 46 = .ok (.invokevirtual 140, 3) := dk_182 0 140 (dk_at dksX6_readTag_2 0 rfl rfl)
theorem dX6_readTag_49 : decode cX6_readTag 49 = .ok (.ifCond .eq 8, 3) := dk_153 0 8 (dk_at dksX6_readTag_2 3 rfl rfl)
theorem dX6_readTag_52 : decode cX6_readTag 52 = .ok (.bipush 8, 2) := dk_16 8 (dk_at dksX6_readTag_2 6 rfl rfl)
theorem dX6_readTag_54 : decode cX6_readTag 54 = .ok (.goto 4, 3) := dk_167 0 4 (dk_at dksX6_readTag_2 8 rfl rfl)
theorem dX6_readTag_57 : decode cX6_readTag 57 = .ok (.iconst (-1), 1) := dk_2 (dk_at dksX6_readTag_2 11 rfl rfl)
theorem dX6_readTag_58 : decode cX6_readTag 58 = .ok (.istore_n 1, 1) := dk_60 (dk_at dksX6_readTag_2 12 rfl rfl)
theorem dX6_readTag_59 : decode cX6_readTag 59 = .ok (.iload_n 1, 1) := dk_27 (dk_at dksX6_readTag_2 13 rfl rfl)
theorem dX6_readTag_60 : decode cX6_readTag 60 = .ok (.ifCond .ge 13, 3) := dk_156 0 13 (dk_at dksX6_readTag_2 14 rfl rfl)
theorem dX6_readTag_63 : decode cX6_readTag 63 = .ok (.aload_n 0, 1) := dk_42 (dk_at dksX6_readTag_2 17 rfl rfl)
theorem dX6_readTag_64 : decode cX6_readTag 64 = .ok (.aload_n 0, 1) := dk_42 (dk_at dksX6_readTag_2 18 rfl rfl)
theorem dX6_readTag_65 : decode cX6_readTag 65 = .ok (.getfield 121, 3) := dk_180 0 121 (dk_at dksX6_readTag_2 19 rfl rfl)
theorem dX6_readTag_68 : decode cX6_readTag 68 = .ok (.putfield 109, 3) := dk_181 0 109 (dk_at dksX6_readTag_3 0 rfl rfl)
theorem dX6_readTag_71 : decode cX6_readTag 71 = .ok (.iconst 0, 1) := dk_3 (dk_at dksX6_readTag_3 3 rfl rfl)
theorem dX6_readTag_72 : decode cX6_readTag 72 = .ok (.ireturn, 1) := dk_172 (dk_at dksX6_readTag_3 4 rfl rfl)
theorem dX6_readTag_73 : decode cX6_readTag 73 = .ok (.aload_n 0, 1) := dk_42 (dk_at dksX6_readTag_3 5 rfl rfl)
theorem dX6_readTag_74 : decode cX6_readTag 74 = .ok (.iload_n 1, 1) := dk_27 (dk_at dksX6_readTag_3 6 rfl rfl)
theorem dX6_readTag_75 : decode cX6_readTag 75 = .ok (.iload_n 1, 1) := dk_27 (dk_at dksX6_readTag_3 7 rfl rfl)
theorem dX6_readTag_76 : decode cX6_readTag 76 = .ok (.bipush 9, 2) := dk_16 9 (dk_at dksX6_readTag_3 8 rfl rfl)
theorem dX6_readTag_78 : decode cX6_readTag 78 = .ok (.if_icmp .ne 10, 3) := dk_160 0 10 (dk_at dksX6_readTag_3 10 rfl rfl)
theorem dX6_readTag_81 : decode cX6_readTag 81 = .ok (.aload_n 0, 1) := dk_42 (dk_at dksX6_readTag_3 13 rfl rfl)
theorem dX6_readTag_82 : decode cX6_readTag 82 = .ok (.invokevirtual 187, 3) := dk_182 0 187 (dk_at dksX6_readTag_3 14 rfl rfl)
theorem dX6_readTag_85 : decode cX6_readTag 85 = .ok (.goto 4, 3) := dk_167 0 4 (dk_at dksX6_readTag_3 17 rfl rfl)
theorem dX6_readTag_88 : decode cX6_readTag 88 = .ok (.iconst 0, 1) := dk_3 (dk_at dksX6_readTag_3 20 rfl rfl)
theorem dX6_readTag_89 : decode cX6_readTag 89 = .ok (.invokevirtual 147, 3) := dk_182 0 147 (dk_at dksX6_readTag_3 21 rfl rfl)
theorem dX6_readTag_92 : decode cX6_readTag 92 = .ok (.iconst 1, 1) := dk_4 (dk_at dksX6_readTag_4 0 rfl rfl)
theorem dX6_readTag_93 : decode cX6_readTag 93 = .ok (.ireturn, 1) := dk_172 (dk_at dksX6_readTag_4 1 rfl rfl)
abbrev cX6_number : ByteArray := prog_30_method_28_code
def yX6_number : MethodName := ⟨RX6, "number", "()I"⟩
def dkwX6_number_4 : List UInt8 := [172]
abbrev dktX6_number_4 : List UInt8 := dkwX6_number_4 ++ []
def dkwX6_number_3 : List UInt8 := [180, 0, 121, 159, 0, 16, 42, 180, 0, 109, 42, 180, 0, 121, 100, 6, 164, 0, 7, 2, 167, 0, 4, 27]
abbrev dktX6_number_3 : List UInt8 := dkwX6_number_3 ++ dktX6_number_4
def dkwX6_number_2 : List UInt8 := [100, 167, 0, 4, 27, 60, 42, 89, 180, 0, 109, 4, 96, 181, 0, 109, 167, 255, 200, 42, 180, 0, 109, 42]
abbrev dktX6_number_2 : List UInt8 := dkwX6_number_2 ++ dktX6_number_3
def dkwX6_number_1 : List UInt8 := [180, 0, 121, 100, 6, 162, 0, 23, 16, 10, 27, 104, 42, 180, 0, 20, 42, 180, 0, 109, 51, 96, 16, 48]
abbrev dktX6_number_1 : List UInt8 := dkwX6_number_1 ++ dktX6_number_2
def dkwX6_number_0 : List UInt8 := [42, 182, 0, 124, 3, 60, 42, 16, 48, 16, 57, 182, 0, 118, 153, 0, 51, 42, 180, 0, 109, 42]
abbrev dktX6_number_0 : List UInt8 := dkwX6_number_0 ++ dktX6_number_1
theorem dksX6_number_0 : cX6_number.data.toList.drop 0 = dktX6_number_0 := by decide +kernel
theorem dksX6_number_1 : cX6_number.data.toList.drop 22 = dktX6_number_1 := dk_seg dksX6_number_0 22 rfl rfl
theorem dksX6_number_2 : cX6_number.data.toList.drop 46 = dktX6_number_2 := dk_seg dksX6_number_1 24 rfl rfl
theorem dksX6_number_3 : cX6_number.data.toList.drop 70 = dktX6_number_3 := dk_seg dksX6_number_2 24 rfl rfl
theorem dksX6_number_4 : cX6_number.data.toList.drop 94 = dktX6_number_4 := dk_seg dksX6_number_3 24 rfl rfl
theorem dX6_number_0 : decode cX6_number 0 = .ok (.aload_n 0, 1) := dk_42 (dk_at dksX6_number_0 0 rfl rfl)
theorem dX6_number_1 : decode cX6_number 1 = .ok (.invokevirtual 124, 3) := dk_182 0 124 (dk_at dksX6_number_0 1 rfl rfl)
theorem dX6_number_4 : decode cX6_number 4 = .ok (.iconst 0, 1) := dk_3 (dk_at dksX6_number_0 4 rfl rfl)
theorem dX6_number_5 : decode cX6_number 5 = .ok (.istore_n 1, 1) := dk_60 (dk_at dksX6_number_0 5 rfl rfl)
theorem dX6_number_6 : decode cX6_number 6 = .ok (.aload_n 0, 1) := dk_42 (dk_at dksX6_number_0 6 rfl rfl)
theorem dX6_number_7 : decode cX6_number 7 = .ok (.bipush 48, 2) := dk_16 48 (dk_at dksX6_number_0 7 rfl rfl)
theorem dX6_number_9 : decode cX6_number 9 = .ok (.bipush 57, 2) := dk_16 57 (dk_at dksX6_number_0 9 rfl rfl)
theorem dX6_number_11 : decode cX6_number 11 = .ok (.invokevirtual 118, 3) := dk_182 0 118 (dk_at dksX6_number_0 11 rfl rfl)
theorem dX6_number_14 : decode cX6_number 14 = .ok (.ifCond .eq 51, 3) := dk_153 0 51 (dk_at dksX6_number_0 14 rfl rfl)
theorem dX6_number_17 : decode cX6_number 17 = .ok (.aload_n 0, 1) := dk_42 (dk_at dksX6_number_0 17 rfl rfl)
theorem dX6_number_18 : decode cX6_number 18 = .ok (.getfield 109, 3) := dk_180 0 109 (dk_at dksX6_number_0 18 rfl rfl)
theorem dX6_number_21 : decode cX6_number 21 = .ok (.aload_n 0, 1) := dk_42 (dk_at dksX6_number_0 21 rfl rfl)
theorem dX6_number_22 : decode cX6_number 22 = .ok (.getfield 121, 3) := dk_180 0 121 (dk_at dksX6_number_1 0 rfl rfl)
theorem dX6_number_25 : decode cX6_number 25 = .ok (.isub, 1) := dk_100 (dk_at dksX6_number_1 3 rfl rfl)
theorem dX6_number_26 : decode cX6_number 26 = .ok (.iconst 3, 1) := dk_6 (dk_at dksX6_number_1 4 rfl rfl)
theorem dX6_number_27 : decode cX6_number 27 = .ok (.if_icmp .ge 23, 3) := dk_162 0 23 (dk_at dksX6_number_1 5 rfl rfl)
theorem dX6_number_30 : decode cX6_number 30 = .ok (.bipush 10, 2) := dk_16 10 (dk_at dksX6_number_1 8 rfl rfl)
theorem dX6_number_32 : decode cX6_number 32 = .ok (.iload_n 1, 1) := dk_27 (dk_at dksX6_number_1 10 rfl rfl)
theorem dX6_number_33 : decode cX6_number 33 = .ok (.imul, 1) := dk_104 (dk_at dksX6_number_1 11 rfl rfl)
theorem dX6_number_34 : decode cX6_number 34 = .ok (.aload_n 0, 1) := dk_42 (dk_at dksX6_number_1 12 rfl rfl)
theorem dX6_number_35 : decode cX6_number 35 = .ok (.getfield 20, 3) := dk_180 0 20 (dk_at dksX6_number_1 13 rfl rfl)
theorem dX6_number_38 : decode cX6_number 38 = .ok (.aload_n 0, 1) := dk_42 (dk_at dksX6_number_1 16 rfl rfl)
theorem dX6_number_39 : decode cX6_number 39 = .ok (.getfield 109, 3) := dk_180 0 109 (dk_at dksX6_number_1 17 rfl rfl)
theorem dX6_number_42 : decode cX6_number 42 = .ok (.baload, 1) := dk_51 (dk_at dksX6_number_1 20 rfl rfl)
theorem dX6_number_43 : decode cX6_number 43 = .ok (.iadd, 1) := dk_96 (dk_at dksX6_number_1 21 rfl rfl)
theorem dX6_number_44 : decode cX6_number 44 = .ok (.bipush 48, 2) := dk_16 48 (dk_at dksX6_number_1 22 rfl rfl)
theorem dX6_number_46 : decode cX6_number 46 = .ok (.isub, 1) := dk_100 (dk_at dksX6_number_2 0 rfl rfl)
theorem dX6_number_47 : decode cX6_number 47 = .ok (.goto 4, 3) := dk_167 0 4 (dk_at dksX6_number_2 1 rfl rfl)
theorem dX6_number_50 : decode cX6_number 50 = .ok (.iload_n 1, 1) := dk_27 (dk_at dksX6_number_2 4 rfl rfl)
theorem dX6_number_51 : decode cX6_number 51 = .ok (.istore_n 1, 1) := dk_60 (dk_at dksX6_number_2 5 rfl rfl)
theorem dX6_number_52 : decode cX6_number 52 = .ok (.aload_n 0, 1) := dk_42 (dk_at dksX6_number_2 6 rfl rfl)
theorem dX6_number_53 : decode cX6_number 53 = .ok (.dup, 1) := dk_89 (dk_at dksX6_number_2 7 rfl rfl)
theorem dX6_number_54 : decode cX6_number 54 = .ok (.getfield 109, 3) := dk_180 0 109 (dk_at dksX6_number_2 8 rfl rfl)
theorem dX6_number_57 : decode cX6_number 57 = .ok (.iconst 1, 1) := dk_4 (dk_at dksX6_number_2 11 rfl rfl)
theorem dX6_number_58 : decode cX6_number 58 = .ok (.iadd, 1) := dk_96 (dk_at dksX6_number_2 12 rfl rfl)
theorem dX6_number_59 : decode cX6_number 59 = .ok (.putfield 109, 3) := dk_181 0 109 (dk_at dksX6_number_2 13 rfl rfl)
theorem dX6_number_62 : decode cX6_number 62 = .ok (.goto (-56), 3) := dk_167 255 200 (dk_at dksX6_number_2 16 rfl rfl)
theorem dX6_number_65 : decode cX6_number 65 = .ok (.aload_n 0, 1) := dk_42 (dk_at dksX6_number_2 19 rfl rfl)
theorem dX6_number_66 : decode cX6_number 66 = .ok (.getfield 109, 3) := dk_180 0 109 (dk_at dksX6_number_2 20 rfl rfl)
theorem dX6_number_69 : decode cX6_number 69 = .ok (.aload_n 0, 1) := dk_42 (dk_at dksX6_number_2 23 rfl rfl)
theorem dX6_number_70 : decode cX6_number 70 = .ok (.getfield 121, 3) := dk_180 0 121 (dk_at dksX6_number_3 0 rfl rfl)
theorem dX6_number_73 : decode cX6_number 73 = .ok (.if_icmp .eq 16, 3) := dk_159 0 16 (dk_at dksX6_number_3 3 rfl rfl)
theorem dX6_number_76 : decode cX6_number 76 = .ok (.aload_n 0, 1) := dk_42 (dk_at dksX6_number_3 6 rfl rfl)
theorem dX6_number_77 : decode cX6_number 77 = .ok (.getfield 109, 3) := dk_180 0 109 (dk_at dksX6_number_3 7 rfl rfl)
theorem dX6_number_80 : decode cX6_number 80 = .ok (.aload_n 0, 1) := dk_42 (dk_at dksX6_number_3 10 rfl rfl)
theorem dX6_number_81 : decode cX6_number 81 = .ok (.getfield 121, 3) := dk_180 0 121 (dk_at dksX6_number_3 11 rfl rfl)
theorem dX6_number_84 : decode cX6_number 84 = .ok (.isub, 1) := dk_100 (dk_at dksX6_number_3 14 rfl rfl)
theorem dX6_number_85 : decode cX6_number 85 = .ok (.iconst 3, 1) := dk_6 (dk_at dksX6_number_3 15 rfl rfl)
theorem dX6_number_86 : decode cX6_number 86 = .ok (.if_icmp .le 7, 3) := dk_164 0 7 (dk_at dksX6_number_3 16 rfl rfl)
theorem dX6_number_89 : decode cX6_number 89 = .ok (.iconst (-1), 1) := dk_2 (dk_at dksX6_number_3 19 rfl rfl)
theorem dX6_number_90 : decode cX6_number 90 = .ok (.goto 4, 3) := dk_167 0 4 (dk_at dksX6_number_3 20 rfl rfl)
theorem dX6_number_93 : decode cX6_number 93 = .ok (.iload_n 1, 1) := dk_27 (dk_at dksX6_number_3 23 rfl rfl)
theorem dX6_number_94 : decode cX6_number 94 = .ok (.ireturn, 1) := dk_172 (dk_at dksX6_number_4 0 rfl rfl)
abbrev cX6_readSum : ByteArray := prog_30_method_37_code
def yX6_readSum : MethodName := ⟨RX6, "readSum", "()Z"⟩
def dkwX6_readSum_1 : List UInt8 := [154, 0, 5, 3, 172, 42, 16, 12, 3, 182, 0, 147, 167, 255, 231, 4, 172]
abbrev dktX6_readSum_1 : List UInt8 := dkwX6_readSum_1 ++ []
def dkwX6_readSum_0 : List UInt8 := [42, 182, 0, 196, 154, 0, 5, 3, 172, 42, 16, 43, 182, 0, 193, 153, 0, 22, 42, 182, 0, 196]
abbrev dktX6_readSum_0 : List UInt8 := dkwX6_readSum_0 ++ dktX6_readSum_1
theorem dksX6_readSum_0 : cX6_readSum.data.toList.drop 0 = dktX6_readSum_0 := by decide +kernel
theorem dksX6_readSum_1 : cX6_readSum.data.toList.drop 22 = dktX6_readSum_1 := dk_seg dksX6_readSum_0 22 rfl rfl
theorem dX6_readSum_0 : decode cX6_readSum 0 = .ok (.aload_n 0, 1) := dk_42 (dk_at dksX6_readSum_0 0 rfl rfl)
theorem dX6_readSum_1 : decode cX6_readSum 1 = .ok (.invokevirtual 196, 3) := dk_182 0 196 (dk_at dksX6_readSum_0 1 rfl rfl)
theorem dX6_readSum_4 : decode cX6_readSum 4 = .ok (.ifCond .ne 5, 3) := dk_154 0 5 (dk_at dksX6_readSum_0 4 rfl rfl)
theorem dX6_readSum_7 : decode cX6_readSum 7 = .ok (.iconst 0, 1) := dk_3 (dk_at dksX6_readSum_0 7 rfl rfl)
theorem dX6_readSum_8 : decode cX6_readSum 8 = .ok (.ireturn, 1) := dk_172 (dk_at dksX6_readSum_0 8 rfl rfl)
theorem dX6_readSum_9 : decode cX6_readSum 9 = .ok (.aload_n 0, 1) := dk_42 (dk_at dksX6_readSum_0 9 rfl rfl)
theorem dX6_readSum_10 : decode cX6_readSum 10 = .ok (.bipush 43, 2) := dk_16 43 (dk_at dksX6_readSum_0 10 rfl rfl)
theorem dX6_readSum_12 : decode cX6_readSum 12 = .ok (.invokevirtual 193, 3) := dk_182 0 193 (dk_at dksX6_readSum_0 12 rfl rfl)
theorem dX6_readSum_15 : decode cX6_readSum 15 = .ok (.ifCond .eq 22, 3) := dk_153 0 22 (dk_at dksX6_readSum_0 15 rfl rfl)
theorem dX6_readSum_18 : decode cX6_readSum 18 = .ok (.aload_n 0, 1) := dk_42 (dk_at dksX6_readSum_0 18 rfl rfl)
theorem dX6_readSum_19 : decode cX6_readSum 19 = .ok (.invokevirtual 196, 3) := dk_182 0 196 (dk_at dksX6_readSum_0 19 rfl rfl)
theorem dX6_readSum_22 : decode cX6_readSum 22 = .ok (.ifCond .ne 5, 3) := dk_154 0 5 (dk_at dksX6_readSum_1 0 rfl rfl)
theorem dX6_readSum_25 : decode cX6_readSum 25 = .ok (.iconst 0, 1) := dk_3 (dk_at dksX6_readSum_1 3 rfl rfl)
theorem dX6_readSum_26 : decode cX6_readSum 26 = .ok (.ireturn, 1) := dk_172 (dk_at dksX6_readSum_1 4 rfl rfl)
theorem dX6_readSum_27 : decode cX6_readSum 27 = .ok (.aload_n 0, 1) := dk_42 (dk_at dksX6_readSum_1 5 rfl rfl)
theorem dX6_readSum_28 : decode cX6_readSum 28 = .ok (.bipush 12, 2) := dk_16 12 (dk_at dksX6_readSum_1 6 rfl rfl)
theorem dX6_readSum_30 : decode cX6_readSum 30 = .ok (.iconst 0, 1) := dk_3 (dk_at dksX6_readSum_1 8 rfl rfl)
theorem dX6_readSum_31 : decode cX6_readSum 31 = .ok (.invokevirtual 147, 3) := dk_182 0 147 (dk_at dksX6_readSum_1 9 rfl rfl)
theorem dX6_readSum_34 : decode cX6_readSum 34 = .ok (.goto (-25), 3) := dk_167 255 231 (dk_at dksX6_readSum_1 12 rfl rfl)
theorem dX6_readSum_37 : decode cX6_readSum 37 = .ok (.iconst 1, 1) := dk_4 (dk_at dksX6_readSum_1 15 rfl rfl)
theorem dX6_readSum_38 : decode cX6_readSum 38 = .ok (.ireturn, 1) := dk_172 (dk_at dksX6_readSum_1 16 rfl rfl)
abbrev cX6_readPart : ByteArray := prog_30_method_36_code
def yX6_readPart : MethodName := ⟨RX6, "readPart", "()Z"⟩
def dkwX6_readPart_3 : List UInt8 := [4, 172]
abbrev dktX6_readPart_3 : List UInt8 := dkwX6_readPart_3 ++ []
def dkwX6_readPart_2 : List UInt8 := [182, 0, 193, 154, 0, 5, 4, 172, 42, 182, 0, 183, 154, 0, 5, 3, 172, 42, 16, 11, 3, 182, 0, 147]
abbrev dktX6_readPart_2 : List UInt8 := dkwX6_readPart_2 ++ dktX6_readPart_3
def dkwX6_readPart_1 : List UInt8 := [182, 0, 183, 172, 42, 16, 10, 42, 182, 0, 187, 182, 0, 190, 154, 0, 5, 3, 172, 42, 16, 42]
abbrev dktX6_readPart_1 : List UInt8 := dkwX6_readPart_1 ++ dktX6_readPart_2
def dkwX6_readPart_0 : List UInt8 := [42, 182, 0, 137, 42, 180, 0, 109, 42, 180, 0, 121, 164, 0, 16, 42, 42, 180, 0, 121, 181, 0, 109, 42]
abbrev dktX6_readPart_0 : List UInt8 := dkwX6_readPart_0 ++ dktX6_readPart_1
theorem dksX6_readPart_0 : cX6_readPart.data.toList.drop 0 = dktX6_readPart_0 := by decide +kernel
theorem dksX6_readPart_1 : cX6_readPart.data.toList.drop 24 = dktX6_readPart_1 := dk_seg dksX6_readPart_0 24 rfl rfl
theorem dksX6_readPart_2 : cX6_readPart.data.toList.drop 46 = dktX6_readPart_2 := dk_seg dksX6_readPart_1 22 rfl rfl
theorem dksX6_readPart_3 : cX6_readPart.data.toList.drop 70 = dktX6_readPart_3 := dk_seg dksX6_readPart_2 24 rfl rfl
theorem dX6_readPart_0 : decode cX6_readPart 0 = .ok (.aload_n 0, 1) := dk_42 (dk_at dksX6_readPart_0 0 rfl rfl)
theorem dX6_readPart_1 : decode cX6_readPart 1 = .ok (.invokevirtual 137, 3) := dk_182 0 137 (dk_at dksX6_readPart_0 1 rfl rfl)
theorem dX6_readPart_4 : decode cX6_readPart 4 = .ok (.aload_n 0, 1) := dk_42 (dk_at dksX6_readPart_0 4 rfl rfl)
theorem dX6_readPart_5 : decode cX6_readPart 5 = .ok (.getfield 109, 3) := dk_180 0 109 (dk_at dksX6_readPart_0 5 rfl rfl)
theorem dX6_readPart_8 : decode cX6_readPart 8 = .ok (.aload_n 0, 1) := dk_42 (dk_at dksX6_readPart_0 8 rfl rfl)
theorem dX6_readPart_9 : decode cX6_readPart 9 = .ok (.getfield 121, 3) := dk_180 0 121 (dk_at dksX6_readPart_0 9 rfl rfl)
theorem dX6_readPart_12 : decode cX6_readPart 12 = .ok (.if_icmp .le 16, 3) := dk_164 0 16 (dk_at dksX6_readPart_0 12 rfl rfl)
theorem dX6_readPart_15 : decode cX6_readPart 15 = .ok (.aload_n 0, 1) := dk_42 (dk_at dksX6_readPart_0 15 rfl rfl)
theorem dX6_readPart_16 : decode cX6_readPart 16 = .ok (.aload_n 0, 1) := dk_42 (dk_at dksX6_readPart_0 16 rfl rfl)
theorem dX6_readPart_17 : decode cX6_readPart 17 = .ok (.getfield 121, 3) := dk_180 0 121 (dk_at dksX6_readPart_0 17 rfl rfl)
theorem dX6_readPart_20 : decode cX6_readPart 20 = .ok (.putfield 109, 3) := dk_181 0 109 (dk_at dksX6_readPart_0 20 rfl rfl)
theorem dX6_readPart_23 : decode cX6_readPart 23 = .ok (.aload_n 0, 1) := dk_42 (dk_at dksX6_readPart_0 23 rfl rfl)
theorem dX6_readPart_24 : decode cX6_readPart 24 = .ok (.invokevirtual 183, 3) := dk_182 0 183 (dk_at dksX6_readPart_1 0 rfl rfl)
theorem dX6_readPart_27 : decode cX6_readPart 27 = .ok (.ireturn, 1) := dk_172 (dk_at dksX6_readPart_1 3 rfl rfl)
theorem dX6_readPart_28 : decode cX6_readPart 28 = .ok (.aload_n 0, 1) := dk_42 (dk_at dksX6_readPart_1 4 rfl rfl)
theorem dX6_readPart_29 : decode cX6_readPart 29 = .ok (.bipush 10, 2) := dk_16 10 (dk_at dksX6_readPart_1 5 rfl rfl)
theorem dX6_readPart_31 : decode cX6_readPart 31 = .ok (.aload_n 0, 1) := dk_42 (dk_at dksX6_readPart_1 7 rfl rfl)
theorem dX6_readPart_32 : decode cX6_readPart 32 = .ok (.invokevirtual 187, 3) := dk_182 0 187 (dk_at dksX6_readPart_1 8 rfl rfl)
theorem dX6_readPart_35 : decode cX6_readPart 35 = .ok (.invokevirtual 190, 3) := dk_182 0 190 (dk_at dksX6_readPart_1 11 rfl rfl)
theorem dX6_readPart_38 : decode cX6_readPart 38 = .ok (.ifCond .ne 5, 3) := dk_154 0 5 (dk_at dksX6_readPart_1 14 rfl rfl)
theorem dX6_readPart_41 : decode cX6_readPart 41 = .ok (.iconst 0, 1) := dk_3 (dk_at dksX6_readPart_1 17 rfl rfl)
theorem dX6_readPart_42 : decode cX6_readPart 42 = .ok (.ireturn, 1) := dk_172 (dk_at dksX6_readPart_1 18 rfl rfl)
theorem dX6_readPart_43 : decode cX6_readPart 43 = .ok (.aload_n 0, 1) := dk_42 (dk_at dksX6_readPart_1 19 rfl rfl)
theorem dX6_readPart_44 : decode cX6_readPart 44 = .ok (.bipush 42, 2) := dk_16 42 (dk_at dksX6_readPart_1 20 rfl rfl)
theorem dX6_readPart_46 : decode cX6_readPart 46 = .ok (.invokevirtual 193, 3) := dk_182 0 193 (dk_at dksX6_readPart_2 0 rfl rfl)
theorem dX6_readPart_49 : decode cX6_readPart 49 = .ok (.ifCond .ne 5, 3) := dk_154 0 5 (dk_at dksX6_readPart_2 3 rfl rfl)
theorem dX6_readPart_52 : decode cX6_readPart 52 = .ok (.iconst 1, 1) := dk_4 (dk_at dksX6_readPart_2 6 rfl rfl)
theorem dX6_readPart_53 : decode cX6_readPart 53 = .ok (.ireturn, 1) := dk_172 (dk_at dksX6_readPart_2 7 rfl rfl)
theorem dX6_readPart_54 : decode cX6_readPart 54 = .ok (.aload_n 0, 1) := dk_42 (dk_at dksX6_readPart_2 8 rfl rfl)
theorem dX6_readPart_55 : decode cX6_readPart 55 = .ok (.invokevirtual 183, 3) := dk_182 0 183 (dk_at dksX6_readPart_2 9 rfl rfl)
theorem dX6_readPart_58 : decode cX6_readPart 58 = .ok (.ifCond .ne 5, 3) := dk_154 0 5 (dk_at dksX6_readPart_2 12 rfl rfl)
theorem dX6_readPart_61 : decode cX6_readPart 61 = .ok (.iconst 0, 1) := dk_3 (dk_at dksX6_readPart_2 15 rfl rfl)
theorem dX6_readPart_62 : decode cX6_readPart 62 = .ok (.ireturn, 1) := dk_172 (dk_at dksX6_readPart_2 16 rfl rfl)
theorem dX6_readPart_63 : decode cX6_readPart 63 = .ok (.aload_n 0, 1) := dk_42 (dk_at dksX6_readPart_2 17 rfl rfl)
theorem dX6_readPart_64 : decode cX6_readPart 64 = .ok (.bipush 11, 2) := dk_16 11 (dk_at dksX6_readPart_2 18 rfl rfl)
theorem dX6_readPart_66 : decode cX6_readPart 66 = .ok (.iconst 0, 1) := dk_3 (dk_at dksX6_readPart_2 20 rfl rfl)
theorem dX6_readPart_67 : decode cX6_readPart 67 = .ok (.invokevirtual 147, 3) := dk_182 0 147 (dk_at dksX6_readPart_2 21 rfl rfl)
theorem dX6_readPart_70 : decode cX6_readPart 70 = .ok (.iconst 1, 1) := dk_4 (dk_at dksX6_readPart_3 0 rfl rfl)
theorem dX6_readPart_71 : decode cX6_readPart 71 = .ok (.ireturn, 1) := dk_172 (dk_at dksX6_readPart_3 1 rfl rfl)
abbrev cX6_readFact : ByteArray := prog_30_method_35_code
def yX6_readFact : MethodName := ⟨RX6, "readFact", "()Z"⟩
def dkwX6_readFact_1 : List UInt8 := [167, 0, 4, 3, 172]
abbrev dktX6_readFact_1 : List UInt8 := dkwX6_readFact_1 ++ []
def dkwX6_readFact_0 : List UInt8 := [42, 182, 0, 137, 42, 182, 0, 180, 60, 27, 155, 0, 9, 42, 27, 3, 182, 0, 147, 27, 155, 0, 7, 4]
abbrev dktX6_readFact_0 : List UInt8 := dkwX6_readFact_0 ++ dktX6_readFact_1
theorem dksX6_readFact_0 : cX6_readFact.data.toList.drop 0 = dktX6_readFact_0 := by decide +kernel
theorem dksX6_readFact_1 : cX6_readFact.data.toList.drop 24 = dktX6_readFact_1 := dk_seg dksX6_readFact_0 24 rfl rfl
theorem dX6_readFact_0 : decode cX6_readFact 0 = .ok (.aload_n 0, 1) := dk_42 (dk_at dksX6_readFact_0 0 rfl rfl)
theorem dX6_readFact_1 : decode cX6_readFact 1 = .ok (.invokevirtual 137, 3) := dk_182 0 137 (dk_at dksX6_readFact_0 1 rfl rfl)
theorem dX6_readFact_4 : decode cX6_readFact 4 = .ok (.aload_n 0, 1) := dk_42 (dk_at dksX6_readFact_0 4 rfl rfl)
theorem dX6_readFact_5 : decode cX6_readFact 5 = .ok (.invokevirtual 180, 3) := dk_182 0 180 (dk_at dksX6_readFact_0 5 rfl rfl)
theorem dX6_readFact_8 : decode cX6_readFact 8 = .ok (.istore_n 1, 1) := dk_60 (dk_at dksX6_readFact_0 8 rfl rfl)
theorem dX6_readFact_9 : decode cX6_readFact 9 = .ok (.iload_n 1, 1) := dk_27 (dk_at dksX6_readFact_0 9 rfl rfl)
theorem dX6_readFact_10 : decode cX6_readFact 10 = .ok (.ifCond .lt 9, 3) := dk_155 0 9 (dk_at dksX6_readFact_0 10 rfl rfl)
theorem dX6_readFact_13 : decode cX6_readFact 13 = .ok (.aload_n 0, 1) := dk_42 (dk_at dksX6_readFact_0 13 rfl rfl)
theorem dX6_readFact_14 : decode cX6_readFact 14 = .ok (.iload_n 1, 1) := dk_27 (dk_at dksX6_readFact_0 14 rfl rfl)
theorem dX6_readFact_15 : decode cX6_readFact 15 = .ok (.iconst 0, 1) := dk_3 (dk_at dksX6_readFact_0 15 rfl rfl)
theorem dX6_readFact_16 : decode cX6_readFact 16 = .ok (.invokevirtual 147, 3) := dk_182 0 147 (dk_at dksX6_readFact_0 16 rfl rfl)
theorem dX6_readFact_19 : decode cX6_readFact 19 = .ok (.iload_n 1, 1) := dk_27 (dk_at dksX6_readFact_0 19 rfl rfl)
theorem dX6_readFact_20 : decode cX6_readFact 20 = .ok (.ifCond .lt 7, 3) := dk_155 0 7 (dk_at dksX6_readFact_0 20 rfl rfl)
theorem dX6_readFact_23 : decode cX6_readFact 23 = .ok (.iconst 1, 1) := dk_4 (dk_at dksX6_readFact_0 23 rfl rfl)
theorem dX6_readFact_24 : decode cX6_readFact 24 = .ok (.goto 4, 3) := dk_167 0 4 (dk_at dksX6_readFact_1 0 rfl rfl)
theorem dX6_readFact_27 : decode cX6_readFact 27 = .ok (.iconst 0, 1) := dk_3 (dk_at dksX6_readFact_1 3 rfl rfl)
theorem dX6_readFact_28 : decode cX6_readFact 28 = .ok (.ireturn, 1) := dk_172 (dk_at dksX6_readFact_1 4 rfl rfl)
abbrev cX6_factAt : ByteArray := prog_30_method_34_code
def yX6_factAt : MethodName := ⟨RX6, "factAt", "()I"⟩
def dkwX6_factAt_8 : List UInt8 := [182, 0, 140, 153, 0, 8, 16, 6, 167, 0, 4, 2, 172]
abbrev dktX6_factAt_8 : List UInt8 := dkwX6_factAt_8 ++ []
def dkwX6_factAt_7 : List UInt8 := [153, 0, 7, 7, 167, 0, 31, 42, 18, 177, 182, 0, 140, 153, 0, 7, 8, 167, 0, 18, 42, 18, 179]
abbrev dktX6_factAt_7 : List UInt8 := dkwX6_factAt_7 ++ dktX6_factAt_8
def dkwX6_factAt_6 : List UInt8 := [167, 0, 57, 42, 18, 173, 182, 0, 140, 153, 0, 7, 6, 167, 0, 44, 42, 18, 175, 182, 0, 140]
abbrev dktX6_factAt_6 : List UInt8 := dkwX6_factAt_6 ++ dktX6_factAt_7
def dkwX6_factAt_5 : List UInt8 := [18, 169, 182, 0, 140, 153, 0, 7, 4, 167, 0, 70, 42, 18, 171, 182, 0, 140, 153, 0, 7, 5]
abbrev dktX6_factAt_5 : List UInt8 := dkwX6_factAt_5 ++ dktX6_factAt_6
def dkwX6_factAt_4 : List UInt8 := [153, 0, 8, 16, 6, 167, 0, 4, 2, 172, 42, 18, 167, 182, 0, 140, 153, 0, 7, 3, 167, 0, 83, 42]
abbrev dktX6_factAt_4 : List UInt8 := dkwX6_factAt_4 ++ dktX6_factAt_5
def dkwX6_factAt_3 : List UInt8 := [167, 0, 31, 42, 18, 163, 182, 0, 140, 153, 0, 7, 8, 167, 0, 18, 42, 18, 165, 182, 0, 140]
abbrev dktX6_factAt_3 : List UInt8 := dkwX6_factAt_3 ++ dktX6_factAt_4
def dkwX6_factAt_2 : List UInt8 := [18, 159, 182, 0, 140, 153, 0, 7, 6, 167, 0, 44, 42, 18, 161, 182, 0, 140, 153, 0, 7, 7]
abbrev dktX6_factAt_2 : List UInt8 := dkwX6_factAt_2 ++ dktX6_factAt_3
def dkwX6_factAt_1 : List UInt8 := [182, 0, 140, 153, 0, 7, 4, 167, 0, 70, 42, 18, 158, 182, 0, 140, 153, 0, 7, 5, 167, 0, 57, 42]
abbrev dktX6_factAt_1 : List UInt8 := dkwX6_factAt_1 ++ dktX6_factAt_2
def dkwX6_factAt_0 : List UInt8 := [42, 180, 0, 151, 153, 0, 97, 42, 18, 154, 182, 0, 140, 153, 0, 7, 3, 167, 0, 83, 42, 18, 156]
abbrev dktX6_factAt_0 : List UInt8 := dkwX6_factAt_0 ++ dktX6_factAt_1
theorem dksX6_factAt_0 : cX6_factAt.data.toList.drop 0 = dktX6_factAt_0 := by decide +kernel
theorem dksX6_factAt_1 : cX6_factAt.data.toList.drop 23 = dktX6_factAt_1 := dk_seg dksX6_factAt_0 23 rfl rfl
theorem dksX6_factAt_2 : cX6_factAt.data.toList.drop 47 = dktX6_factAt_2 := dk_seg dksX6_factAt_1 24 rfl rfl
theorem dksX6_factAt_3 : cX6_factAt.data.toList.drop 69 = dktX6_factAt_3 := dk_seg dksX6_factAt_2 22 rfl rfl
theorem dksX6_factAt_4 : cX6_factAt.data.toList.drop 91 = dktX6_factAt_4 := dk_seg dksX6_factAt_3 22 rfl rfl
theorem dksX6_factAt_5 : cX6_factAt.data.toList.drop 115 = dktX6_factAt_5 := dk_seg dksX6_factAt_4 24 rfl rfl
theorem dksX6_factAt_6 : cX6_factAt.data.toList.drop 137 = dktX6_factAt_6 := dk_seg dksX6_factAt_5 22 rfl rfl
theorem dksX6_factAt_7 : cX6_factAt.data.toList.drop 159 = dktX6_factAt_7 := dk_seg dksX6_factAt_6 22 rfl rfl
theorem dksX6_factAt_8 : cX6_factAt.data.toList.drop 182 = dktX6_factAt_8 := dk_seg dksX6_factAt_7 23 rfl rfl
theorem dX6_factAt_0 : decode cX6_factAt 0 = .ok (.aload_n 0, 1) := dk_42 (dk_at dksX6_factAt_0 0 rfl rfl)
theorem dX6_factAt_1 : decode cX6_factAt 1 = .ok (.getfield 151, 3) := dk_180 0 151 (dk_at dksX6_factAt_0 1 rfl rfl)
theorem dX6_factAt_4 : decode cX6_factAt 4 = .ok (.ifCond .eq 97, 3) := dk_153 0 97 (dk_at dksX6_factAt_0 4 rfl rfl)
theorem dX6_factAt_7 : decode cX6_factAt 7 = .ok (.aload_n 0, 1) := dk_42 (dk_at dksX6_factAt_0 7 rfl rfl)
theorem dX6_factAt_8 : decode cX6_factAt 8 = .ok (.ldc 154, 2) := dk_18 154 (dk_at dksX6_factAt_0 8 rfl rfl)
theorem dX6_factAt_10 : decode cX6_factAt 10 = .ok (.invokevirtual 140, 3) := dk_182 0 140 (dk_at dksX6_factAt_0 10 rfl rfl)
theorem dX6_factAt_13 : decode cX6_factAt 13 = .ok (.ifCond .eq 7, 3) := dk_153 0 7 (dk_at dksX6_factAt_0 13 rfl rfl)
theorem dX6_factAt_16 : decode cX6_factAt 16 = .ok (.iconst 0, 1) := dk_3 (dk_at dksX6_factAt_0 16 rfl rfl)
theorem dX6_factAt_17 : decode cX6_factAt 17 = .ok (.goto 83, 3) := dk_167 0 83 (dk_at dksX6_factAt_0 17 rfl rfl)
theorem dX6_factAt_20 : decode cX6_factAt 20 = .ok (.aload_n 0, 1) := dk_42 (dk_at dksX6_factAt_0 20 rfl rfl)
theorem dX6_factAt_21 : decode cX6_factAt 21 = .ok (.ldc 156, 2) := dk_18 156 (dk_at dksX6_factAt_0 21 rfl rfl)
theorem dX6_factAt_23 : decode cX6_factAt 23 = .ok (.invokevirtual 140, 3) := dk_182 0 140 (dk_at dksX6_factAt_1 0 rfl rfl)
theorem dX6_factAt_26 : decode cX6_factAt 26 = .ok (.ifCond .eq 7, 3) := dk_153 0 7 (dk_at dksX6_factAt_1 3 rfl rfl)
theorem dX6_factAt_29 : decode cX6_factAt 29 = .ok (.iconst 1, 1) := dk_4 (dk_at dksX6_factAt_1 6 rfl rfl)
theorem dX6_factAt_30 : decode cX6_factAt 30 = .ok (.goto 70, 3) := dk_167 0 70 (dk_at dksX6_factAt_1 7 rfl rfl)
theorem dX6_factAt_33 : decode cX6_factAt 33 = .ok (.aload_n 0, 1) := dk_42 (dk_at dksX6_factAt_1 10 rfl rfl)
theorem dX6_factAt_34 : decode cX6_factAt 34 = .ok (.ldc 158, 2) := dk_18 158 (dk_at dksX6_factAt_1 11 rfl rfl)
theorem dX6_factAt_36 : decode cX6_factAt 36 = .ok (.invokevirtual 140, 3) := dk_182 0 140 (dk_at dksX6_factAt_1 13 rfl rfl)
theorem dX6_factAt_39 : decode cX6_factAt 39 = .ok (.ifCond .eq 7, 3) := dk_153 0 7 (dk_at dksX6_factAt_1 16 rfl rfl)
theorem dX6_factAt_42 : decode cX6_factAt 42 = .ok (.iconst 2, 1) := dk_5 (dk_at dksX6_factAt_1 19 rfl rfl)
theorem dX6_factAt_43 : decode cX6_factAt 43 = .ok (.goto 57, 3) := dk_167 0 57 (dk_at dksX6_factAt_1 20 rfl rfl)
theorem dX6_factAt_46 : decode cX6_factAt 46 = .ok (.aload_n 0, 1) := dk_42 (dk_at dksX6_factAt_1 23 rfl rfl)
theorem dX6_factAt_47 : decode cX6_factAt 47 = .ok (.ldc 159, 2) := dk_18 159 (dk_at dksX6_factAt_2 0 rfl rfl)
theorem dX6_factAt_49 : decode cX6_factAt 49 = .ok (.invokevirtual 140, 3) := dk_182 0 140 (dk_at dksX6_factAt_2 2 rfl rfl)
theorem dX6_factAt_52 : decode cX6_factAt 52 = .ok (.ifCond .eq 7, 3) := dk_153 0 7 (dk_at dksX6_factAt_2 5 rfl rfl)
theorem dX6_factAt_55 : decode cX6_factAt 55 = .ok (.iconst 3, 1) := dk_6 (dk_at dksX6_factAt_2 8 rfl rfl)
theorem dX6_factAt_56 : decode cX6_factAt 56 = .ok (.goto 44, 3) := dk_167 0 44 (dk_at dksX6_factAt_2 9 rfl rfl)
theorem dX6_factAt_59 : decode cX6_factAt 59 = .ok (.aload_n 0, 1) := dk_42 (dk_at dksX6_factAt_2 12 rfl rfl)
theorem dX6_factAt_60 : decode cX6_factAt 60 = .ok (.ldc 161, 2) := dk_18 161 (dk_at dksX6_factAt_2 13 rfl rfl)
theorem dX6_factAt_62 : decode cX6_factAt 62 = .ok (.invokevirtual 140, 3) := dk_182 0 140 (dk_at dksX6_factAt_2 15 rfl rfl)
theorem dX6_factAt_65 : decode cX6_factAt 65 = .ok (.ifCond .eq 7, 3) := dk_153 0 7 (dk_at dksX6_factAt_2 18 rfl rfl)
theorem dX6_factAt_68 : decode cX6_factAt 68 = .ok (.iconst 4, 1) := dk_7 (dk_at dksX6_factAt_2 21 rfl rfl)
theorem dX6_factAt_69 : decode cX6_factAt 69 = .ok (.goto 31, 3) := dk_167 0 31 (dk_at dksX6_factAt_3 0 rfl rfl)
theorem dX6_factAt_72 : decode cX6_factAt 72 = .ok (.aload_n 0, 1) := dk_42 (dk_at dksX6_factAt_3 3 rfl rfl)
theorem dX6_factAt_73 : decode cX6_factAt 73 = .ok (.ldc 163, 2) := dk_18 163 (dk_at dksX6_factAt_3 4 rfl rfl)
theorem dX6_factAt_75 : decode cX6_factAt 75 = .ok (.invokevirtual 140, 3) := dk_182 0 140 (dk_at dksX6_factAt_3 6 rfl rfl)
theorem dX6_factAt_78 : decode cX6_factAt 78 = .ok (.ifCond .eq 7, 3) := dk_153 0 7 (dk_at dksX6_factAt_3 9 rfl rfl)
theorem dX6_factAt_81 : decode cX6_factAt 81 = .ok (.iconst 5, 1) := dk_8 (dk_at dksX6_factAt_3 12 rfl rfl)
theorem dX6_factAt_82 : decode cX6_factAt 82 = .ok (.goto 18, 3) := dk_167 0 18 (dk_at dksX6_factAt_3 13 rfl rfl)
theorem dX6_factAt_85 : decode cX6_factAt 85 = .ok (.aload_n 0, 1) := dk_42 (dk_at dksX6_factAt_3 16 rfl rfl)
theorem dX6_factAt_86 : decode cX6_factAt 86 = .ok (.ldc 165, 2) := dk_18 165 (dk_at dksX6_factAt_3 17 rfl rfl)
theorem dX6_factAt_88 : decode cX6_factAt 88 = .ok (.invokevirtual 140, 3) := dk_182 0 140 (dk_at dksX6_factAt_3 19 rfl rfl)
theorem dX6_factAt_91 : decode cX6_factAt 91 = .ok (.ifCond .eq 8, 3) := dk_153 0 8 (dk_at dksX6_factAt_4 0 rfl rfl)
theorem dX6_factAt_94 : decode cX6_factAt 94 = .ok (.bipush 6, 2) := dk_16 6 (dk_at dksX6_factAt_4 3 rfl rfl)
theorem dX6_factAt_96 : decode cX6_factAt 96 = .ok (.goto 4, 3) := dk_167 0 4 (dk_at dksX6_factAt_4 5 rfl rfl)
theorem dX6_factAt_99 : decode cX6_factAt 99 = .ok (.iconst (-1), 1) := dk_2 (dk_at dksX6_factAt_4 8 rfl rfl)
theorem dX6_factAt_100 : decode cX6_factAt 100 = .ok (.ireturn, 1) := dk_172 (dk_at dksX6_factAt_4 9 rfl rfl)
theorem dX6_factAt_101 : decode cX6_factAt 101 = .ok (.aload_n 0, 1) := dk_42 (dk_at dksX6_factAt_4 10 rfl rfl)
theorem dX6_factAt_102 : decode cX6_factAt 102 = .ok (.ldc 167, 2) := dk_18 167 (dk_at dksX6_factAt_4 11 rfl rfl)
theorem dX6_factAt_104 : decode cX6_factAt 104 = .ok (.invokevirtual 140, 3) := dk_182 0 140 (dk_at dksX6_factAt_4 13 rfl rfl)
theorem dX6_factAt_107 : decode cX6_factAt 107 = .ok (.ifCond .eq 7, 3) := dk_153 0 7 (dk_at dksX6_factAt_4 16 rfl rfl)
theorem dX6_factAt_110 : decode cX6_factAt 110 = .ok (.iconst 0, 1) := dk_3 (dk_at dksX6_factAt_4 19 rfl rfl)
theorem dX6_factAt_111 : decode cX6_factAt 111 = .ok (.goto 83, 3) := dk_167 0 83 (dk_at dksX6_factAt_4 20 rfl rfl)
theorem dX6_factAt_114 : decode cX6_factAt 114 = .ok (.aload_n 0, 1) := dk_42 (dk_at dksX6_factAt_4 23 rfl rfl)
theorem dX6_factAt_115 : decode cX6_factAt 115 = .ok (.ldc 169, 2) := dk_18 169 (dk_at dksX6_factAt_5 0 rfl rfl)
theorem dX6_factAt_117 : decode cX6_factAt 117 = .ok (.invokevirtual 140, 3) := dk_182 0 140 (dk_at dksX6_factAt_5 2 rfl rfl)
theorem dX6_factAt_120 : decode cX6_factAt 120 = .ok (.ifCond .eq 7, 3) := dk_153 0 7 (dk_at dksX6_factAt_5 5 rfl rfl)
theorem dX6_factAt_123 : decode cX6_factAt 123 = .ok (.iconst 1, 1) := dk_4 (dk_at dksX6_factAt_5 8 rfl rfl)
theorem dX6_factAt_124 : decode cX6_factAt 124 = .ok (.goto 70, 3) := dk_167 0 70 (dk_at dksX6_factAt_5 9 rfl rfl)
theorem dX6_factAt_127 : decode cX6_factAt 127 = .ok (.aload_n 0, 1) := dk_42 (dk_at dksX6_factAt_5 12 rfl rfl)
theorem dX6_factAt_128 : decode cX6_factAt 128 = .ok (.ldc 171, 2) := dk_18 171 (dk_at dksX6_factAt_5 13 rfl rfl)
theorem dX6_factAt_130 : decode cX6_factAt 130 = .ok (.invokevirtual 140, 3) := dk_182 0 140 (dk_at dksX6_factAt_5 15 rfl rfl)
theorem dX6_factAt_133 : decode cX6_factAt 133 = .ok (.ifCond .eq 7, 3) := dk_153 0 7 (dk_at dksX6_factAt_5 18 rfl rfl)
theorem dX6_factAt_136 : decode cX6_factAt 136 = .ok (.iconst 2, 1) := dk_5 (dk_at dksX6_factAt_5 21 rfl rfl)
theorem dX6_factAt_137 : decode cX6_factAt 137 = .ok (.goto 57, 3) := dk_167 0 57 (dk_at dksX6_factAt_6 0 rfl rfl)
theorem dX6_factAt_140 : decode cX6_factAt 140 = .ok (.aload_n 0, 1) := dk_42 (dk_at dksX6_factAt_6 3 rfl rfl)
theorem dX6_factAt_141 : decode cX6_factAt 141 = .ok (.ldc 173, 2) := dk_18 173 (dk_at dksX6_factAt_6 4 rfl rfl)
theorem dX6_factAt_143 : decode cX6_factAt 143 = .ok (.invokevirtual 140, 3) := dk_182 0 140 (dk_at dksX6_factAt_6 6 rfl rfl)
theorem dX6_factAt_146 : decode cX6_factAt 146 = .ok (.ifCond .eq 7, 3) := dk_153 0 7 (dk_at dksX6_factAt_6 9 rfl rfl)
theorem dX6_factAt_149 : decode cX6_factAt 149 = .ok (.iconst 3, 1) := dk_6 (dk_at dksX6_factAt_6 12 rfl rfl)
theorem dX6_factAt_150 : decode cX6_factAt 150 = .ok (.goto 44, 3) := dk_167 0 44 (dk_at dksX6_factAt_6 13 rfl rfl)
theorem dX6_factAt_153 : decode cX6_factAt 153 = .ok (.aload_n 0, 1) := dk_42 (dk_at dksX6_factAt_6 16 rfl rfl)
theorem dX6_factAt_154 : decode cX6_factAt 154 = .ok (.ldc 175, 2) := dk_18 175 (dk_at dksX6_factAt_6 17 rfl rfl)
theorem dX6_factAt_156 : decode cX6_factAt 156 = .ok (.invokevirtual 140, 3) := dk_182 0 140 (dk_at dksX6_factAt_6 19 rfl rfl)
theorem dX6_factAt_159 : decode cX6_factAt 159 = .ok (.ifCond .eq 7, 3) := dk_153 0 7 (dk_at dksX6_factAt_7 0 rfl rfl)
theorem dX6_factAt_162 : decode cX6_factAt 162 = .ok (.iconst 4, 1) := dk_7 (dk_at dksX6_factAt_7 3 rfl rfl)
theorem dX6_factAt_163 : decode cX6_factAt 163 = .ok (.goto 31, 3) := dk_167 0 31 (dk_at dksX6_factAt_7 4 rfl rfl)
theorem dX6_factAt_166 : decode cX6_factAt 166 = .ok (.aload_n 0, 1) := dk_42 (dk_at dksX6_factAt_7 7 rfl rfl)
theorem dX6_factAt_167 : decode cX6_factAt 167 = .ok (.ldc 177, 2) := dk_18 177 (dk_at dksX6_factAt_7 8 rfl rfl)
theorem dX6_factAt_169 : decode cX6_factAt 169 = .ok (.invokevirtual 140, 3) := dk_182 0 140 (dk_at dksX6_factAt_7 10 rfl rfl)
theorem dX6_factAt_172 : decode cX6_factAt 172 = .ok (.ifCond .eq 7, 3) := dk_153 0 7 (dk_at dksX6_factAt_7 13 rfl rfl)
theorem dX6_factAt_175 : decode cX6_factAt 175 = .ok (.iconst 5, 1) := dk_8 (dk_at dksX6_factAt_7 16 rfl rfl)
theorem dX6_factAt_176 : decode cX6_factAt 176 = .ok (.goto 18, 3) := dk_167 0 18 (dk_at dksX6_factAt_7 17 rfl rfl)
theorem dX6_factAt_179 : decode cX6_factAt 179 = .ok (.aload_n 0, 1) := dk_42 (dk_at dksX6_factAt_7 20 rfl rfl)
theorem dX6_factAt_180 : decode cX6_factAt 180 = .ok (.ldc 179, 2) := dk_18 179 (dk_at dksX6_factAt_7 21 rfl rfl)
theorem dX6_factAt_182 : decode cX6_factAt 182 = .ok (.invokevirtual 140, 3) := dk_182 0 140 (dk_at dksX6_factAt_8 0 rfl rfl)
theorem dX6_factAt_185 : decode cX6_factAt 185 = .ok (.ifCond .eq 8, 3) := dk_153 0 8 (dk_at dksX6_factAt_8 3 rfl rfl)
theorem dX6_factAt_188 : decode cX6_factAt 188 = .ok (.bipush 6, 2) := dk_16 6 (dk_at dksX6_factAt_8 6 rfl rfl)
theorem dX6_factAt_190 : decode cX6_factAt 190 = .ok (.goto 4, 3) := dk_167 0 4 (dk_at dksX6_factAt_8 8 rfl rfl)
theorem dX6_factAt_193 : decode cX6_factAt 193 = .ok (.iconst (-1), 1) := dk_2 (dk_at dksX6_factAt_8 11 rfl rfl)
theorem dX6_factAt_194 : decode cX6_factAt 194 = .ok (.ireturn, 1) := dk_172 (dk_at dksX6_factAt_8 12 rfl rfl)
abbrev cX6_emitsIf : ByteArray := prog_30_method_33_code
def yX6_emitsIf : MethodName := ⟨RX6, "emitsIf", "(II)Z"⟩
def dkwX6_emitsIf_0 : List UInt8 := [42, 27, 28, 182, 0, 147, 28, 155, 0, 7, 4, 167, 0, 4, 3, 172]
abbrev dktX6_emitsIf_0 : List UInt8 := dkwX6_emitsIf_0 ++ []
theorem dksX6_emitsIf_0 : cX6_emitsIf.data.toList.drop 0 = dktX6_emitsIf_0 := by decide +kernel
theorem dX6_emitsIf_0 : decode cX6_emitsIf 0 = .ok (.aload_n 0, 1) := dk_42 (dk_at dksX6_emitsIf_0 0 rfl rfl)
theorem dX6_emitsIf_1 : decode cX6_emitsIf 1 = .ok (.iload_n 1, 1) := dk_27 (dk_at dksX6_emitsIf_0 1 rfl rfl)
theorem dX6_emitsIf_2 : decode cX6_emitsIf 2 = .ok (.iload_n 2, 1) := dk_28 (dk_at dksX6_emitsIf_0 2 rfl rfl)
theorem dX6_emitsIf_3 : decode cX6_emitsIf 3 = .ok (.invokevirtual 147, 3) := dk_182 0 147 (dk_at dksX6_emitsIf_0 3 rfl rfl)
theorem dX6_emitsIf_6 : decode cX6_emitsIf 6 = .ok (.iload_n 2, 1) := dk_28 (dk_at dksX6_emitsIf_0 6 rfl rfl)
theorem dX6_emitsIf_7 : decode cX6_emitsIf 7 = .ok (.ifCond .lt 7, 3) := dk_155 0 7 (dk_at dksX6_emitsIf_0 7 rfl rfl)
theorem dX6_emitsIf_10 : decode cX6_emitsIf 10 = .ok (.iconst 1, 1) := dk_4 (dk_at dksX6_emitsIf_0 10 rfl rfl)
theorem dX6_emitsIf_11 : decode cX6_emitsIf 11 = .ok (.goto 4, 3) := dk_167 0 4 (dk_at dksX6_emitsIf_0 11 rfl rfl)
theorem dX6_emitsIf_14 : decode cX6_emitsIf 14 = .ok (.iconst 0, 1) := dk_3 (dk_at dksX6_emitsIf_0 14 rfl rfl)
theorem dX6_emitsIf_15 : decode cX6_emitsIf 15 = .ok (.ireturn, 1) := dk_172 (dk_at dksX6_emitsIf_0 15 rfl rfl)
abbrev cX6_readAll : ByteArray := prog_30_method_43_code
def yX6_readAll : MethodName := ⟨RX6, "readAll", "()I"⟩
def dkwX6_readAll_3 : List UInt8 := [132, 1, 1, 167, 255, 201]
abbrev dktX6_readAll_3 : List UInt8 := dkwX6_readAll_3 ++ []
def dkwX6_readAll_2 : List UInt8 := [42, 16, 59, 16, 59, 182, 0, 118, 154, 0, 5, 2, 172, 42, 89, 180, 0, 109, 4, 96, 181, 0, 109]
abbrev dktX6_readAll_2 : List UInt8 := dkwX6_readAll_2 ++ dktX6_readAll_3
def dkwX6_readAll_1 : List UInt8 := [154, 0, 5, 2, 172, 42, 182, 0, 124, 42, 180, 0, 109, 42, 180, 0, 106, 160, 0, 7, 27, 4, 96, 172]
abbrev dktX6_readAll_1 : List UInt8 := dkwX6_readAll_1 ++ dktX6_readAll_2
def dkwX6_readAll_0 : List UInt8 := [42, 182, 0, 124, 42, 180, 0, 109, 42, 180, 0, 106, 160, 0, 5, 3, 172, 3, 60, 42, 27, 182, 0, 244]
abbrev dktX6_readAll_0 : List UInt8 := dkwX6_readAll_0 ++ dktX6_readAll_1
theorem dksX6_readAll_0 : cX6_readAll.data.toList.drop 0 = dktX6_readAll_0 := by decide +kernel
theorem dksX6_readAll_1 : cX6_readAll.data.toList.drop 24 = dktX6_readAll_1 := dk_seg dksX6_readAll_0 24 rfl rfl
theorem dksX6_readAll_2 : cX6_readAll.data.toList.drop 48 = dktX6_readAll_2 := dk_seg dksX6_readAll_1 24 rfl rfl
theorem dksX6_readAll_3 : cX6_readAll.data.toList.drop 71 = dktX6_readAll_3 := dk_seg dksX6_readAll_2 23 rfl rfl
theorem dX6_readAll_0 : decode cX6_readAll 0 = .ok (.aload_n 0, 1) := dk_42 (dk_at dksX6_readAll_0 0 rfl rfl)
theorem dX6_readAll_1 : decode cX6_readAll 1 = .ok (.invokevirtual 124, 3) := dk_182 0 124 (dk_at dksX6_readAll_0 1 rfl rfl)
theorem dX6_readAll_4 : decode cX6_readAll 4 = .ok (.aload_n 0, 1) := dk_42 (dk_at dksX6_readAll_0 4 rfl rfl)
theorem dX6_readAll_5 : decode cX6_readAll 5 = .ok (.getfield 109, 3) := dk_180 0 109 (dk_at dksX6_readAll_0 5 rfl rfl)
theorem dX6_readAll_8 : decode cX6_readAll 8 = .ok (.aload_n 0, 1) := dk_42 (dk_at dksX6_readAll_0 8 rfl rfl)
theorem dX6_readAll_9 : decode cX6_readAll 9 = .ok (.getfield 106, 3) := dk_180 0 106 (dk_at dksX6_readAll_0 9 rfl rfl)
theorem dX6_readAll_12 : decode cX6_readAll 12 = .ok (.if_icmp .ne 5, 3) := dk_160 0 5 (dk_at dksX6_readAll_0 12 rfl rfl)
theorem dX6_readAll_15 : decode cX6_readAll 15 = .ok (.iconst 0, 1) := dk_3 (dk_at dksX6_readAll_0 15 rfl rfl)
theorem dX6_readAll_16 : decode cX6_readAll 16 = .ok (.ireturn, 1) := dk_172 (dk_at dksX6_readAll_0 16 rfl rfl)
theorem dX6_readAll_17 : decode cX6_readAll 17 = .ok (.iconst 0, 1) := dk_3 (dk_at dksX6_readAll_0 17 rfl rfl)
theorem dX6_readAll_18 : decode cX6_readAll 18 = .ok (.istore_n 1, 1) := dk_60 (dk_at dksX6_readAll_0 18 rfl rfl)
theorem dX6_readAll_19 : decode cX6_readAll 19 = .ok (.aload_n 0, 1) := dk_42 (dk_at dksX6_readAll_0 19 rfl rfl)
theorem dX6_readAll_20 : decode cX6_readAll 20 = .ok (.iload_n 1, 1) := dk_27 (dk_at dksX6_readAll_0 20 rfl rfl)
theorem dX6_readAll_21 : decode cX6_readAll 21 = .ok (.invokevirtual 244, 3) := dk_182 0 244 (dk_at dksX6_readAll_0 21 rfl rfl)
theorem dX6_readAll_24 : decode cX6_readAll 24 = .ok (.ifCond .ne 5, 3) := dk_154 0 5 (dk_at dksX6_readAll_1 0 rfl rfl)
theorem dX6_readAll_27 : decode cX6_readAll 27 = .ok (.iconst (-1), 1) := dk_2 (dk_at dksX6_readAll_1 3 rfl rfl)
theorem dX6_readAll_28 : decode cX6_readAll 28 = .ok (.ireturn, 1) := dk_172 (dk_at dksX6_readAll_1 4 rfl rfl)
theorem dX6_readAll_29 : decode cX6_readAll 29 = .ok (.aload_n 0, 1) := dk_42 (dk_at dksX6_readAll_1 5 rfl rfl)
theorem dX6_readAll_30 : decode cX6_readAll 30 = .ok (.invokevirtual 124, 3) := dk_182 0 124 (dk_at dksX6_readAll_1 6 rfl rfl)
theorem dX6_readAll_33 : decode cX6_readAll 33 = .ok (.aload_n 0, 1) := dk_42 (dk_at dksX6_readAll_1 9 rfl rfl)
theorem dX6_readAll_34 : decode cX6_readAll 34 = .ok (.getfield 109, 3) := dk_180 0 109 (dk_at dksX6_readAll_1 10 rfl rfl)
theorem dX6_readAll_37 : decode cX6_readAll 37 = .ok (.aload_n 0, 1) := dk_42 (dk_at dksX6_readAll_1 13 rfl rfl)
theorem dX6_readAll_38 : decode cX6_readAll 38 = .ok (.getfield 106, 3) := dk_180 0 106 (dk_at dksX6_readAll_1 14 rfl rfl)
theorem dX6_readAll_41 : decode cX6_readAll 41 = .ok (.if_icmp .ne 7, 3) := dk_160 0 7 (dk_at dksX6_readAll_1 17 rfl rfl)
theorem dX6_readAll_44 : decode cX6_readAll 44 = .ok (.iload_n 1, 1) := dk_27 (dk_at dksX6_readAll_1 20 rfl rfl)
theorem dX6_readAll_45 : decode cX6_readAll 45 = .ok (.iconst 1, 1) := dk_4 (dk_at dksX6_readAll_1 21 rfl rfl)
theorem dX6_readAll_46 : decode cX6_readAll 46 = .ok (.iadd, 1) := dk_96 (dk_at dksX6_readAll_1 22 rfl rfl)
theorem dX6_readAll_47 : decode cX6_readAll 47 = .ok (.ireturn, 1) := dk_172 (dk_at dksX6_readAll_1 23 rfl rfl)
theorem dX6_readAll_48 : decode cX6_readAll 48 = .ok (.aload_n 0, 1) := dk_42 (dk_at dksX6_readAll_2 0 rfl rfl)
theorem dX6_readAll_49 : decode cX6_readAll 49 = .ok (.bipush 59, 2) := dk_16 59 (dk_at dksX6_readAll_2 1 rfl rfl)
theorem dX6_readAll_51 : decode cX6_readAll 51 = .ok (.bipush 59, 2) := dk_16 59 (dk_at dksX6_readAll_2 3 rfl rfl)
theorem dX6_readAll_53 : decode cX6_readAll 53 = .ok (.invokevirtual 118, 3) := dk_182 0 118 (dk_at dksX6_readAll_2 5 rfl rfl)
theorem dX6_readAll_56 : decode cX6_readAll 56 = .ok (.ifCond .ne 5, 3) := dk_154 0 5 (dk_at dksX6_readAll_2 8 rfl rfl)
theorem dX6_readAll_59 : decode cX6_readAll 59 = .ok (.iconst (-1), 1) := dk_2 (dk_at dksX6_readAll_2 11 rfl rfl)
theorem dX6_readAll_60 : decode cX6_readAll 60 = .ok (.ireturn, 1) := dk_172 (dk_at dksX6_readAll_2 12 rfl rfl)
theorem dX6_readAll_61 : decode cX6_readAll 61 = .ok (.aload_n 0, 1) := dk_42 (dk_at dksX6_readAll_2 13 rfl rfl)
theorem dX6_readAll_62 : decode cX6_readAll 62 = .ok (.dup, 1) := dk_89 (dk_at dksX6_readAll_2 14 rfl rfl)
theorem dX6_readAll_63 : decode cX6_readAll 63 = .ok (.getfield 109, 3) := dk_180 0 109 (dk_at dksX6_readAll_2 15 rfl rfl)
theorem dX6_readAll_66 : decode cX6_readAll 66 = .ok (.iconst 1, 1) := dk_4 (dk_at dksX6_readAll_2 18 rfl rfl)
theorem dX6_readAll_67 : decode cX6_readAll 67 = .ok (.iadd, 1) := dk_96 (dk_at dksX6_readAll_2 19 rfl rfl)
theorem dX6_readAll_68 : decode cX6_readAll 68 = .ok (.putfield 109, 3) := dk_181 0 109 (dk_at dksX6_readAll_2 20 rfl rfl)
theorem dX6_readAll_71 : decode cX6_readAll 71 = .ok (.iinc 1 1, 3) := dk_132 1 1 (dk_at dksX6_readAll_3 0 rfl rfl)
theorem dX6_readAll_74 : decode cX6_readAll 74 = .ok (.goto (-55), 3) := dk_167 255 201 (dk_at dksX6_readAll_3 3 rfl rfl)
abbrev cX6_readLine : ByteArray := prog_30_method_42_code
def yX6_readLine : MethodName := ⟨RX6, "readLine", "(I)Z"⟩
def dkwX6_readLine_6 : List UInt8 := [180, 0, 13, 28, 5, 96, 42, 180, 0, 112, 79, 4, 172]
abbrev dktX6_readLine_6 : List UInt8 := dkwX6_readLine_6 ++ []
def dkwX6_readLine_5 : List UInt8 := [181, 0, 115, 42, 18, 242, 182, 0, 210, 153, 0, 12, 42, 182, 0, 205, 154, 0, 5, 3, 172, 42]
abbrev dktX6_readLine_5 : List UInt8 := dkwX6_readLine_5 ++ dktX6_readLine_6
def dkwX6_readLine_4 : List UInt8 := [180, 0, 13, 28, 46, 156, 0, 5, 3, 172, 42, 180, 0, 13, 28, 4, 96, 42, 180, 0, 112, 79, 42, 3]
abbrev dktX6_readLine_4 : List UInt8 := dkwX6_readLine_4 ++ dktX6_readLine_5
def dkwX6_readLine_3 : List UInt8 := [153, 0, 7, 6, 167, 0, 17, 42, 18, 240, 182, 0, 140, 153, 0, 7, 7, 167, 0, 4, 2, 79, 42]
abbrev dktX6_readLine_3 : List UInt8 := dkwX6_readLine_3 ++ dktX6_readLine_4
def dkwX6_readLine_2 : List UInt8 := [167, 0, 43, 42, 18, 236, 182, 0, 140, 153, 0, 7, 5, 167, 0, 30, 42, 18, 238, 182, 0, 140]
abbrev dktX6_readLine_2 : List UInt8 := dkwX6_readLine_2 ++ dktX6_readLine_3
def dkwX6_readLine_1 : List UInt8 := [42, 18, 232, 182, 0, 140, 153, 0, 7, 3, 167, 0, 56, 42, 18, 234, 182, 0, 140, 153, 0, 7, 4]
abbrev dktX6_readLine_1 : List UInt8 := dkwX6_readLine_1 ++ dktX6_readLine_2
def dkwX6_readLine_0 : List UInt8 := [42, 182, 0, 137, 27, 16, 10, 160, 0, 5, 3, 172, 16, 9, 27, 184, 0, 229, 61, 42, 180, 0, 13, 28]
abbrev dktX6_readLine_0 : List UInt8 := dkwX6_readLine_0 ++ dktX6_readLine_1
theorem dksX6_readLine_0 : cX6_readLine.data.toList.drop 0 = dktX6_readLine_0 := by decide +kernel
theorem dksX6_readLine_1 : cX6_readLine.data.toList.drop 24 = dktX6_readLine_1 := dk_seg dksX6_readLine_0 24 rfl rfl
theorem dksX6_readLine_2 : cX6_readLine.data.toList.drop 47 = dktX6_readLine_2 := dk_seg dksX6_readLine_1 23 rfl rfl
theorem dksX6_readLine_3 : cX6_readLine.data.toList.drop 69 = dktX6_readLine_3 := dk_seg dksX6_readLine_2 22 rfl rfl
theorem dksX6_readLine_4 : cX6_readLine.data.toList.drop 92 = dktX6_readLine_4 := dk_seg dksX6_readLine_3 23 rfl rfl
theorem dksX6_readLine_5 : cX6_readLine.data.toList.drop 116 = dktX6_readLine_5 := dk_seg dksX6_readLine_4 24 rfl rfl
theorem dksX6_readLine_6 : cX6_readLine.data.toList.drop 138 = dktX6_readLine_6 := dk_seg dksX6_readLine_5 22 rfl rfl
theorem dX6_readLine_0 : decode cX6_readLine 0 = .ok (.aload_n 0, 1) := dk_42 (dk_at dksX6_readLine_0 0 rfl rfl)
theorem dX6_readLine_1 : decode cX6_readLine 1 = .ok (.invokevirtual 137, 3) := dk_182 0 137 (dk_at dksX6_readLine_0 1 rfl rfl)
theorem dX6_readLine_4 : decode cX6_readLine 4 = .ok (.iload_n 1, 1) := dk_27 (dk_at dksX6_readLine_0 4 rfl rfl)
theorem dX6_readLine_5 : decode cX6_readLine 5 = .ok (.bipush 10, 2) := dk_16 10 (dk_at dksX6_readLine_0 5 rfl rfl)
theorem dX6_readLine_7 : decode cX6_readLine 7 = .ok (.if_icmp .ne 5, 3) := dk_160 0 5 (dk_at dksX6_readLine_0 7 rfl rfl)
theorem dX6_readLine_10 : decode cX6_readLine 10 = .ok (.iconst 0, 1) := dk_3 (dk_at dksX6_readLine_0 10 rfl rfl)
theorem dX6_readLine_11 : decode cX6_readLine 11 = .ok (.ireturn, 1) := dk_172 (dk_at dksX6_readLine_0 11 rfl rfl)
theorem dX6_readLine_12 : decode cX6_readLine 12 = .ok (.bipush 9, 2) := dk_16 9 (dk_at dksX6_readLine_0 12 rfl rfl)
theorem dX6_readLine_14 : decode cX6_readLine 14 = .ok (.iload_n 1, 1) := dk_27 (dk_at dksX6_readLine_0 14 rfl rfl)
theorem dX6_readLine_15 : decode cX6_readLine 15 = .ok (.invokestatic 229, 3) := dk_184 0 229 (dk_at dksX6_readLine_0 15 rfl rfl)
theorem dX6_readLine_18 : decode cX6_readLine 18 = .ok (.istore_n 2, 1) := dk_61 (dk_at dksX6_readLine_0 18 rfl rfl)
theorem dX6_readLine_19 : decode cX6_readLine 19 = .ok (.aload_n 0, 1) := dk_42 (dk_at dksX6_readLine_0 19 rfl rfl)
theorem dX6_readLine_20 : decode cX6_readLine 20 = .ok (.getfield 13, 3) := dk_180 0 13 (dk_at dksX6_readLine_0 20 rfl rfl)
theorem dX6_readLine_23 : decode cX6_readLine 23 = .ok (.iload_n 2, 1) := dk_28 (dk_at dksX6_readLine_0 23 rfl rfl)
theorem dX6_readLine_24 : decode cX6_readLine 24 = .ok (.aload_n 0, 1) := dk_42 (dk_at dksX6_readLine_1 0 rfl rfl)
theorem dX6_readLine_25 : decode cX6_readLine 25 = .ok (.ldc 232, 2) := dk_18 232 (dk_at dksX6_readLine_1 1 rfl rfl)
theorem dX6_readLine_27 : decode cX6_readLine 27 = .ok (.invokevirtual 140, 3) := dk_182 0 140 (dk_at dksX6_readLine_1 3 rfl rfl)
theorem dX6_readLine_30 : decode cX6_readLine 30 = .ok (.ifCond .eq 7, 3) := dk_153 0 7 (dk_at dksX6_readLine_1 6 rfl rfl)
theorem dX6_readLine_33 : decode cX6_readLine 33 = .ok (.iconst 0, 1) := dk_3 (dk_at dksX6_readLine_1 9 rfl rfl)
theorem dX6_readLine_34 : decode cX6_readLine 34 = .ok (.goto 56, 3) := dk_167 0 56 (dk_at dksX6_readLine_1 10 rfl rfl)
theorem dX6_readLine_37 : decode cX6_readLine 37 = .ok (.aload_n 0, 1) := dk_42 (dk_at dksX6_readLine_1 13 rfl rfl)
theorem dX6_readLine_38 : decode cX6_readLine 38 = .ok (.ldc 234, 2) := dk_18 234 (dk_at dksX6_readLine_1 14 rfl rfl)
theorem dX6_readLine_40 : decode cX6_readLine 40 = .ok (.invokevirtual 140, 3) := dk_182 0 140 (dk_at dksX6_readLine_1 16 rfl rfl)
theorem dX6_readLine_43 : decode cX6_readLine 43 = .ok (.ifCond .eq 7, 3) := dk_153 0 7 (dk_at dksX6_readLine_1 19 rfl rfl)
theorem dX6_readLine_46 : decode cX6_readLine 46 = .ok (.iconst 1, 1) := dk_4 (dk_at dksX6_readLine_1 22 rfl rfl)
theorem dX6_readLine_47 : decode cX6_readLine 47 = .ok (.goto 43, 3) := dk_167 0 43 (dk_at dksX6_readLine_2 0 rfl rfl)
theorem dX6_readLine_50 : decode cX6_readLine 50 = .ok (.aload_n 0, 1) := dk_42 (dk_at dksX6_readLine_2 3 rfl rfl)
theorem dX6_readLine_51 : decode cX6_readLine 51 = .ok (.ldc 236, 2) := dk_18 236 (dk_at dksX6_readLine_2 4 rfl rfl)
theorem dX6_readLine_53 : decode cX6_readLine 53 = .ok (.invokevirtual 140, 3) := dk_182 0 140 (dk_at dksX6_readLine_2 6 rfl rfl)
theorem dX6_readLine_56 : decode cX6_readLine 56 = .ok (.ifCond .eq 7, 3) := dk_153 0 7 (dk_at dksX6_readLine_2 9 rfl rfl)
theorem dX6_readLine_59 : decode cX6_readLine 59 = .ok (.iconst 2, 1) := dk_5 (dk_at dksX6_readLine_2 12 rfl rfl)
theorem dX6_readLine_60 : decode cX6_readLine 60 = .ok (.goto 30, 3) := dk_167 0 30 (dk_at dksX6_readLine_2 13 rfl rfl)
theorem dX6_readLine_63 : decode cX6_readLine 63 = .ok (.aload_n 0, 1) := dk_42 (dk_at dksX6_readLine_2 16 rfl rfl)
theorem dX6_readLine_64 : decode cX6_readLine 64 = .ok (.ldc 238, 2) := dk_18 238 (dk_at dksX6_readLine_2 17 rfl rfl)
theorem dX6_readLine_66 : decode cX6_readLine 66 = .ok (.invokevirtual 140, 3) := dk_182 0 140 (dk_at dksX6_readLine_2 19 rfl rfl)
theorem dX6_readLine_69 : decode cX6_readLine 69 = .ok (.ifCond .eq 7, 3) := dk_153 0 7 (dk_at dksX6_readLine_3 0 rfl rfl)
theorem dX6_readLine_72 : decode cX6_readLine 72 = .ok (.iconst 3, 1) := dk_6 (dk_at dksX6_readLine_3 3 rfl rfl)
theorem dX6_readLine_73 : decode cX6_readLine 73 = .ok (.goto 17, 3) := dk_167 0 17 (dk_at dksX6_readLine_3 4 rfl rfl)
theorem dX6_readLine_76 : decode cX6_readLine 76 = .ok (.aload_n 0, 1) := dk_42 (dk_at dksX6_readLine_3 7 rfl rfl)
theorem dX6_readLine_77 : decode cX6_readLine 77 = .ok (.ldc 240, 2) := dk_18 240 (dk_at dksX6_readLine_3 8 rfl rfl)
theorem dX6_readLine_79 : decode cX6_readLine 79 = .ok (.invokevirtual 140, 3) := dk_182 0 140 (dk_at dksX6_readLine_3 10 rfl rfl)
theorem dX6_readLine_82 : decode cX6_readLine 82 = .ok (.ifCond .eq 7, 3) := dk_153 0 7 (dk_at dksX6_readLine_3 13 rfl rfl)
theorem dX6_readLine_85 : decode cX6_readLine 85 = .ok (.iconst 4, 1) := dk_7 (dk_at dksX6_readLine_3 16 rfl rfl)
theorem dX6_readLine_86 : decode cX6_readLine 86 = .ok (.goto 4, 3) := dk_167 0 4 (dk_at dksX6_readLine_3 17 rfl rfl)
theorem dX6_readLine_89 : decode cX6_readLine 89 = .ok (.iconst (-1), 1) := dk_2 (dk_at dksX6_readLine_3 20 rfl rfl)
theorem dX6_readLine_90 : decode cX6_readLine 90 = .ok (.iastore, 1) := dk_79 (dk_at dksX6_readLine_3 21 rfl rfl)
theorem dX6_readLine_91 : decode cX6_readLine 91 = .ok (.aload_n 0, 1) := dk_42 (dk_at dksX6_readLine_3 22 rfl rfl)
theorem dX6_readLine_92 : decode cX6_readLine 92 = .ok (.getfield 13, 3) := dk_180 0 13 (dk_at dksX6_readLine_4 0 rfl rfl)
theorem dX6_readLine_95 : decode cX6_readLine 95 = .ok (.iload_n 2, 1) := dk_28 (dk_at dksX6_readLine_4 3 rfl rfl)
theorem dX6_readLine_96 : decode cX6_readLine 96 = .ok (.iaload, 1) := dk_46 (dk_at dksX6_readLine_4 4 rfl rfl)
theorem dX6_readLine_97 : decode cX6_readLine 97 = .ok (.ifCond .ge 5, 3) := dk_156 0 5 (dk_at dksX6_readLine_4 5 rfl rfl)
theorem dX6_readLine_100 : decode cX6_readLine 100 = .ok (.iconst 0, 1) := dk_3 (dk_at dksX6_readLine_4 8 rfl rfl)
theorem dX6_readLine_101 : decode cX6_readLine 101 = .ok (.ireturn, 1) := dk_172 (dk_at dksX6_readLine_4 9 rfl rfl)
theorem dX6_readLine_102 : decode cX6_readLine 102 = .ok (.aload_n 0, 1) := dk_42 (dk_at dksX6_readLine_4 10 rfl rfl)
theorem dX6_readLine_103 : decode cX6_readLine 103 = .ok (.getfield 13, 3) := dk_180 0 13 (dk_at dksX6_readLine_4 11 rfl rfl)
theorem dX6_readLine_106 : decode cX6_readLine 106 = .ok (.iload_n 2, 1) := dk_28 (dk_at dksX6_readLine_4 14 rfl rfl)
theorem dX6_readLine_107 : decode cX6_readLine 107 = .ok (.iconst 1, 1) := dk_4 (dk_at dksX6_readLine_4 15 rfl rfl)
theorem dX6_readLine_108 : decode cX6_readLine 108 = .ok (.iadd, 1) := dk_96 (dk_at dksX6_readLine_4 16 rfl rfl)
theorem dX6_readLine_109 : decode cX6_readLine 109 = .ok (.aload_n 0, 1) := dk_42 (dk_at dksX6_readLine_4 17 rfl rfl)
theorem dX6_readLine_110 : decode cX6_readLine 110 = .ok (.getfield 112, 3) := dk_180 0 112 (dk_at dksX6_readLine_4 18 rfl rfl)
theorem dX6_readLine_113 : decode cX6_readLine 113 = .ok (.iastore, 1) := dk_79 (dk_at dksX6_readLine_4 21 rfl rfl)
theorem dX6_readLine_114 : decode cX6_readLine 114 = .ok (.aload_n 0, 1) := dk_42 (dk_at dksX6_readLine_4 22 rfl rfl)
theorem dX6_readLine_115 : decode cX6_readLine 115 = .ok (.iconst 0, 1) := dk_3 (dk_at dksX6_readLine_4 23 rfl rfl)
theorem dX6_readLine_116 : decode cX6_readLine 116 = .ok (.putfield 115, 3) := dk_181 0 115 (dk_at dksX6_readLine_5 0 rfl rfl)
theorem dX6_readLine_119 : decode cX6_readLine 119 = .ok (.aload_n 0, 1) := dk_42 (dk_at dksX6_readLine_5 3 rfl rfl)
theorem dX6_readLine_120 : decode cX6_readLine 120 = .ok (.ldc 242, 2) := dk_18 242 (dk_at dksX6_readLine_5 4 rfl rfl)
theorem dX6_readLine_122 : decode cX6_readLine 122 = .ok (.invokevirtual 210, 3) := dk_182 0 210 (dk_at dksX6_readLine_5 6 rfl rfl)
theorem dX6_readLine_125 : decode cX6_readLine 125 = .ok (.ifCond .eq 12, 3) := dk_153 0 12 (dk_at dksX6_readLine_5 9 rfl rfl)
theorem dX6_readLine_128 : decode cX6_readLine 128 = .ok (.aload_n 0, 1) := dk_42 (dk_at dksX6_readLine_5 12 rfl rfl)
theorem dX6_readLine_129 : decode cX6_readLine 129 = .ok (.invokevirtual 205, 3) := dk_182 0 205 (dk_at dksX6_readLine_5 13 rfl rfl)
theorem dX6_readLine_132 : decode cX6_readLine 132 = .ok (.ifCond .ne 5, 3) := dk_154 0 5 (dk_at dksX6_readLine_5 16 rfl rfl)
theorem dX6_readLine_135 : decode cX6_readLine 135 = .ok (.iconst 0, 1) := dk_3 (dk_at dksX6_readLine_5 19 rfl rfl)
theorem dX6_readLine_136 : decode cX6_readLine 136 = .ok (.ireturn, 1) := dk_172 (dk_at dksX6_readLine_5 20 rfl rfl)
theorem dX6_readLine_137 : decode cX6_readLine 137 = .ok (.aload_n 0, 1) := dk_42 (dk_at dksX6_readLine_5 21 rfl rfl)
theorem dX6_readLine_138 : decode cX6_readLine 138 = .ok (.getfield 13, 3) := dk_180 0 13 (dk_at dksX6_readLine_6 0 rfl rfl)
theorem dX6_readLine_141 : decode cX6_readLine 141 = .ok (.iload_n 2, 1) := dk_28 (dk_at dksX6_readLine_6 3 rfl rfl)
theorem dX6_readLine_142 : decode cX6_readLine 142 = .ok (.iconst 2, 1) := dk_5 (dk_at dksX6_readLine_6 4 rfl rfl)
theorem dX6_readLine_143 : decode cX6_readLine 143 = .ok (.iadd, 1) := dk_96 (dk_at dksX6_readLine_6 5 rfl rfl)
theorem dX6_readLine_144 : decode cX6_readLine 144 = .ok (.aload_n 0, 1) := dk_42 (dk_at dksX6_readLine_6 6 rfl rfl)
theorem dX6_readLine_145 : decode cX6_readLine 145 = .ok (.getfield 112, 3) := dk_180 0 112 (dk_at dksX6_readLine_6 7 rfl rfl)
theorem dX6_readLine_148 : decode cX6_readLine 148 = .ok (.iastore, 1) := dk_79 (dk_at dksX6_readLine_6 10 rfl rfl)
theorem dX6_readLine_149 : decode cX6_readLine 149 = .ok (.iconst 1, 1) := dk_4 (dk_at dksX6_readLine_6 11 rfl rfl)
theorem dX6_readLine_150 : decode cX6_readLine 150 = .ok (.ireturn, 1) := dk_172 (dk_at dksX6_readLine_6 12 rfl rfl)
abbrev cX6_keeps : ByteArray := prog_30_method_46_code
def yX6_keeps : MethodName := ⟨RX6, "keeps", "(I)V"⟩
def dkwX6_keeps_1 : List UInt8 := [16, 9, 184, 0, 144, 28, 96, 46, 79, 132, 2, 1, 167, 255, 223, 177]
abbrev dktX6_keeps_1 : List UInt8 := dkwX6_keeps_1 ++ []
def dkwX6_keeps_0 : List UInt8 := [3, 61, 28, 17, 3, 63, 162, 0, 32, 42, 180, 0, 13, 27, 184, 0, 144, 28, 96, 42, 180, 0, 13]
abbrev dktX6_keeps_0 : List UInt8 := dkwX6_keeps_0 ++ dktX6_keeps_1
theorem dksX6_keeps_0 : cX6_keeps.data.toList.drop 0 = dktX6_keeps_0 := by decide +kernel
theorem dksX6_keeps_1 : cX6_keeps.data.toList.drop 23 = dktX6_keeps_1 := dk_seg dksX6_keeps_0 23 rfl rfl
theorem dX6_keeps_0 : decode cX6_keeps 0 = .ok (.iconst 0, 1) := dk_3 (dk_at dksX6_keeps_0 0 rfl rfl)
theorem dX6_keeps_1 : decode cX6_keeps 1 = .ok (.istore_n 2, 1) := dk_61 (dk_at dksX6_keeps_0 1 rfl rfl)
theorem dX6_keeps_2 : decode cX6_keeps 2 = .ok (.iload_n 2, 1) := dk_28 (dk_at dksX6_keeps_0 2 rfl rfl)
theorem dX6_keeps_3 : decode cX6_keeps 3 = .ok (.sipush 831, 3) := dk_17 3 63 (dk_at dksX6_keeps_0 3 rfl rfl)
theorem dX6_keeps_6 : decode cX6_keeps 6 = .ok (.if_icmp .ge 32, 3) := dk_162 0 32 (dk_at dksX6_keeps_0 6 rfl rfl)
theorem dX6_keeps_9 : decode cX6_keeps 9 = .ok (.aload_n 0, 1) := dk_42 (dk_at dksX6_keeps_0 9 rfl rfl)
theorem dX6_keeps_10 : decode cX6_keeps 10 = .ok (.getfield 13, 3) := dk_180 0 13 (dk_at dksX6_keeps_0 10 rfl rfl)
theorem dX6_keeps_13 : decode cX6_keeps 13 = .ok (.iload_n 1, 1) := dk_27 (dk_at dksX6_keeps_0 13 rfl rfl)
theorem dX6_keeps_14 : decode cX6_keeps 14 = .ok (.invokestatic 144, 3) := dk_184 0 144 (dk_at dksX6_keeps_0 14 rfl rfl)
theorem dX6_keeps_17 : decode cX6_keeps 17 = .ok (.iload_n 2, 1) := dk_28 (dk_at dksX6_keeps_0 17 rfl rfl)
theorem dX6_keeps_18 : decode cX6_keeps 18 = .ok (.iadd, 1) := dk_96 (dk_at dksX6_keeps_0 18 rfl rfl)
theorem dX6_keeps_19 : decode cX6_keeps 19 = .ok (.aload_n 0, 1) := dk_42 (dk_at dksX6_keeps_0 19 rfl rfl)
theorem dX6_keeps_20 : decode cX6_keeps 20 = .ok (.getfield 13, 3) := dk_180 0 13 (dk_at dksX6_keeps_0 20 rfl rfl)
theorem dX6_keeps_23 : decode cX6_keeps 23 = .ok (.bipush 9, 2) := dk_16 9 (dk_at dksX6_keeps_1 0 rfl rfl)
theorem dX6_keeps_25 : decode cX6_keeps 25 = .ok (.invokestatic 144, 3) := dk_184 0 144 (dk_at dksX6_keeps_1 2 rfl rfl)
theorem dX6_keeps_28 : decode cX6_keeps 28 = .ok (.iload_n 2, 1) := dk_28 (dk_at dksX6_keeps_1 5 rfl rfl)
theorem dX6_keeps_29 : decode cX6_keeps 29 = .ok (.iadd, 1) := dk_96 (dk_at dksX6_keeps_1 6 rfl rfl)
theorem dX6_keeps_30 : decode cX6_keeps 30 = .ok (.iaload, 1) := dk_46 (dk_at dksX6_keeps_1 7 rfl rfl)
theorem dX6_keeps_31 : decode cX6_keeps 31 = .ok (.iastore, 1) := dk_79 (dk_at dksX6_keeps_1 8 rfl rfl)
theorem dX6_keeps_32 : decode cX6_keeps 32 = .ok (.iinc 2 1, 3) := dk_132 2 1 (dk_at dksX6_keeps_1 9 rfl rfl)
theorem dX6_keeps_35 : decode cX6_keeps 35 = .ok (.goto (-33), 3) := dk_167 255 223 (dk_at dksX6_keeps_1 12 rfl rfl)
theorem dX6_keeps_38 : decode cX6_keeps 38 = .ok (.return_, 1) := dk_177 (dk_at dksX6_keeps_1 15 rfl rfl)
abbrev cX6_story : ByteArray := prog_30_method_48_code
def yX6_story : MethodName := ⟨RX6, "story", "(I)I"⟩
def dkwX6_story_3 : List UInt8 := [42, 180, 0, 13, 17, 4, 137, 28, 96, 27, 79, 42, 180, 0, 13, 16, 6, 92, 46, 4, 96, 79, 28, 172]
abbrev dktX6_story_3 : List UInt8 := dkwX6_story_3 ++ []
def dkwX6_story_2 : List UInt8 := [5, 182, 0, 80, 153, 0, 5, 3, 172, 42, 180, 0, 13, 16, 6, 46, 61, 42, 7, 28, 96, 182, 1, 4]
abbrev dktX6_story_2 : List UInt8 := dkwX6_story_2 ++ dktX6_story_3
def dkwX6_story_1 : List UInt8 := [4, 182, 0, 80, 154, 0, 27, 42, 42, 180, 0, 13, 16, 6, 46, 8, 160, 0, 7, 4, 167, 0, 4, 3]
abbrev dktX6_story_1 : List UInt8 := dkwX6_story_1 ++ dktX6_story_2
def dkwX6_story_0 : List UInt8 := [42, 42, 4, 182, 1, 0, 153, 0, 13, 27, 4, 16, 99, 184, 0, 59, 154, 0, 7, 4, 167, 0, 4, 3]
abbrev dktX6_story_0 : List UInt8 := dkwX6_story_0 ++ dktX6_story_1
theorem dksX6_story_0 : cX6_story.data.toList.drop 0 = dktX6_story_0 := by decide +kernel
theorem dksX6_story_1 : cX6_story.data.toList.drop 24 = dktX6_story_1 := dk_seg dksX6_story_0 24 rfl rfl
theorem dksX6_story_2 : cX6_story.data.toList.drop 48 = dktX6_story_2 := dk_seg dksX6_story_1 24 rfl rfl
theorem dksX6_story_3 : cX6_story.data.toList.drop 72 = dktX6_story_3 := dk_seg dksX6_story_2 24 rfl rfl
theorem dX6_story_0 : decode cX6_story 0 = .ok (.aload_n 0, 1) := dk_42 (dk_at dksX6_story_0 0 rfl rfl)
theorem dX6_story_1 : decode cX6_story 1 = .ok (.aload_n 0, 1) := dk_42 (dk_at dksX6_story_0 1 rfl rfl)
theorem dX6_story_2 : decode cX6_story 2 = .ok (.iconst 1, 1) := dk_4 (dk_at dksX6_story_0 2 rfl rfl)
theorem dX6_story_3 : decode cX6_story 3 = .ok (.invokevirtual 256, 3) := dk_182 1 0 (dk_at dksX6_story_0 3 rfl rfl)
theorem dX6_story_6 : decode cX6_story 6 = .ok (.ifCond .eq 13, 3) := dk_153 0 13 (dk_at dksX6_story_0 6 rfl rfl)
theorem dX6_story_9 : decode cX6_story 9 = .ok (.iload_n 1, 1) := dk_27 (dk_at dksX6_story_0 9 rfl rfl)
theorem dX6_story_10 : decode cX6_story 10 = .ok (.iconst 1, 1) := dk_4 (dk_at dksX6_story_0 10 rfl rfl)
theorem dX6_story_11 : decode cX6_story 11 = .ok (.bipush 99, 2) := dk_16 99 (dk_at dksX6_story_0 11 rfl rfl)
theorem dX6_story_13 : decode cX6_story 13 = .ok (.invokestatic 59, 3) := dk_184 0 59 (dk_at dksX6_story_0 13 rfl rfl)
theorem dX6_story_16 : decode cX6_story 16 = .ok (.ifCond .ne 7, 3) := dk_154 0 7 (dk_at dksX6_story_0 16 rfl rfl)
theorem dX6_story_19 : decode cX6_story 19 = .ok (.iconst 1, 1) := dk_4 (dk_at dksX6_story_0 19 rfl rfl)
theorem dX6_story_20 : decode cX6_story 20 = .ok (.goto 4, 3) := dk_167 0 4 (dk_at dksX6_story_0 20 rfl rfl)
theorem dX6_story_23 : decode cX6_story 23 = .ok (.iconst 0, 1) := dk_3 (dk_at dksX6_story_0 23 rfl rfl)
theorem dX6_story_24 : decode cX6_story 24 = .ok (.iconst 1, 1) := dk_4 (dk_at dksX6_story_1 0 rfl rfl)
theorem dX6_story_25 : decode cX6_story 25 = .ok (.invokevirtual 80, 3) := dk_182 0 80 (dk_at dksX6_story_1 1 rfl rfl)
theorem dX6_story_28 : decode cX6_story 28 = .ok (.ifCond .ne 27, 3) := dk_154 0 27 (dk_at dksX6_story_1 4 rfl rfl)
theorem dX6_story_31 : decode cX6_story 31 = .ok (.aload_n 0, 1) := dk_42 (dk_at dksX6_story_1 7 rfl rfl)
theorem dX6_story_32 : decode cX6_story 32 = .ok (.aload_n 0, 1) := dk_42 (dk_at dksX6_story_1 8 rfl rfl)
theorem dX6_story_33 : decode cX6_story 33 = .ok (.getfield 13, 3) := dk_180 0 13 (dk_at dksX6_story_1 9 rfl rfl)
theorem dX6_story_36 : decode cX6_story 36 = .ok (.bipush 6, 2) := dk_16 6 (dk_at dksX6_story_1 12 rfl rfl)
theorem dX6_story_38 : decode cX6_story 38 = .ok (.iaload, 1) := dk_46 (dk_at dksX6_story_1 14 rfl rfl)
theorem dX6_story_39 : decode cX6_story 39 = .ok (.iconst 5, 1) := dk_8 (dk_at dksX6_story_1 15 rfl rfl)
theorem dX6_story_40 : decode cX6_story 40 = .ok (.if_icmp .ne 7, 3) := dk_160 0 7 (dk_at dksX6_story_1 16 rfl rfl)
theorem dX6_story_43 : decode cX6_story 43 = .ok (.iconst 1, 1) := dk_4 (dk_at dksX6_story_1 19 rfl rfl)
theorem dX6_story_44 : decode cX6_story 44 = .ok (.goto 4, 3) := dk_167 0 4 (dk_at dksX6_story_1 20 rfl rfl)
theorem dX6_story_47 : decode cX6_story 47 = .ok (.iconst 0, 1) := dk_3 (dk_at dksX6_story_1 23 rfl rfl)
theorem dX6_story_48 : decode cX6_story 48 = .ok (.iconst 2, 1) := dk_5 (dk_at dksX6_story_2 0 rfl rfl)
theorem dX6_story_49 : decode cX6_story 49 = .ok (.invokevirtual 80, 3) := dk_182 0 80 (dk_at dksX6_story_2 1 rfl rfl)
theorem dX6_story_52 : decode cX6_story 52 = .ok (.ifCond .eq 5, 3) := dk_153 0 5 (dk_at dksX6_story_2 4 rfl rfl)
theorem dX6_story_55 : decode cX6_story 55 = .ok (.iconst 0, 1) := dk_3 (dk_at dksX6_story_2 7 rfl rfl)
theorem dX6_story_56 : decode cX6_story 56 = .ok (.ireturn, 1) := dk_172 (dk_at dksX6_story_2 8 rfl rfl)
theorem dX6_story_57 : decode cX6_story 57 = .ok (.aload_n 0, 1) := dk_42 (dk_at dksX6_story_2 9 rfl rfl)
theorem dX6_story_58 : decode cX6_story 58 = .ok (.getfield 13, 3) := dk_180 0 13 (dk_at dksX6_story_2 10 rfl rfl)
theorem dX6_story_61 : decode cX6_story 61 = .ok (.bipush 6, 2) := dk_16 6 (dk_at dksX6_story_2 13 rfl rfl)
theorem dX6_story_63 : decode cX6_story 63 = .ok (.iaload, 1) := dk_46 (dk_at dksX6_story_2 15 rfl rfl)
theorem dX6_story_64 : decode cX6_story 64 = .ok (.istore_n 2, 1) := dk_61 (dk_at dksX6_story_2 16 rfl rfl)
theorem dX6_story_65 : decode cX6_story 65 = .ok (.aload_n 0, 1) := dk_42 (dk_at dksX6_story_2 17 rfl rfl)
theorem dX6_story_66 : decode cX6_story 66 = .ok (.iconst 4, 1) := dk_7 (dk_at dksX6_story_2 18 rfl rfl)
theorem dX6_story_67 : decode cX6_story 67 = .ok (.iload_n 2, 1) := dk_28 (dk_at dksX6_story_2 19 rfl rfl)
theorem dX6_story_68 : decode cX6_story 68 = .ok (.iadd, 1) := dk_96 (dk_at dksX6_story_2 20 rfl rfl)
theorem dX6_story_69 : decode cX6_story 69 = .ok (.invokevirtual 260, 3) := dk_182 1 4 (dk_at dksX6_story_2 21 rfl rfl)
theorem dX6_story_72 : decode cX6_story 72 = .ok (.aload_n 0, 1) := dk_42 (dk_at dksX6_story_3 0 rfl rfl)
theorem dX6_story_73 : decode cX6_story 73 = .ok (.getfield 13, 3) := dk_180 0 13 (dk_at dksX6_story_3 1 rfl rfl)
theorem dX6_story_76 : decode cX6_story 76 = .ok (.sipush 1161, 3) := dk_17 4 137 (dk_at dksX6_story_3 4 rfl rfl)
theorem dX6_story_79 : decode cX6_story 79 = .ok (.iload_n 2, 1) := dk_28 (dk_at dksX6_story_3 7 rfl rfl)
theorem dX6_story_80 : decode cX6_story 80 = .ok (.iadd, 1) := dk_96 (dk_at dksX6_story_3 8 rfl rfl)
theorem dX6_story_81 : decode cX6_story 81 = .ok (.iload_n 1, 1) := dk_27 (dk_at dksX6_story_3 9 rfl rfl)
theorem dX6_story_82 : decode cX6_story 82 = .ok (.iastore, 1) := dk_79 (dk_at dksX6_story_3 10 rfl rfl)
theorem dX6_story_83 : decode cX6_story 83 = .ok (.aload_n 0, 1) := dk_42 (dk_at dksX6_story_3 11 rfl rfl)
theorem dX6_story_84 : decode cX6_story 84 = .ok (.getfield 13, 3) := dk_180 0 13 (dk_at dksX6_story_3 12 rfl rfl)
theorem dX6_story_87 : decode cX6_story 87 = .ok (.bipush 6, 2) := dk_16 6 (dk_at dksX6_story_3 15 rfl rfl)
theorem dX6_story_89 : decode cX6_story 89 = .ok (.dup2, 1) := dk_92 (dk_at dksX6_story_3 17 rfl rfl)
theorem dX6_story_90 : decode cX6_story 90 = .ok (.iaload, 1) := dk_46 (dk_at dksX6_story_3 18 rfl rfl)
theorem dX6_story_91 : decode cX6_story 91 = .ok (.iconst 1, 1) := dk_4 (dk_at dksX6_story_3 19 rfl rfl)
theorem dX6_story_92 : decode cX6_story 92 = .ok (.iadd, 1) := dk_96 (dk_at dksX6_story_3 20 rfl rfl)
theorem dX6_story_93 : decode cX6_story 93 = .ok (.iastore, 1) := dk_79 (dk_at dksX6_story_3 21 rfl rfl)
theorem dX6_story_94 : decode cX6_story 94 = .ok (.iload_n 2, 1) := dk_28 (dk_at dksX6_story_3 22 rfl rfl)
theorem dX6_story_95 : decode cX6_story 95 = .ok (.ireturn, 1) := dk_172 (dk_at dksX6_story_3 23 rfl rfl)
abbrev cX6_person : ByteArray := prog_30_method_54_code
def yX6_person : MethodName := ⟨RX6, "person", "(IIII)I"⟩
def dkwX6_person_9 : List UInt8 := [21, 6, 8, 21, 4, 182, 1, 23, 42, 180, 0, 13, 4, 92, 46, 4, 96, 79, 21, 6, 172]
abbrev dktX6_person_9 : List UInt8 := dkwX6_person_9 ++ []
def dkwX6_person_8 : List UInt8 := [182, 1, 23, 42, 21, 6, 7, 42, 180, 0, 13, 17, 1, 13, 7, 27, 104, 96, 46, 182, 1, 23, 42]
abbrev dktX6_person_8 : List UInt8 := dkwX6_person_8 ++ dktX6_person_9
def dkwX6_person_7 : List UInt8 := [182, 1, 23, 42, 21, 6, 4, 28, 182, 1, 23, 42, 21, 6, 5, 29, 182, 1, 23, 42, 21, 6, 6, 4]
abbrev dktX6_person_7 : List UInt8 := dkwX6_person_7 ++ dktX6_person_8
def dkwX6_person_6 : List UInt8 := [6, 182, 0, 80, 153, 0, 5, 3, 172, 42, 180, 0, 13, 4, 46, 54, 6, 42, 21, 6, 3, 27]
abbrev dktX6_person_6 : List UInt8 := dkwX6_person_6 ++ dktX6_person_7
def dkwX6_person_5 : List UInt8 := [5, 182, 0, 80, 154, 0, 27, 42, 42, 180, 0, 13, 4, 46, 16, 8, 160, 0, 7, 4, 167, 0, 4, 3]
abbrev dktX6_person_5 : List UInt8 := dkwX6_person_5 ++ dktX6_person_6
def dkwX6_person_4 : List UInt8 := [167, 255, 219, 42, 29, 3, 16, 9, 184, 0, 59, 153, 0, 8, 21, 5, 153, 0, 7, 4, 167, 0, 4, 3]
abbrev dktX6_person_4 : List UInt8 := dkwX6_person_4 ++ dktX6_person_5
def dkwX6_person_3 : List UInt8 := [154, 0, 14, 42, 21, 6, 3, 182, 1, 17, 27, 160, 0, 7, 4, 167, 0, 4, 3, 54, 5, 132, 6, 1]
abbrev dktX6_person_3 : List UInt8 := dkwX6_person_3 ++ dktX6_person_4
def dkwX6_person_2 : List UInt8 := [153, 0, 5, 3, 172, 3, 54, 5, 3, 54, 6, 21, 6, 42, 180, 0, 13, 4, 46, 162, 0, 32, 21, 5]
abbrev dktX6_person_2 : List UInt8 := dkwX6_person_2 ++ dktX6_person_3
def dkwX6_person_1 : List UInt8 := [2, 159, 0, 17, 42, 21, 4, 5, 182, 1, 20, 153, 0, 7, 4, 167, 0, 4, 3, 4, 182, 0, 80]
abbrev dktX6_person_1 : List UInt8 := dkwX6_person_1 ++ dktX6_person_2
def dkwX6_person_0 : List UInt8 := [42, 3, 181, 0, 3, 42, 42, 27, 3, 182, 1, 20, 154, 0, 26, 28, 184, 0, 76, 154, 0, 19, 21, 4]
abbrev dktX6_person_0 : List UInt8 := dkwX6_person_0 ++ dktX6_person_1
theorem dksX6_person_0 : cX6_person.data.toList.drop 0 = dktX6_person_0 := by decide +kernel
theorem dksX6_person_1 : cX6_person.data.toList.drop 24 = dktX6_person_1 := dk_seg dksX6_person_0 24 rfl rfl
theorem dksX6_person_2 : cX6_person.data.toList.drop 47 = dktX6_person_2 := dk_seg dksX6_person_1 23 rfl rfl
theorem dksX6_person_3 : cX6_person.data.toList.drop 71 = dktX6_person_3 := dk_seg dksX6_person_2 24 rfl rfl
theorem dksX6_person_4 : cX6_person.data.toList.drop 95 = dktX6_person_4 := dk_seg dksX6_person_3 24 rfl rfl
theorem dksX6_person_5 : cX6_person.data.toList.drop 119 = dktX6_person_5 := dk_seg dksX6_person_4 24 rfl rfl
theorem dksX6_person_6 : cX6_person.data.toList.drop 143 = dktX6_person_6 := dk_seg dksX6_person_5 24 rfl rfl
theorem dksX6_person_7 : cX6_person.data.toList.drop 165 = dktX6_person_7 := dk_seg dksX6_person_6 22 rfl rfl
theorem dksX6_person_8 : cX6_person.data.toList.drop 189 = dktX6_person_8 := dk_seg dksX6_person_7 24 rfl rfl
theorem dksX6_person_9 : cX6_person.data.toList.drop 212 = dktX6_person_9 := dk_seg dksX6_person_8 23 rfl rfl
theorem dX6_person_0 : decode cX6_person 0 = .ok (.aload_n 0, 1) := dk_42 (dk_at dksX6_person_0 0 rfl rfl)
theorem dX6_person_1 : decode cX6_person 1 = .ok (.iconst 0, 1) := dk_3 (dk_at dksX6_person_0 1 rfl rfl)
theorem dX6_person_2 : decode cX6_person 2 = .ok (.putfield 3, 3) := dk_181 0 3 (dk_at dksX6_person_0 2 rfl rfl)
theorem dX6_person_5 : decode cX6_person 5 = .ok (.aload_n 0, 1) := dk_42 (dk_at dksX6_person_0 5 rfl rfl)
theorem dX6_person_6 : decode cX6_person 6 = .ok (.aload_n 0, 1) := dk_42 (dk_at dksX6_person_0 6 rfl rfl)
theorem dX6_person_7 : decode cX6_person 7 = .ok (.iload_n 1, 1) := dk_27 (dk_at dksX6_person_0 7 rfl rfl)
theorem dX6_person_8 : decode cX6_person 8 = .ok (.iconst 0, 1) := dk_3 (dk_at dksX6_person_0 8 rfl rfl)
theorem dX6_person_9 : decode cX6_person 9 = .ok (.invokevirtual 276, 3) := dk_182 1 20 (dk_at dksX6_person_0 9 rfl rfl)
theorem dX6_person_12 : decode cX6_person 12 = .ok (.ifCond .ne 26, 3) := dk_154 0 26 (dk_at dksX6_person_0 12 rfl rfl)
theorem dX6_person_15 : decode cX6_person 15 = .ok (.iload_n 2, 1) := dk_28 (dk_at dksX6_person_0 15 rfl rfl)
theorem dX6_person_16 : decode cX6_person 16 = .ok (.invokestatic 76, 3) := dk_184 0 76 (dk_at dksX6_person_0 16 rfl rfl)
theorem dX6_person_19 : decode cX6_person 19 = .ok (.ifCond .ne 19, 3) := dk_154 0 19 (dk_at dksX6_person_0 19 rfl rfl)
theorem dX6_person_22 : decode cX6_person 22 = .ok (.iload 4, 2) := dk_21 4 (dk_at dksX6_person_0 22 rfl rfl)
theorem dX6_person_24 : decode cX6_person 24 = .ok (.iconst (-1), 1) := dk_2 (dk_at dksX6_person_1 0 rfl rfl)
theorem dX6_person_25 : decode cX6_person 25 = .ok (.if_icmp .eq 17, 3) := dk_159 0 17 (dk_at dksX6_person_1 1 rfl rfl)
theorem dX6_person_28 : decode cX6_person 28 = .ok (.aload_n 0, 1) := dk_42 (dk_at dksX6_person_1 4 rfl rfl)
theorem dX6_person_29 : decode cX6_person 29 = .ok (.iload 4, 2) := dk_21 4 (dk_at dksX6_person_1 5 rfl rfl)
theorem dX6_person_31 : decode cX6_person 31 = .ok (.iconst 2, 1) := dk_5 (dk_at dksX6_person_1 7 rfl rfl)
theorem dX6_person_32 : decode cX6_person 32 = .ok (.invokevirtual 276, 3) := dk_182 1 20 (dk_at dksX6_person_1 8 rfl rfl)
theorem dX6_person_35 : decode cX6_person 35 = .ok (.ifCond .eq 7, 3) := dk_153 0 7 (dk_at dksX6_person_1 11 rfl rfl)
theorem dX6_person_38 : decode cX6_person 38 = .ok (.iconst 1, 1) := dk_4 (dk_at dksX6_person_1 14 rfl rfl)
theorem dX6_person_39 : decode cX6_person 39 = .ok (.goto 4, 3) := dk_167 0 4 (dk_at dksX6_person_1 15 rfl rfl)
theorem dX6_person_42 : decode cX6_person 42 = .ok (.iconst 0, 1) := dk_3 (dk_at dksX6_person_1 18 rfl rfl)
theorem dX6_person_43 : decode cX6_person 43 = .ok (.iconst 1, 1) := dk_4 (dk_at dksX6_person_1 19 rfl rfl)
theorem dX6_person_44 : decode cX6_person 44 = .ok (.invokevirtual 80, 3) := dk_182 0 80 (dk_at dksX6_person_1 20 rfl rfl)
theorem dX6_person_47 : decode cX6_person 47 = .ok (.ifCond .eq 5, 3) := dk_153 0 5 (dk_at dksX6_person_2 0 rfl rfl)
theorem dX6_person_50 : decode cX6_person 50 = .ok (.iconst 0, 1) := dk_3 (dk_at dksX6_person_2 3 rfl rfl)
theorem dX6_person_51 : decode cX6_person 51 = .ok (.ireturn, 1) := dk_172 (dk_at dksX6_person_2 4 rfl rfl)
theorem dX6_person_52 : decode cX6_person 52 = .ok (.iconst 0, 1) := dk_3 (dk_at dksX6_person_2 5 rfl rfl)
theorem dX6_person_53 : decode cX6_person 53 = .ok (.istore 5, 2) := dk_54 5 (dk_at dksX6_person_2 6 rfl rfl)
theorem dX6_person_55 : decode cX6_person 55 = .ok (.iconst 0, 1) := dk_3 (dk_at dksX6_person_2 8 rfl rfl)
theorem dX6_person_56 : decode cX6_person 56 = .ok (.istore 6, 2) := dk_54 6 (dk_at dksX6_person_2 9 rfl rfl)
theorem dX6_person_58 : decode cX6_person 58 = .ok (.iload 6, 2) := dk_21 6 (dk_at dksX6_person_2 11 rfl rfl)
theorem dX6_person_60 : decode cX6_person 60 = .ok (.aload_n 0, 1) := dk_42 (dk_at dksX6_person_2 13 rfl rfl)
theorem dX6_person_61 : decode cX6_person 61 = .ok (.getfield 13, 3) := dk_180 0 13 (dk_at dksX6_person_2 14 rfl rfl)
theorem dX6_person_64 : decode cX6_person 64 = .ok (.iconst 1, 1) := dk_4 (dk_at dksX6_person_2 17 rfl rfl)
theorem dX6_person_65 : decode cX6_person 65 = .ok (.iaload, 1) := dk_46 (dk_at dksX6_person_2 18 rfl rfl)
theorem dX6_person_66 : decode cX6_person 66 = .ok (.if_icmp .ge 32, 3) := dk_162 0 32 (dk_at dksX6_person_2 19 rfl rfl)
theorem dX6_person_69 : decode cX6_person 69 = .ok (.iload 5, 2) := dk_21 5 (dk_at dksX6_person_2 22 rfl rfl)
theorem dX6_person_71 : decode cX6_person 71 = .ok (.ifCond .ne 14, 3) := dk_154 0 14 (dk_at dksX6_person_3 0 rfl rfl)
theorem dX6_person_74 : decode cX6_person 74 = .ok (.aload_n 0, 1) := dk_42 (dk_at dksX6_person_3 3 rfl rfl)
theorem dX6_person_75 : decode cX6_person 75 = .ok (.iload 6, 2) := dk_21 6 (dk_at dksX6_person_3 4 rfl rfl)
theorem dX6_person_77 : decode cX6_person 77 = .ok (.iconst 0, 1) := dk_3 (dk_at dksX6_person_3 6 rfl rfl)
theorem dX6_person_78 : decode cX6_person 78 = .ok (.invokevirtual 273, 3) := dk_182 1 17 (dk_at dksX6_person_3 7 rfl rfl)
theorem dX6_person_81 : decode cX6_person 81 = .ok (.iload_n 1, 1) := dk_27 (dk_at dksX6_person_3 10 rfl rfl)
theorem dX6_person_82 : decode cX6_person 82 = .ok (.if_icmp .ne 7, 3) := dk_160 0 7 (dk_at dksX6_person_3 11 rfl rfl)
theorem dX6_person_85 : decode cX6_person 85 = .ok (.iconst 1, 1) := dk_4 (dk_at dksX6_person_3 14 rfl rfl)
theorem dX6_person_86 : decode cX6_person 86 = .ok (.goto 4, 3) := dk_167 0 4 (dk_at dksX6_person_3 15 rfl rfl)
theorem dX6_person_89 : decode cX6_person 89 = .ok (.iconst 0, 1) := dk_3 (dk_at dksX6_person_3 18 rfl rfl)
theorem dX6_person_90 : decode cX6_person 90 = .ok (.istore 5, 2) := dk_54 5 (dk_at dksX6_person_3 19 rfl rfl)
theorem dX6_person_92 : decode cX6_person 92 = .ok (.iinc 6 1, 3) := dk_132 6 1 (dk_at dksX6_person_3 21 rfl rfl)
theorem dX6_person_95 : decode cX6_person 95 = .ok (.goto (-37), 3) := dk_167 255 219 (dk_at dksX6_person_4 0 rfl rfl)
theorem dX6_person_98 : decode cX6_person 98 = .ok (.aload_n 0, 1) := dk_42 (dk_at dksX6_person_4 3 rfl rfl)
theorem dX6_person_99 : decode cX6_person 99 = .ok (.iload_n 3, 1) := dk_29 (dk_at dksX6_person_4 4 rfl rfl)
theorem dX6_person_100 : decode cX6_person 100 = .ok (.iconst 0, 1) := dk_3 (dk_at dksX6_person_4 5 rfl rfl)
theorem dX6_person_101 : decode cX6_person 101 = .ok (.bipush 9, 2) := dk_16 9 (dk_at dksX6_person_4 6 rfl rfl)
theorem dX6_person_103 : decode cX6_person 103 = .ok (.invokestatic 59, 3) := dk_184 0 59 (dk_at dksX6_person_4 8 rfl rfl)
theorem dX6_person_106 : decode cX6_person 106 = .ok (.ifCond .eq 8, 3) := dk_153 0 8 (dk_at dksX6_person_4 11 rfl rfl)
theorem dX6_person_109 : decode cX6_person 109 = .ok (.iload 5, 2) := dk_21 5 (dk_at dksX6_person_4 14 rfl rfl)
theorem dX6_person_111 : decode cX6_person 111 = .ok (.ifCond .eq 7, 3) := dk_153 0 7 (dk_at dksX6_person_4 16 rfl rfl)
theorem dX6_person_114 : decode cX6_person 114 = .ok (.iconst 1, 1) := dk_4 (dk_at dksX6_person_4 19 rfl rfl)
theorem dX6_person_115 : decode cX6_person 115 = .ok (.goto 4, 3) := dk_167 0 4 (dk_at dksX6_person_4 20 rfl rfl)
theorem dX6_person_118 : decode cX6_person 118 = .ok (.iconst 0, 1) := dk_3 (dk_at dksX6_person_4 23 rfl rfl)
theorem dX6_person_119 : decode cX6_person 119 = .ok (.iconst 2, 1) := dk_5 (dk_at dksX6_person_5 0 rfl rfl)
theorem dX6_person_120 : decode cX6_person 120 = .ok (.invokevirtual 80, 3) := dk_182 0 80 (dk_at dksX6_person_5 1 rfl rfl)
theorem dX6_person_123 : decode cX6_person 123 = .ok (.ifCond .ne 27, 3) := dk_154 0 27 (dk_at dksX6_person_5 4 rfl rfl)
theorem dX6_person_126 : decode cX6_person 126 = .ok (.aload_n 0, 1) := dk_42 (dk_at dksX6_person_5 7 rfl rfl)
theorem dX6_person_127 : decode cX6_person 127 = .ok (.aload_n 0, 1) := dk_42 (dk_at dksX6_person_5 8 rfl rfl)
theorem dX6_person_128 : decode cX6_person 128 = .ok (.getfield 13, 3) := dk_180 0 13 (dk_at dksX6_person_5 9 rfl rfl)
theorem dX6_person_131 : decode cX6_person 131 = .ok (.iconst 1, 1) := dk_4 (dk_at dksX6_person_5 12 rfl rfl)
theorem dX6_person_132 : decode cX6_person 132 = .ok (.iaload, 1) := dk_46 (dk_at dksX6_person_5 13 rfl rfl)
theorem dX6_person_133 : decode cX6_person 133 = .ok (.bipush 8, 2) := dk_16 8 (dk_at dksX6_person_5 14 rfl rfl)
theorem dX6_person_135 : decode cX6_person 135 = .ok (.if_icmp .ne 7, 3) := dk_160 0 7 (dk_at dksX6_person_5 16 rfl rfl)
theorem dX6_person_138 : decode cX6_person 138 = .ok (.iconst 1, 1) := dk_4 (dk_at dksX6_person_5 19 rfl rfl)
theorem dX6_person_139 : decode cX6_person 139 = .ok (.goto 4, 3) := dk_167 0 4 (dk_at dksX6_person_5 20 rfl rfl)
theorem dX6_person_142 : decode cX6_person 142 = .ok (.iconst 0, 1) := dk_3 (dk_at dksX6_person_5 23 rfl rfl)
theorem dX6_person_143 : decode cX6_person 143 = .ok (.iconst 3, 1) := dk_6 (dk_at dksX6_person_6 0 rfl rfl)
theorem dX6_person_144 : decode cX6_person 144 = .ok (.invokevirtual 80, 3) := dk_182 0 80 (dk_at dksX6_person_6 1 rfl rfl)
theorem dX6_person_147 : decode cX6_person 147 = .ok (.ifCond .eq 5, 3) := dk_153 0 5 (dk_at dksX6_person_6 4 rfl rfl)
theorem dX6_person_150 : decode cX6_person 150 = .ok (.iconst 0, 1) := dk_3 (dk_at dksX6_person_6 7 rfl rfl)
theorem dX6_person_151 : decode cX6_person 151 = .ok (.ireturn, 1) := dk_172 (dk_at dksX6_person_6 8 rfl rfl)
theorem dX6_person_152 : decode cX6_person 152 = .ok (.aload_n 0, 1) := dk_42 (dk_at dksX6_person_6 9 rfl rfl)
theorem dX6_person_153 : decode cX6_person 153 = .ok (.getfield 13, 3) := dk_180 0 13 (dk_at dksX6_person_6 10 rfl rfl)
theorem dX6_person_156 : decode cX6_person 156 = .ok (.iconst 1, 1) := dk_4 (dk_at dksX6_person_6 13 rfl rfl)
theorem dX6_person_157 : decode cX6_person 157 = .ok (.iaload, 1) := dk_46 (dk_at dksX6_person_6 14 rfl rfl)
theorem dX6_person_158 : decode cX6_person 158 = .ok (.istore 6, 2) := dk_54 6 (dk_at dksX6_person_6 15 rfl rfl)
theorem dX6_person_160 : decode cX6_person 160 = .ok (.aload_n 0, 1) := dk_42 (dk_at dksX6_person_6 17 rfl rfl)
theorem dX6_person_161 : decode cX6_person 161 = .ok (.iload 6, 2) := dk_21 6 (dk_at dksX6_person_6 18 rfl rfl)
theorem dX6_person_163 : decode cX6_person 163 = .ok (.iconst 0, 1) := dk_3 (dk_at dksX6_person_6 20 rfl rfl)
theorem dX6_person_164 : decode cX6_person 164 = .ok (.iload_n 1, 1) := dk_27 (dk_at dksX6_person_6 21 rfl rfl)
theorem dX6_person_165 : decode cX6_person 165 = .ok (.invokevirtual 279, 3) := dk_182 1 23 (dk_at dksX6_person_7 0 rfl rfl)
theorem dX6_person_168 : decode cX6_person 168 = .ok (.aload_n 0, 1) := dk_42 (dk_at dksX6_person_7 3 rfl rfl)
theorem dX6_person_169 : decode cX6_person 169 = .ok (.iload 6, 2) := dk_21 6 (dk_at dksX6_person_7 4 rfl rfl)
theorem dX6_person_171 : decode cX6_person 171 = .ok (.iconst 1, 1) := dk_4 (dk_at dksX6_person_7 6 rfl rfl)
theorem dX6_person_172 : decode cX6_person 172 = .ok (.iload_n 2, 1) := dk_28 (dk_at dksX6_person_7 7 rfl rfl)
theorem dX6_person_173 : decode cX6_person 173 = .ok (.invokevirtual 279, 3) := dk_182 1 23 (dk_at dksX6_person_7 8 rfl rfl)
theorem dX6_person_176 : decode cX6_person 176 = .ok (.aload_n 0, 1) := dk_42 (dk_at dksX6_person_7 11 rfl rfl)
theorem dX6_person_177 : decode cX6_person 177 = .ok (.iload 6, 2) := dk_21 6 (dk_at dksX6_person_7 12 rfl rfl)
theorem dX6_person_179 : decode cX6_person 179 = .ok (.iconst 2, 1) := dk_5 (dk_at dksX6_person_7 14 rfl rfl)
theorem dX6_person_180 : decode cX6_person 180 = .ok (.iload_n 3, 1) := dk_29 (dk_at dksX6_person_7 15 rfl rfl)
theorem dX6_person_181 : decode cX6_person 181 = .ok (.invokevirtual 279, 3) := dk_182 1 23 (dk_at dksX6_person_7 16 rfl rfl)
theorem dX6_person_184 : decode cX6_person 184 = .ok (.aload_n 0, 1) := dk_42 (dk_at dksX6_person_7 19 rfl rfl)
theorem dX6_person_185 : decode cX6_person 185 = .ok (.iload 6, 2) := dk_21 6 (dk_at dksX6_person_7 20 rfl rfl)
theorem dX6_person_187 : decode cX6_person 187 = .ok (.iconst 3, 1) := dk_6 (dk_at dksX6_person_7 22 rfl rfl)
theorem dX6_person_188 : decode cX6_person 188 = .ok (.iconst 1, 1) := dk_4 (dk_at dksX6_person_7 23 rfl rfl)
theorem dX6_person_189 : decode cX6_person 189 = .ok (.invokevirtual 279, 3) := dk_182 1 23 (dk_at dksX6_person_8 0 rfl rfl)
theorem dX6_person_192 : decode cX6_person 192 = .ok (.aload_n 0, 1) := dk_42 (dk_at dksX6_person_8 3 rfl rfl)
theorem dX6_person_193 : decode cX6_person 193 = .ok (.iload 6, 2) := dk_21 6 (dk_at dksX6_person_8 4 rfl rfl)
theorem dX6_person_195 : decode cX6_person 195 = .ok (.iconst 4, 1) := dk_7 (dk_at dksX6_person_8 6 rfl rfl)
theorem dX6_person_196 : decode cX6_person 196 = .ok (.aload_n 0, 1) := dk_42 (dk_at dksX6_person_8 7 rfl rfl)
theorem dX6_person_197 : decode cX6_person 197 = .ok (.getfield 13, 3) := dk_180 0 13 (dk_at dksX6_person_8 8 rfl rfl)
theorem dX6_person_200 : decode cX6_person 200 = .ok (.sipush 269, 3) := dk_17 1 13 (dk_at dksX6_person_8 11 rfl rfl)
theorem dX6_person_203 : decode cX6_person 203 = .ok (.iconst 4, 1) := dk_7 (dk_at dksX6_person_8 14 rfl rfl)
theorem dX6_person_204 : decode cX6_person 204 = .ok (.iload_n 1, 1) := dk_27 (dk_at dksX6_person_8 15 rfl rfl)
theorem dX6_person_205 : decode cX6_person 205 = .ok (.imul, 1) := dk_104 (dk_at dksX6_person_8 16 rfl rfl)
theorem dX6_person_206 : decode cX6_person 206 = .ok (.iadd, 1) := dk_96 (dk_at dksX6_person_8 17 rfl rfl)
theorem dX6_person_207 : decode cX6_person 207 = .ok (.iaload, 1) := dk_46 (dk_at dksX6_person_8 18 rfl rfl)
theorem dX6_person_208 : decode cX6_person 208 = .ok (.invokevirtual 279, 3) := dk_182 1 23 (dk_at dksX6_person_8 19 rfl rfl)
theorem dX6_person_211 : decode cX6_person 211 = .ok (.aload_n 0, 1) := dk_42 (dk_at dksX6_person_8 22 rfl rfl)
theorem dX6_person_212 : decode cX6_person 212 = .ok (.iload 6, 2) := dk_21 6 (dk_at dksX6_person_9 0 rfl rfl)
theorem dX6_person_214 : decode cX6_person 214 = .ok (.iconst 5, 1) := dk_8 (dk_at dksX6_person_9 2 rfl rfl)
theorem dX6_person_215 : decode cX6_person 215 = .ok (.iload 4, 2) := dk_21 4 (dk_at dksX6_person_9 3 rfl rfl)
theorem dX6_person_217 : decode cX6_person 217 = .ok (.invokevirtual 279, 3) := dk_182 1 23 (dk_at dksX6_person_9 5 rfl rfl)
theorem dX6_person_220 : decode cX6_person 220 = .ok (.aload_n 0, 1) := dk_42 (dk_at dksX6_person_9 8 rfl rfl)
theorem dX6_person_221 : decode cX6_person 221 = .ok (.getfield 13, 3) := dk_180 0 13 (dk_at dksX6_person_9 9 rfl rfl)
theorem dX6_person_224 : decode cX6_person 224 = .ok (.iconst 1, 1) := dk_4 (dk_at dksX6_person_9 12 rfl rfl)
theorem dX6_person_225 : decode cX6_person 225 = .ok (.dup2, 1) := dk_92 (dk_at dksX6_person_9 13 rfl rfl)
theorem dX6_person_226 : decode cX6_person 226 = .ok (.iaload, 1) := dk_46 (dk_at dksX6_person_9 14 rfl rfl)
theorem dX6_person_227 : decode cX6_person 227 = .ok (.iconst 1, 1) := dk_4 (dk_at dksX6_person_9 15 rfl rfl)
theorem dX6_person_228 : decode cX6_person 228 = .ok (.iadd, 1) := dk_96 (dk_at dksX6_person_9 16 rfl rfl)
theorem dX6_person_229 : decode cX6_person 229 = .ok (.iastore, 1) := dk_79 (dk_at dksX6_person_9 17 rfl rfl)
theorem dX6_person_230 : decode cX6_person 230 = .ok (.iload 6, 2) := dk_21 6 (dk_at dksX6_person_9 18 rfl rfl)
theorem dX6_person_232 : decode cX6_person 232 = .ok (.ireturn, 1) := dk_172 (dk_at dksX6_person_9 20 rfl rfl)
abbrev cX6_none : ByteArray := prog_30_method_7_code
def yX6_none : MethodName := ⟨RX6, "none", "(II)Z"⟩
def dkwX6_none_0 : List UInt8 := [27, 3, 42, 180, 0, 13, 28, 46, 4, 100, 184, 0, 59, 154, 0, 7, 4, 167, 0, 4, 3, 172]
abbrev dktX6_none_0 : List UInt8 := dkwX6_none_0 ++ []
theorem dksX6_none_0 : cX6_none.data.toList.drop 0 = dktX6_none_0 := by decide +kernel
theorem dX6_none_0 : decode cX6_none 0 = .ok (.iload_n 1, 1) := dk_27 (dk_at dksX6_none_0 0 rfl rfl)
theorem dX6_none_1 : decode cX6_none 1 = .ok (.iconst 0, 1) := dk_3 (dk_at dksX6_none_0 1 rfl rfl)
theorem dX6_none_2 : decode cX6_none 2 = .ok (.aload_n 0, 1) := dk_42 (dk_at dksX6_none_0 2 rfl rfl)
theorem dX6_none_3 : decode cX6_none 3 = .ok (.getfield 13, 3) := dk_180 0 13 (dk_at dksX6_none_0 3 rfl rfl)
theorem dX6_none_6 : decode cX6_none 6 = .ok (.iload_n 2, 1) := dk_28 (dk_at dksX6_none_0 6 rfl rfl)
theorem dX6_none_7 : decode cX6_none 7 = .ok (.iaload, 1) := dk_46 (dk_at dksX6_none_0 7 rfl rfl)
theorem dX6_none_8 : decode cX6_none 8 = .ok (.iconst 1, 1) := dk_4 (dk_at dksX6_none_0 8 rfl rfl)
theorem dX6_none_9 : decode cX6_none 9 = .ok (.isub, 1) := dk_100 (dk_at dksX6_none_0 9 rfl rfl)
theorem dX6_none_10 : decode cX6_none 10 = .ok (.invokestatic 59, 3) := dk_184 0 59 (dk_at dksX6_none_0 10 rfl rfl)
theorem dX6_none_13 : decode cX6_none 13 = .ok (.ifCond .ne 7, 3) := dk_154 0 7 (dk_at dksX6_none_0 13 rfl rfl)
theorem dX6_none_16 : decode cX6_none 16 = .ok (.iconst 1, 1) := dk_4 (dk_at dksX6_none_0 16 rfl rfl)
theorem dX6_none_17 : decode cX6_none 17 = .ok (.goto 4, 3) := dk_167 0 4 (dk_at dksX6_none_0 17 rfl rfl)
theorem dX6_none_20 : decode cX6_none 20 = .ok (.iconst 0, 1) := dk_3 (dk_at dksX6_none_0 20 rfl rfl)
theorem dX6_none_21 : decode cX6_none 21 = .ok (.ireturn, 1) := dk_172 (dk_at dksX6_none_0 21 rfl rfl)
abbrev cX6_of : ByteArray := prog_30_method_50_code
def yX6_of : MethodName := ⟨RX6, "of", "(II)I"⟩
def dkwX6_of_0 : List UInt8 := [42, 180, 0, 13, 17, 1, 45, 16, 6, 27, 104, 96, 28, 96, 46, 172]
abbrev dktX6_of_0 : List UInt8 := dkwX6_of_0 ++ []
theorem dksX6_of_0 : cX6_of.data.toList.drop 0 = dktX6_of_0 := by decide +kernel
theorem dX6_of_0 : decode cX6_of 0 = .ok (.aload_n 0, 1) := dk_42 (dk_at dksX6_of_0 0 rfl rfl)
theorem dX6_of_1 : decode cX6_of 1 = .ok (.getfield 13, 3) := dk_180 0 13 (dk_at dksX6_of_0 1 rfl rfl)
theorem dX6_of_4 : decode cX6_of 4 = .ok (.sipush 301, 3) := dk_17 1 45 (dk_at dksX6_of_0 4 rfl rfl)
theorem dX6_of_7 : decode cX6_of 7 = .ok (.bipush 6, 2) := dk_16 6 (dk_at dksX6_of_0 7 rfl rfl)
theorem dX6_of_9 : decode cX6_of 9 = .ok (.iload_n 1, 1) := dk_27 (dk_at dksX6_of_0 9 rfl rfl)
theorem dX6_of_10 : decode cX6_of 10 = .ok (.imul, 1) := dk_104 (dk_at dksX6_of_0 10 rfl rfl)
theorem dX6_of_11 : decode cX6_of 11 = .ok (.iadd, 1) := dk_96 (dk_at dksX6_of_0 11 rfl rfl)
theorem dX6_of_12 : decode cX6_of 12 = .ok (.iload_n 2, 1) := dk_28 (dk_at dksX6_of_0 12 rfl rfl)
theorem dX6_of_13 : decode cX6_of 13 = .ok (.iadd, 1) := dk_96 (dk_at dksX6_of_0 13 rfl rfl)
theorem dX6_of_14 : decode cX6_of 14 = .ok (.iaload, 1) := dk_46 (dk_at dksX6_of_0 14 rfl rfl)
theorem dX6_of_15 : decode cX6_of 15 = .ok (.ireturn, 1) := dk_172 (dk_at dksX6_of_0 15 rfl rfl)
abbrev cX6_sets : ByteArray := prog_30_method_51_code
def yX6_sets : MethodName := ⟨RX6, "sets", "(III)V"⟩
def dkwX6_sets_0 : List UInt8 := [42, 180, 0, 13, 17, 1, 45, 16, 6, 27, 104, 96, 28, 96, 29, 79, 177]
abbrev dktX6_sets_0 : List UInt8 := dkwX6_sets_0 ++ []
theorem dksX6_sets_0 : cX6_sets.data.toList.drop 0 = dktX6_sets_0 := by decide +kernel
theorem dX6_sets_0 : decode cX6_sets 0 = .ok (.aload_n 0, 1) := dk_42 (dk_at dksX6_sets_0 0 rfl rfl)
theorem dX6_sets_1 : decode cX6_sets 1 = .ok (.getfield 13, 3) := dk_180 0 13 (dk_at dksX6_sets_0 1 rfl rfl)
theorem dX6_sets_4 : decode cX6_sets 4 = .ok (.sipush 301, 3) := dk_17 1 45 (dk_at dksX6_sets_0 4 rfl rfl)
theorem dX6_sets_7 : decode cX6_sets 7 = .ok (.bipush 6, 2) := dk_16 6 (dk_at dksX6_sets_0 7 rfl rfl)
theorem dX6_sets_9 : decode cX6_sets 9 = .ok (.iload_n 1, 1) := dk_27 (dk_at dksX6_sets_0 9 rfl rfl)
theorem dX6_sets_10 : decode cX6_sets 10 = .ok (.imul, 1) := dk_104 (dk_at dksX6_sets_0 10 rfl rfl)
theorem dX6_sets_11 : decode cX6_sets 11 = .ok (.iadd, 1) := dk_96 (dk_at dksX6_sets_0 11 rfl rfl)
theorem dX6_sets_12 : decode cX6_sets 12 = .ok (.iload_n 2, 1) := dk_28 (dk_at dksX6_sets_0 12 rfl rfl)
theorem dX6_sets_13 : decode cX6_sets 13 = .ok (.iadd, 1) := dk_96 (dk_at dksX6_sets_0 13 rfl rfl)
theorem dX6_sets_14 : decode cX6_sets 14 = .ok (.iload_n 3, 1) := dk_29 (dk_at dksX6_sets_0 14 rfl rfl)
theorem dX6_sets_15 : decode cX6_sets 15 = .ok (.iastore, 1) := dk_79 (dk_at dksX6_sets_0 15 rfl rfl)
theorem dX6_sets_16 : decode cX6_sets 16 = .ok (.return_, 1) := dk_177 (dk_at dksX6_sets_0 16 rfl rfl)
abbrev cX6_look : ByteArray := prog_30_method_57_code
def yX6_look : MethodName := ⟨RX6, "look", "(II)I"⟩
def dkwX6_look_3 : List UInt8 := [3, 28, 16, 6, 160, 0, 7, 6, 167, 0, 4, 5, 182, 1, 33, 172]
abbrev dktX6_look_3 : List UInt8 := dkwX6_look_3 ++ []
def dkwX6_look_2 : List UInt8 := [162, 0, 12, 42, 27, 28, 182, 1, 17, 167, 0, 30, 42, 27, 28, 16, 6, 160, 0, 7, 4, 167, 0, 4]
abbrev dktX6_look_2 : List UInt8 := dkwX6_look_2 ++ dktX6_look_3
def dkwX6_look_1 : List UInt8 := [184, 0, 59, 154, 0, 7, 4, 167, 0, 4, 3, 5, 182, 0, 80, 153, 0, 5, 3, 172, 28, 16, 6]
abbrev dktX6_look_1 : List UInt8 := dkwX6_look_1 ++ dktX6_look_2
def dkwX6_look_0 : List UInt8 := [42, 3, 181, 0, 3, 42, 42, 27, 4, 182, 1, 20, 4, 182, 0, 80, 154, 0, 26, 42, 28, 3, 16, 7]
abbrev dktX6_look_0 : List UInt8 := dkwX6_look_0 ++ dktX6_look_1
theorem dksX6_look_0 : cX6_look.data.toList.drop 0 = dktX6_look_0 := by decide +kernel
theorem dksX6_look_1 : cX6_look.data.toList.drop 24 = dktX6_look_1 := dk_seg dksX6_look_0 24 rfl rfl
theorem dksX6_look_2 : cX6_look.data.toList.drop 47 = dktX6_look_2 := dk_seg dksX6_look_1 23 rfl rfl
theorem dksX6_look_3 : cX6_look.data.toList.drop 71 = dktX6_look_3 := dk_seg dksX6_look_2 24 rfl rfl
theorem dX6_look_0 : decode cX6_look 0 = .ok (.aload_n 0, 1) := dk_42 (dk_at dksX6_look_0 0 rfl rfl)
theorem dX6_look_1 : decode cX6_look 1 = .ok (.iconst 0, 1) := dk_3 (dk_at dksX6_look_0 1 rfl rfl)
theorem dX6_look_2 : decode cX6_look 2 = .ok (.putfield 3, 3) := dk_181 0 3 (dk_at dksX6_look_0 2 rfl rfl)
theorem dX6_look_5 : decode cX6_look 5 = .ok (.aload_n 0, 1) := dk_42 (dk_at dksX6_look_0 5 rfl rfl)
theorem dX6_look_6 : decode cX6_look 6 = .ok (.aload_n 0, 1) := dk_42 (dk_at dksX6_look_0 6 rfl rfl)
theorem dX6_look_7 : decode cX6_look 7 = .ok (.iload_n 1, 1) := dk_27 (dk_at dksX6_look_0 7 rfl rfl)
theorem dX6_look_8 : decode cX6_look 8 = .ok (.iconst 1, 1) := dk_4 (dk_at dksX6_look_0 8 rfl rfl)
theorem dX6_look_9 : decode cX6_look 9 = .ok (.invokevirtual 276, 3) := dk_182 1 20 (dk_at dksX6_look_0 9 rfl rfl)
theorem dX6_look_12 : decode cX6_look 12 = .ok (.iconst 1, 1) := dk_4 (dk_at dksX6_look_0 12 rfl rfl)
theorem dX6_look_13 : decode cX6_look 13 = .ok (.invokevirtual 80, 3) := dk_182 0 80 (dk_at dksX6_look_0 13 rfl rfl)
theorem dX6_look_16 : decode cX6_look 16 = .ok (.ifCond .ne 26, 3) := dk_154 0 26 (dk_at dksX6_look_0 16 rfl rfl)
theorem dX6_look_19 : decode cX6_look 19 = .ok (.aload_n 0, 1) := dk_42 (dk_at dksX6_look_0 19 rfl rfl)
theorem dX6_look_20 : decode cX6_look 20 = .ok (.iload_n 2, 1) := dk_28 (dk_at dksX6_look_0 20 rfl rfl)
theorem dX6_look_21 : decode cX6_look 21 = .ok (.iconst 0, 1) := dk_3 (dk_at dksX6_look_0 21 rfl rfl)
theorem dX6_look_22 : decode cX6_look 22 = .ok (.bipush 7, 2) := dk_16 7 (dk_at dksX6_look_0 22 rfl rfl)
theorem dX6_look_24 : decode cX6_look 24 = .ok (.invokestatic 59, 3) := dk_184 0 59 (dk_at dksX6_look_1 0 rfl rfl)
theorem dX6_look_27 : decode cX6_look 27 = .ok (.ifCond .ne 7, 3) := dk_154 0 7 (dk_at dksX6_look_1 3 rfl rfl)
theorem dX6_look_30 : decode cX6_look 30 = .ok (.iconst 1, 1) := dk_4 (dk_at dksX6_look_1 6 rfl rfl)
theorem dX6_look_31 : decode cX6_look 31 = .ok (.goto 4, 3) := dk_167 0 4 (dk_at dksX6_look_1 7 rfl rfl)
theorem dX6_look_34 : decode cX6_look 34 = .ok (.iconst 0, 1) := dk_3 (dk_at dksX6_look_1 10 rfl rfl)
theorem dX6_look_35 : decode cX6_look 35 = .ok (.iconst 2, 1) := dk_5 (dk_at dksX6_look_1 11 rfl rfl)
theorem dX6_look_36 : decode cX6_look 36 = .ok (.invokevirtual 80, 3) := dk_182 0 80 (dk_at dksX6_look_1 12 rfl rfl)
theorem dX6_look_39 : decode cX6_look 39 = .ok (.ifCond .eq 5, 3) := dk_153 0 5 (dk_at dksX6_look_1 15 rfl rfl)
theorem dX6_look_42 : decode cX6_look 42 = .ok (.iconst 0, 1) := dk_3 (dk_at dksX6_look_1 18 rfl rfl)
theorem dX6_look_43 : decode cX6_look 43 = .ok (.ireturn, 1) := dk_172 (dk_at dksX6_look_1 19 rfl rfl)
theorem dX6_look_44 : decode cX6_look 44 = .ok (.iload_n 2, 1) := dk_28 (dk_at dksX6_look_1 20 rfl rfl)
theorem dX6_look_45 : decode cX6_look 45 = .ok (.bipush 6, 2) := dk_16 6 (dk_at dksX6_look_1 21 rfl rfl)
theorem dX6_look_47 : decode cX6_look 47 = .ok (.if_icmp .ge 12, 3) := dk_162 0 12 (dk_at dksX6_look_2 0 rfl rfl)
theorem dX6_look_50 : decode cX6_look 50 = .ok (.aload_n 0, 1) := dk_42 (dk_at dksX6_look_2 3 rfl rfl)
theorem dX6_look_51 : decode cX6_look 51 = .ok (.iload_n 1, 1) := dk_27 (dk_at dksX6_look_2 4 rfl rfl)
theorem dX6_look_52 : decode cX6_look 52 = .ok (.iload_n 2, 1) := dk_28 (dk_at dksX6_look_2 5 rfl rfl)
theorem dX6_look_53 : decode cX6_look 53 = .ok (.invokevirtual 273, 3) := dk_182 1 17 (dk_at dksX6_look_2 6 rfl rfl)
theorem dX6_look_56 : decode cX6_look 56 = .ok (.goto 30, 3) := dk_167 0 30 (dk_at dksX6_look_2 9 rfl rfl)
theorem dX6_look_59 : decode cX6_look 59 = .ok (.aload_n 0, 1) := dk_42 (dk_at dksX6_look_2 12 rfl rfl)
theorem dX6_look_60 : decode cX6_look 60 = .ok (.iload_n 1, 1) := dk_27 (dk_at dksX6_look_2 13 rfl rfl)
theorem dX6_look_61 : decode cX6_look 61 = .ok (.iload_n 2, 1) := dk_28 (dk_at dksX6_look_2 14 rfl rfl)
theorem dX6_look_62 : decode cX6_look 62 = .ok (.bipush 6, 2) := dk_16 6 (dk_at dksX6_look_2 15 rfl rfl)
theorem dX6_look_64 : decode cX6_look 64 = .ok (.if_icmp .ne 7, 3) := dk_160 0 7 (dk_at dksX6_look_2 17 rfl rfl)
theorem dX6_look_67 : decode cX6_look 67 = .ok (.iconst 1, 1) := dk_4 (dk_at dksX6_look_2 20 rfl rfl)
theorem dX6_look_68 : decode cX6_look 68 = .ok (.goto 4, 3) := dk_167 0 4 (dk_at dksX6_look_2 21 rfl rfl)
theorem dX6_look_71 : decode cX6_look 71 = .ok (.iconst 0, 1) := dk_3 (dk_at dksX6_look_3 0 rfl rfl)
theorem dX6_look_72 : decode cX6_look 72 = .ok (.iload_n 2, 1) := dk_28 (dk_at dksX6_look_3 1 rfl rfl)
theorem dX6_look_73 : decode cX6_look 73 = .ok (.bipush 6, 2) := dk_16 6 (dk_at dksX6_look_3 2 rfl rfl)
theorem dX6_look_75 : decode cX6_look 75 = .ok (.if_icmp .ne 7, 3) := dk_160 0 7 (dk_at dksX6_look_3 4 rfl rfl)
theorem dX6_look_78 : decode cX6_look 78 = .ok (.iconst 3, 1) := dk_6 (dk_at dksX6_look_3 7 rfl rfl)
theorem dX6_look_79 : decode cX6_look 79 = .ok (.goto 4, 3) := dk_167 0 4 (dk_at dksX6_look_3 8 rfl rfl)
theorem dX6_look_82 : decode cX6_look 82 = .ok (.iconst 2, 1) := dk_5 (dk_at dksX6_look_3 11 rfl rfl)
theorem dX6_look_83 : decode cX6_look 83 = .ok (.invokevirtual 289, 3) := dk_182 1 33 (dk_at dksX6_look_3 12 rfl rfl)
theorem dX6_look_86 : decode cX6_look 86 = .ok (.ireturn, 1) := dk_172 (dk_at dksX6_look_3 15 rfl rfl)
abbrev cX6_near : ByteArray := prog_30_method_55_code
def yX6_near : MethodName := ⟨RX6, "near", "(IZI)I"⟩
def dkwX6_near_3 : List UInt8 := [54, 4, 132, 5, 1, 167, 255, 185, 21, 4, 172]
abbrev dktX6_near_3 : List UInt8 := dkwX6_near_3 ++ []
def dkwX6_near_2 : List UInt8 := [4, 182, 1, 17, 42, 21, 5, 4, 182, 1, 17, 184, 0, 90, 29, 163, 0, 7, 4, 167, 0, 4, 3, 96]
abbrev dktX6_near_2 : List UInt8 := dkwX6_near_2 ++ dktX6_near_3
def dkwX6_near_1 : List UInt8 := [27, 21, 5, 182, 1, 27, 153, 0, 40, 167, 0, 13, 42, 27, 21, 5, 182, 1, 30, 153, 0, 27, 42, 27]
abbrev dktX6_near_1 : List UInt8 := dkwX6_near_1 ++ dktX6_near_2
def dkwX6_near_0 : List UInt8 := [3, 54, 4, 3, 54, 5, 21, 5, 42, 180, 0, 13, 4, 46, 162, 0, 66, 21, 4, 28, 153, 0, 16, 42]
abbrev dktX6_near_0 : List UInt8 := dkwX6_near_0 ++ dktX6_near_1
theorem dksX6_near_0 : cX6_near.data.toList.drop 0 = dktX6_near_0 := by decide +kernel
theorem dksX6_near_1 : cX6_near.data.toList.drop 24 = dktX6_near_1 := dk_seg dksX6_near_0 24 rfl rfl
theorem dksX6_near_2 : cX6_near.data.toList.drop 48 = dktX6_near_2 := dk_seg dksX6_near_1 24 rfl rfl
theorem dksX6_near_3 : cX6_near.data.toList.drop 72 = dktX6_near_3 := dk_seg dksX6_near_2 24 rfl rfl
theorem dX6_near_0 : decode cX6_near 0 = .ok (.iconst 0, 1) := dk_3 (dk_at dksX6_near_0 0 rfl rfl)
theorem dX6_near_1 : decode cX6_near 1 = .ok (.istore 4, 2) := dk_54 4 (dk_at dksX6_near_0 1 rfl rfl)
theorem dX6_near_3 : decode cX6_near 3 = .ok (.iconst 0, 1) := dk_3 (dk_at dksX6_near_0 3 rfl rfl)
theorem dX6_near_4 : decode cX6_near 4 = .ok (.istore 5, 2) := dk_54 5 (dk_at dksX6_near_0 4 rfl rfl)
theorem dX6_near_6 : decode cX6_near 6 = .ok (.iload 5, 2) := dk_21 5 (dk_at dksX6_near_0 6 rfl rfl)
theorem dX6_near_8 : decode cX6_near 8 = .ok (.aload_n 0, 1) := dk_42 (dk_at dksX6_near_0 8 rfl rfl)
theorem dX6_near_9 : decode cX6_near 9 = .ok (.getfield 13, 3) := dk_180 0 13 (dk_at dksX6_near_0 9 rfl rfl)
theorem dX6_near_12 : decode cX6_near 12 = .ok (.iconst 1, 1) := dk_4 (dk_at dksX6_near_0 12 rfl rfl)
theorem dX6_near_13 : decode cX6_near 13 = .ok (.iaload, 1) := dk_46 (dk_at dksX6_near_0 13 rfl rfl)
theorem dX6_near_14 : decode cX6_near 14 = .ok (.if_icmp .ge 66, 3) := dk_162 0 66 (dk_at dksX6_near_0 14 rfl rfl)
theorem dX6_near_17 : decode cX6_near 17 = .ok (.iload 4, 2) := dk_21 4 (dk_at dksX6_near_0 17 rfl rfl)
theorem dX6_near_19 : decode cX6_near 19 = .ok (.iload_n 2, 1) := dk_28 (dk_at dksX6_near_0 19 rfl rfl)
theorem dX6_near_20 : decode cX6_near 20 = .ok (.ifCond .eq 16, 3) := dk_153 0 16 (dk_at dksX6_near_0 20 rfl rfl)
theorem dX6_near_23 : decode cX6_near 23 = .ok (.aload_n 0, 1) := dk_42 (dk_at dksX6_near_0 23 rfl rfl)
theorem dX6_near_24 : decode cX6_near 24 = .ok (.iload_n 1, 1) := dk_27 (dk_at dksX6_near_1 0 rfl rfl)
theorem dX6_near_25 : decode cX6_near 25 = .ok (.iload 5, 2) := dk_21 5 (dk_at dksX6_near_1 1 rfl rfl)
theorem dX6_near_27 : decode cX6_near 27 = .ok (.invokevirtual 283, 3) := dk_182 1 27 (dk_at dksX6_near_1 3 rfl rfl)
theorem dX6_near_30 : decode cX6_near 30 = .ok (.ifCond .eq 40, 3) := dk_153 0 40 (dk_at dksX6_near_1 6 rfl rfl)
theorem dX6_near_33 : decode cX6_near 33 = .ok (.goto 13, 3) := dk_167 0 13 (dk_at dksX6_near_1 9 rfl rfl)
theorem dX6_near_36 : decode cX6_near 36 = .ok (.aload_n 0, 1) := dk_42 (dk_at dksX6_near_1 12 rfl rfl)
theorem dX6_near_37 : decode cX6_near 37 = .ok (.iload_n 1, 1) := dk_27 (dk_at dksX6_near_1 13 rfl rfl)
theorem dX6_near_38 : decode cX6_near 38 = .ok (.iload 5, 2) := dk_21 5 (dk_at dksX6_near_1 14 rfl rfl)
theorem dX6_near_40 : decode cX6_near 40 = .ok (.invokevirtual 286, 3) := dk_182 1 30 (dk_at dksX6_near_1 16 rfl rfl)
theorem dX6_near_43 : decode cX6_near 43 = .ok (.ifCond .eq 27, 3) := dk_153 0 27 (dk_at dksX6_near_1 19 rfl rfl)
theorem dX6_near_46 : decode cX6_near 46 = .ok (.aload_n 0, 1) := dk_42 (dk_at dksX6_near_1 22 rfl rfl)
theorem dX6_near_47 : decode cX6_near 47 = .ok (.iload_n 1, 1) := dk_27 (dk_at dksX6_near_1 23 rfl rfl)
theorem dX6_near_48 : decode cX6_near 48 = .ok (.iconst 1, 1) := dk_4 (dk_at dksX6_near_2 0 rfl rfl)
theorem dX6_near_49 : decode cX6_near 49 = .ok (.invokevirtual 273, 3) := dk_182 1 17 (dk_at dksX6_near_2 1 rfl rfl)
theorem dX6_near_52 : decode cX6_near 52 = .ok (.aload_n 0, 1) := dk_42 (dk_at dksX6_near_2 4 rfl rfl)
theorem dX6_near_53 : decode cX6_near 53 = .ok (.iload 5, 2) := dk_21 5 (dk_at dksX6_near_2 5 rfl rfl)
theorem dX6_near_55 : decode cX6_near 55 = .ok (.iconst 1, 1) := dk_4 (dk_at dksX6_near_2 7 rfl rfl)
theorem dX6_near_56 : decode cX6_near 56 = .ok (.invokevirtual 273, 3) := dk_182 1 17 (dk_at dksX6_near_2 8 rfl rfl)
theorem dX6_near_59 : decode cX6_near 59 = .ok (.invokestatic 90, 3) := dk_184 0 90 (dk_at dksX6_near_2 11 rfl rfl)
theorem dX6_near_62 : decode cX6_near 62 = .ok (.iload_n 3, 1) := dk_29 (dk_at dksX6_near_2 14 rfl rfl)
theorem dX6_near_63 : decode cX6_near 63 = .ok (.if_icmp .gt 7, 3) := dk_163 0 7 (dk_at dksX6_near_2 15 rfl rfl)
theorem dX6_near_66 : decode cX6_near 66 = .ok (.iconst 1, 1) := dk_4 (dk_at dksX6_near_2 18 rfl rfl)
theorem dX6_near_67 : decode cX6_near 67 = .ok (.goto 4, 3) := dk_167 0 4 (dk_at dksX6_near_2 19 rfl rfl)
theorem dX6_near_70 : decode cX6_near 70 = .ok (.iconst 0, 1) := dk_3 (dk_at dksX6_near_2 22 rfl rfl)
theorem dX6_near_71 : decode cX6_near 71 = .ok (.iadd, 1) := dk_96 (dk_at dksX6_near_2 23 rfl rfl)
theorem dX6_near_72 : decode cX6_near 72 = .ok (.istore 4, 2) := dk_54 4 (dk_at dksX6_near_3 0 rfl rfl)
theorem dX6_near_74 : decode cX6_near 74 = .ok (.iinc 5 1, 3) := dk_132 5 1 (dk_at dksX6_near_3 2 rfl rfl)
theorem dX6_near_77 : decode cX6_near 77 = .ok (.goto (-71), 3) := dk_167 255 185 (dk_at dksX6_near_3 5 rfl rfl)
theorem dX6_near_80 : decode cX6_near 80 = .ok (.iload 4, 2) := dk_21 4 (dk_at dksX6_near_3 8 rfl rfl)
theorem dX6_near_82 : decode cX6_near 82 = .ok (.ireturn, 1) := dk_172 (dk_at dksX6_near_3 10 rfl rfl)
abbrev cX6_isFoe : ByteArray := prog_30_method_52_code
def yX6_isFoe : MethodName := ⟨RX6, "isFoe", "(II)Z"⟩
def dkwX6_isFoe_1 : List UInt8 := [159, 0, 7, 4, 167, 0, 4, 3, 172]
abbrev dktX6_isFoe_1 : List UInt8 := dkwX6_isFoe_1 ++ []
def dkwX6_isFoe_0 : List UInt8 := [42, 28, 6, 182, 1, 17, 4, 160, 0, 22, 42, 28, 7, 182, 1, 17, 42, 27, 7, 182, 1, 17]
abbrev dktX6_isFoe_0 : List UInt8 := dkwX6_isFoe_0 ++ dktX6_isFoe_1
theorem dksX6_isFoe_0 : cX6_isFoe.data.toList.drop 0 = dktX6_isFoe_0 := by decide +kernel
theorem dksX6_isFoe_1 : cX6_isFoe.data.toList.drop 22 = dktX6_isFoe_1 := dk_seg dksX6_isFoe_0 22 rfl rfl
theorem dX6_isFoe_0 : decode cX6_isFoe 0 = .ok (.aload_n 0, 1) := dk_42 (dk_at dksX6_isFoe_0 0 rfl rfl)
theorem dX6_isFoe_1 : decode cX6_isFoe 1 = .ok (.iload_n 2, 1) := dk_28 (dk_at dksX6_isFoe_0 1 rfl rfl)
theorem dX6_isFoe_2 : decode cX6_isFoe 2 = .ok (.iconst 3, 1) := dk_6 (dk_at dksX6_isFoe_0 2 rfl rfl)
theorem dX6_isFoe_3 : decode cX6_isFoe 3 = .ok (.invokevirtual 273, 3) := dk_182 1 17 (dk_at dksX6_isFoe_0 3 rfl rfl)
theorem dX6_isFoe_6 : decode cX6_isFoe 6 = .ok (.iconst 1, 1) := dk_4 (dk_at dksX6_isFoe_0 6 rfl rfl)
theorem dX6_isFoe_7 : decode cX6_isFoe 7 = .ok (.if_icmp .ne 22, 3) := dk_160 0 22 (dk_at dksX6_isFoe_0 7 rfl rfl)
theorem dX6_isFoe_10 : decode cX6_isFoe 10 = .ok (.aload_n 0, 1) := dk_42 (dk_at dksX6_isFoe_0 10 rfl rfl)
theorem dX6_isFoe_11 : decode cX6_isFoe 11 = .ok (.iload_n 2, 1) := dk_28 (dk_at dksX6_isFoe_0 11 rfl rfl)
theorem dX6_isFoe_12 : decode cX6_isFoe 12 = .ok (.iconst 4, 1) := dk_7 (dk_at dksX6_isFoe_0 12 rfl rfl)
theorem dX6_isFoe_13 : decode cX6_isFoe 13 = .ok (.invokevirtual 273, 3) := dk_182 1 17 (dk_at dksX6_isFoe_0 13 rfl rfl)
theorem dX6_isFoe_16 : decode cX6_isFoe 16 = .ok (.aload_n 0, 1) := dk_42 (dk_at dksX6_isFoe_0 16 rfl rfl)
theorem dX6_isFoe_17 : decode cX6_isFoe 17 = .ok (.iload_n 1, 1) := dk_27 (dk_at dksX6_isFoe_0 17 rfl rfl)
theorem dX6_isFoe_18 : decode cX6_isFoe 18 = .ok (.iconst 4, 1) := dk_7 (dk_at dksX6_isFoe_0 18 rfl rfl)
theorem dX6_isFoe_19 : decode cX6_isFoe 19 = .ok (.invokevirtual 273, 3) := dk_182 1 17 (dk_at dksX6_isFoe_0 19 rfl rfl)
theorem dX6_isFoe_22 : decode cX6_isFoe 22 = .ok (.if_icmp .eq 7, 3) := dk_159 0 7 (dk_at dksX6_isFoe_1 0 rfl rfl)
theorem dX6_isFoe_25 : decode cX6_isFoe 25 = .ok (.iconst 1, 1) := dk_4 (dk_at dksX6_isFoe_1 3 rfl rfl)
theorem dX6_isFoe_26 : decode cX6_isFoe 26 = .ok (.goto 4, 3) := dk_167 0 4 (dk_at dksX6_isFoe_1 4 rfl rfl)
theorem dX6_isFoe_29 : decode cX6_isFoe 29 = .ok (.iconst 0, 1) := dk_3 (dk_at dksX6_isFoe_1 7 rfl rfl)
theorem dX6_isFoe_30 : decode cX6_isFoe 30 = .ok (.ireturn, 1) := dk_172 (dk_at dksX6_isFoe_1 8 rfl rfl)
abbrev cX6_isFriend : ByteArray := prog_30_method_53_code
def yX6_isFriend : MethodName := ⟨RX6, "isFriend", "(II)Z"⟩
def dkwX6_isFriend_1 : List UInt8 := [182, 1, 17, 160, 0, 7, 4, 167, 0, 4, 3, 172]
abbrev dktX6_isFriend_1 : List UInt8 := dkwX6_isFriend_1 ++ []
def dkwX6_isFriend_0 : List UInt8 := [28, 27, 159, 0, 32, 42, 28, 6, 182, 1, 17, 4, 160, 0, 22, 42, 28, 7, 182, 1, 17, 42, 27, 7]
abbrev dktX6_isFriend_0 : List UInt8 := dkwX6_isFriend_0 ++ dktX6_isFriend_1
theorem dksX6_isFriend_0 : cX6_isFriend.data.toList.drop 0 = dktX6_isFriend_0 := by decide +kernel
theorem dksX6_isFriend_1 : cX6_isFriend.data.toList.drop 24 = dktX6_isFriend_1 := dk_seg dksX6_isFriend_0 24 rfl rfl
theorem dX6_isFriend_0 : decode cX6_isFriend 0 = .ok (.iload_n 2, 1) := dk_28 (dk_at dksX6_isFriend_0 0 rfl rfl)
theorem dX6_isFriend_1 : decode cX6_isFriend 1 = .ok (.iload_n 1, 1) := dk_27 (dk_at dksX6_isFriend_0 1 rfl rfl)
theorem dX6_isFriend_2 : decode cX6_isFriend 2 = .ok (.if_icmp .eq 32, 3) := dk_159 0 32 (dk_at dksX6_isFriend_0 2 rfl rfl)
theorem dX6_isFriend_5 : decode cX6_isFriend 5 = .ok (.aload_n 0, 1) := dk_42 (dk_at dksX6_isFriend_0 5 rfl rfl)
theorem dX6_isFriend_6 : decode cX6_isFriend 6 = .ok (.iload_n 2, 1) := dk_28 (dk_at dksX6_isFriend_0 6 rfl rfl)
theorem dX6_isFriend_7 : decode cX6_isFriend 7 = .ok (.iconst 3, 1) := dk_6 (dk_at dksX6_isFriend_0 7 rfl rfl)
theorem dX6_isFriend_8 : decode cX6_isFriend 8 = .ok (.invokevirtual 273, 3) := dk_182 1 17 (dk_at dksX6_isFriend_0 8 rfl rfl)
theorem dX6_isFriend_11 : decode cX6_isFriend 11 = .ok (.iconst 1, 1) := dk_4 (dk_at dksX6_isFriend_0 11 rfl rfl)
theorem dX6_isFriend_12 : decode cX6_isFriend 12 = .ok (.if_icmp .ne 22, 3) := dk_160 0 22 (dk_at dksX6_isFriend_0 12 rfl rfl)
theorem dX6_isFriend_15 : decode cX6_isFriend 15 = .ok (.aload_n 0, 1) := dk_42 (dk_at dksX6_isFriend_0 15 rfl rfl)
theorem dX6_isFriend_16 : decode cX6_isFriend 16 = .ok (.iload_n 2, 1) := dk_28 (dk_at dksX6_isFriend_0 16 rfl rfl)
theorem dX6_isFriend_17 : decode cX6_isFriend 17 = .ok (.iconst 4, 1) := dk_7 (dk_at dksX6_isFriend_0 17 rfl rfl)
theorem dX6_isFriend_18 : decode cX6_isFriend 18 = .ok (.invokevirtual 273, 3) := dk_182 1 17 (dk_at dksX6_isFriend_0 18 rfl rfl)
theorem dX6_isFriend_21 : decode cX6_isFriend 21 = .ok (.aload_n 0, 1) := dk_42 (dk_at dksX6_isFriend_0 21 rfl rfl)
theorem dX6_isFriend_22 : decode cX6_isFriend 22 = .ok (.iload_n 1, 1) := dk_27 (dk_at dksX6_isFriend_0 22 rfl rfl)
theorem dX6_isFriend_23 : decode cX6_isFriend 23 = .ok (.iconst 4, 1) := dk_7 (dk_at dksX6_isFriend_0 23 rfl rfl)
theorem dX6_isFriend_24 : decode cX6_isFriend 24 = .ok (.invokevirtual 273, 3) := dk_182 1 17 (dk_at dksX6_isFriend_1 0 rfl rfl)
theorem dX6_isFriend_27 : decode cX6_isFriend 27 = .ok (.if_icmp .ne 7, 3) := dk_160 0 7 (dk_at dksX6_isFriend_1 3 rfl rfl)
theorem dX6_isFriend_30 : decode cX6_isFriend 30 = .ok (.iconst 1, 1) := dk_4 (dk_at dksX6_isFriend_1 6 rfl rfl)
theorem dX6_isFriend_31 : decode cX6_isFriend 31 = .ok (.goto 4, 3) := dk_167 0 4 (dk_at dksX6_isFriend_1 7 rfl rfl)
theorem dX6_isFriend_34 : decode cX6_isFriend 34 = .ok (.iconst 0, 1) := dk_3 (dk_at dksX6_isFriend_1 10 rfl rfl)
theorem dX6_isFriend_35 : decode cX6_isFriend 35 = .ok (.ireturn, 1) := dk_172 (dk_at dksX6_isFriend_1 11 rfl rfl)
abbrev cX6_seed : ByteArray := prog_30_method_58_code
def yX6_seed : MethodName := ⟨RX6, "seed", "(I)V"⟩
def dkwX6_seed_0 : List UInt8 := [42, 3, 181, 0, 3, 42, 180, 0, 13, 16, 9, 27, 79, 177]
abbrev dktX6_seed_0 : List UInt8 := dkwX6_seed_0 ++ []
theorem dksX6_seed_0 : cX6_seed.data.toList.drop 0 = dktX6_seed_0 := by decide +kernel
theorem dX6_seed_0 : decode cX6_seed 0 = .ok (.aload_n 0, 1) := dk_42 (dk_at dksX6_seed_0 0 rfl rfl)
theorem dX6_seed_1 : decode cX6_seed 1 = .ok (.iconst 0, 1) := dk_3 (dk_at dksX6_seed_0 1 rfl rfl)
theorem dX6_seed_2 : decode cX6_seed 2 = .ok (.putfield 3, 3) := dk_181 0 3 (dk_at dksX6_seed_0 2 rfl rfl)
theorem dX6_seed_5 : decode cX6_seed 5 = .ok (.aload_n 0, 1) := dk_42 (dk_at dksX6_seed_0 5 rfl rfl)
theorem dX6_seed_6 : decode cX6_seed 6 = .ok (.getfield 13, 3) := dk_180 0 13 (dk_at dksX6_seed_0 6 rfl rfl)
theorem dX6_seed_9 : decode cX6_seed 9 = .ok (.bipush 9, 2) := dk_16 9 (dk_at dksX6_seed_0 9 rfl rfl)
theorem dX6_seed_11 : decode cX6_seed 11 = .ok (.iload_n 1, 1) := dk_27 (dk_at dksX6_seed_0 11 rfl rfl)
theorem dX6_seed_12 : decode cX6_seed 12 = .ok (.iastore, 1) := dk_79 (dk_at dksX6_seed_0 12 rfl rfl)
theorem dX6_seed_13 : decode cX6_seed 13 = .ok (.return_, 1) := dk_177 (dk_at dksX6_seed_0 13 rfl rfl)
abbrev cX6_run : ByteArray := prog_30_method_66_code
def yX6_run : MethodName := ⟨RX6, "run", "(I)I"⟩
def dkwX6_run_4 : List UInt8 := [132, 2, 1, 167, 255, 204, 42, 180, 0, 13, 16, 7, 46, 172]
abbrev dktX6_run_4 : List UInt8 := dkwX6_run_4 ++ []
def dkwX6_run_3 : List UInt8 := [162, 0, 24, 42, 29, 6, 182, 1, 17, 4, 160, 0, 8, 42, 29, 182, 1, 64, 132, 3, 1, 167, 255, 228]
abbrev dktX6_run_3 : List UInt8 := dkwX6_run_3 ++ dktX6_run_4
def dkwX6_run_2 : List UInt8 := [27, 162, 0, 53, 42, 180, 0, 13, 16, 7, 92, 46, 4, 96, 79, 3, 62, 29, 42, 180, 0, 13, 4, 46]
abbrev dktX6_run_2 : List UInt8 := dkwX6_run_2 ++ dktX6_run_3
def dkwX6_run_1 : List UInt8 := [96, 17, 0, 239, 164, 0, 7, 4, 167, 0, 4, 3, 4, 182, 0, 80, 153, 0, 5, 3, 172, 3, 61, 28]
abbrev dktX6_run_1 : List UInt8 := dkwX6_run_1 ++ dktX6_run_2
def dkwX6_run_0 : List UInt8 := [42, 3, 181, 0, 3, 42, 27, 4, 16, 60, 184, 0, 59, 153, 0, 18, 42, 180, 0, 13, 16, 7, 46, 27]
abbrev dktX6_run_0 : List UInt8 := dkwX6_run_0 ++ dktX6_run_1
theorem dksX6_run_0 : cX6_run.data.toList.drop 0 = dktX6_run_0 := by decide +kernel
theorem dksX6_run_1 : cX6_run.data.toList.drop 24 = dktX6_run_1 := dk_seg dksX6_run_0 24 rfl rfl
theorem dksX6_run_2 : cX6_run.data.toList.drop 48 = dktX6_run_2 := dk_seg dksX6_run_1 24 rfl rfl
theorem dksX6_run_3 : cX6_run.data.toList.drop 72 = dktX6_run_3 := dk_seg dksX6_run_2 24 rfl rfl
theorem dksX6_run_4 : cX6_run.data.toList.drop 96 = dktX6_run_4 := dk_seg dksX6_run_3 24 rfl rfl
theorem dX6_run_0 : decode cX6_run 0 = .ok (.aload_n 0, 1) := dk_42 (dk_at dksX6_run_0 0 rfl rfl)
theorem dX6_run_1 : decode cX6_run 1 = .ok (.iconst 0, 1) := dk_3 (dk_at dksX6_run_0 1 rfl rfl)
theorem dX6_run_2 : decode cX6_run 2 = .ok (.putfield 3, 3) := dk_181 0 3 (dk_at dksX6_run_0 2 rfl rfl)
theorem dX6_run_5 : decode cX6_run 5 = .ok (.aload_n 0, 1) := dk_42 (dk_at dksX6_run_0 5 rfl rfl)
theorem dX6_run_6 : decode cX6_run 6 = .ok (.iload_n 1, 1) := dk_27 (dk_at dksX6_run_0 6 rfl rfl)
theorem dX6_run_7 : decode cX6_run 7 = .ok (.iconst 1, 1) := dk_4 (dk_at dksX6_run_0 7 rfl rfl)
theorem dX6_run_8 : decode cX6_run 8 = .ok (.bipush 60, 2) := dk_16 60 (dk_at dksX6_run_0 8 rfl rfl)
theorem dX6_run_10 : decode cX6_run 10 = .ok (.invokestatic 59, 3) := dk_184 0 59 (dk_at dksX6_run_0 10 rfl rfl)
theorem dX6_run_13 : decode cX6_run 13 = .ok (.ifCond .eq 18, 3) := dk_153 0 18 (dk_at dksX6_run_0 13 rfl rfl)
theorem dX6_run_16 : decode cX6_run 16 = .ok (.aload_n 0, 1) := dk_42 (dk_at dksX6_run_0 16 rfl rfl)
theorem dX6_run_17 : decode cX6_run 17 = .ok (.getfield 13, 3) := dk_180 0 13 (dk_at dksX6_run_0 17 rfl rfl)
theorem dX6_run_20 : decode cX6_run 20 = .ok (.bipush 7, 2) := dk_16 7 (dk_at dksX6_run_0 20 rfl rfl)
theorem dX6_run_22 : decode cX6_run 22 = .ok (.iaload, 1) := dk_46 (dk_at dksX6_run_0 22 rfl rfl)
theorem dX6_run_23 : decode cX6_run 23 = .ok (.iload_n 1, 1) := dk_27 (dk_at dksX6_run_0 23 rfl rfl)
theorem dX6_run_24 : decode cX6_run 24 = .ok (.iadd, 1) := dk_96 (dk_at dksX6_run_1 0 rfl rfl)
theorem dX6_run_25 : decode cX6_run 25 = .ok (.sipush 239, 3) := dk_17 0 239 (dk_at dksX6_run_1 1 rfl rfl)
theorem dX6_run_28 : decode cX6_run 28 = .ok (.if_icmp .le 7, 3) := dk_164 0 7 (dk_at dksX6_run_1 4 rfl rfl)
theorem dX6_run_31 : decode cX6_run 31 = .ok (.iconst 1, 1) := dk_4 (dk_at dksX6_run_1 7 rfl rfl)
theorem dX6_run_32 : decode cX6_run 32 = .ok (.goto 4, 3) := dk_167 0 4 (dk_at dksX6_run_1 8 rfl rfl)
theorem dX6_run_35 : decode cX6_run 35 = .ok (.iconst 0, 1) := dk_3 (dk_at dksX6_run_1 11 rfl rfl)
theorem dX6_run_36 : decode cX6_run 36 = .ok (.iconst 1, 1) := dk_4 (dk_at dksX6_run_1 12 rfl rfl)
theorem dX6_run_37 : decode cX6_run 37 = .ok (.invokevirtual 80, 3) := dk_182 0 80 (dk_at dksX6_run_1 13 rfl rfl)
theorem dX6_run_40 : decode cX6_run 40 = .ok (.ifCond .eq 5, 3) := dk_153 0 5 (dk_at dksX6_run_1 16 rfl rfl)
theorem dX6_run_43 : decode cX6_run 43 = .ok (.iconst 0, 1) := dk_3 (dk_at dksX6_run_1 19 rfl rfl)
theorem dX6_run_44 : decode cX6_run 44 = .ok (.ireturn, 1) := dk_172 (dk_at dksX6_run_1 20 rfl rfl)
theorem dX6_run_45 : decode cX6_run 45 = .ok (.iconst 0, 1) := dk_3 (dk_at dksX6_run_1 21 rfl rfl)
theorem dX6_run_46 : decode cX6_run 46 = .ok (.istore_n 2, 1) := dk_61 (dk_at dksX6_run_1 22 rfl rfl)
theorem dX6_run_47 : decode cX6_run 47 = .ok (.iload_n 2, 1) := dk_28 (dk_at dksX6_run_1 23 rfl rfl)
theorem dX6_run_48 : decode cX6_run 48 = .ok (.iload_n 1, 1) := dk_27 (dk_at dksX6_run_2 0 rfl rfl)
theorem dX6_run_49 : decode cX6_run 49 = .ok (.if_icmp .ge 53, 3) := dk_162 0 53 (dk_at dksX6_run_2 1 rfl rfl)
theorem dX6_run_52 : decode cX6_run 52 = .ok (.aload_n 0, 1) := dk_42 (dk_at dksX6_run_2 4 rfl rfl)
theorem dX6_run_53 : decode cX6_run 53 = .ok (.getfield 13, 3) := dk_180 0 13 (dk_at dksX6_run_2 5 rfl rfl)
theorem dX6_run_56 : decode cX6_run 56 = .ok (.bipush 7, 2) := dk_16 7 (dk_at dksX6_run_2 8 rfl rfl)
theorem dX6_run_58 : decode cX6_run 58 = .ok (.dup2, 1) := dk_92 (dk_at dksX6_run_2 10 rfl rfl)
theorem dX6_run_59 : decode cX6_run 59 = .ok (.iaload, 1) := dk_46 (dk_at dksX6_run_2 11 rfl rfl)
theorem dX6_run_60 : decode cX6_run 60 = .ok (.iconst 1, 1) := dk_4 (dk_at dksX6_run_2 12 rfl rfl)
theorem dX6_run_61 : decode cX6_run 61 = .ok (.iadd, 1) := dk_96 (dk_at dksX6_run_2 13 rfl rfl)
theorem dX6_run_62 : decode cX6_run 62 = .ok (.iastore, 1) := dk_79 (dk_at dksX6_run_2 14 rfl rfl)
theorem dX6_run_63 : decode cX6_run 63 = .ok (.iconst 0, 1) := dk_3 (dk_at dksX6_run_2 15 rfl rfl)
theorem dX6_run_64 : decode cX6_run 64 = .ok (.istore_n 3, 1) := dk_62 (dk_at dksX6_run_2 16 rfl rfl)
theorem dX6_run_65 : decode cX6_run 65 = .ok (.iload_n 3, 1) := dk_29 (dk_at dksX6_run_2 17 rfl rfl)
theorem dX6_run_66 : decode cX6_run 66 = .ok (.aload_n 0, 1) := dk_42 (dk_at dksX6_run_2 18 rfl rfl)
theorem dX6_run_67 : decode cX6_run 67 = .ok (.getfield 13, 3) := dk_180 0 13 (dk_at dksX6_run_2 19 rfl rfl)
theorem dX6_run_70 : decode cX6_run 70 = .ok (.iconst 1, 1) := dk_4 (dk_at dksX6_run_2 22 rfl rfl)
theorem dX6_run_71 : decode cX6_run 71 = .ok (.iaload, 1) := dk_46 (dk_at dksX6_run_2 23 rfl rfl)
theorem dX6_run_72 : decode cX6_run 72 = .ok (.if_icmp .ge 24, 3) := dk_162 0 24 (dk_at dksX6_run_3 0 rfl rfl)
theorem dX6_run_75 : decode cX6_run 75 = .ok (.aload_n 0, 1) := dk_42 (dk_at dksX6_run_3 3 rfl rfl)
theorem dX6_run_76 : decode cX6_run 76 = .ok (.iload_n 3, 1) := dk_29 (dk_at dksX6_run_3 4 rfl rfl)
theorem dX6_run_77 : decode cX6_run 77 = .ok (.iconst 3, 1) := dk_6 (dk_at dksX6_run_3 5 rfl rfl)
theorem dX6_run_78 : decode cX6_run 78 = .ok (.invokevirtual 273, 3) := dk_182 1 17 (dk_at dksX6_run_3 6 rfl rfl)
theorem dX6_run_81 : decode cX6_run 81 = .ok (.iconst 1, 1) := dk_4 (dk_at dksX6_run_3 9 rfl rfl)
theorem dX6_run_82 : decode cX6_run 82 = .ok (.if_icmp .ne 8, 3) := dk_160 0 8 (dk_at dksX6_run_3 10 rfl rfl)
theorem dX6_run_85 : decode cX6_run 85 = .ok (.aload_n 0, 1) := dk_42 (dk_at dksX6_run_3 13 rfl rfl)
theorem dX6_run_86 : decode cX6_run 86 = .ok (.iload_n 3, 1) := dk_29 (dk_at dksX6_run_3 14 rfl rfl)
theorem dX6_run_87 : decode cX6_run 87 = .ok (.invokevirtual 320, 3) := dk_182 1 64 (dk_at dksX6_run_3 15 rfl rfl)
theorem dX6_run_90 : decode cX6_run 90 = .ok (.iinc 3 1, 3) := dk_132 3 1 (dk_at dksX6_run_3 18 rfl rfl)
theorem dX6_run_93 : decode cX6_run 93 = .ok (.goto (-28), 3) := dk_167 255 228 (dk_at dksX6_run_3 21 rfl rfl)
theorem dX6_run_96 : decode cX6_run 96 = .ok (.iinc 2 1, 3) := dk_132 2 1 (dk_at dksX6_run_4 0 rfl rfl)
theorem dX6_run_99 : decode cX6_run 99 = .ok (.goto (-52), 3) := dk_167 255 204 (dk_at dksX6_run_4 3 rfl rfl)
theorem dX6_run_102 : decode cX6_run 102 = .ok (.aload_n 0, 1) := dk_42 (dk_at dksX6_run_4 6 rfl rfl)
theorem dX6_run_103 : decode cX6_run 103 = .ok (.getfield 13, 3) := dk_180 0 13 (dk_at dksX6_run_4 7 rfl rfl)
theorem dX6_run_106 : decode cX6_run 106 = .ok (.bipush 7, 2) := dk_16 7 (dk_at dksX6_run_4 10 rfl rfl)
theorem dX6_run_108 : decode cX6_run 108 = .ok (.iaload, 1) := dk_46 (dk_at dksX6_run_4 12 rfl rfl)
theorem dX6_run_109 : decode cX6_run 109 = .ok (.ireturn, 1) := dk_172 (dk_at dksX6_run_4 13 rfl rfl)
abbrev cX6_acts : ByteArray := prog_30_method_65_code
def yX6_acts : MethodName := ⟨RX6, "acts", "(I)V"⟩
def dkwX6_acts_4 : List UInt8 := [3, 2, 182, 1, 23, 177]
abbrev dktX6_acts_4 : List UInt8 := dkwX6_acts_4 ++ []
def dkwX6_acts_3 : List UInt8 := [167, 0, 4, 3, 182, 1, 60, 28, 6, 160, 0, 8, 42, 27, 182, 1, 43, 28, 7, 160, 0, 10, 42, 27]
abbrev dktX6_acts_3 : List UInt8 := dkwX6_acts_3 ++ dktX6_acts_4
def dkwX6_acts_2 : List UInt8 := [27, 182, 1, 57, 28, 4, 159, 0, 8, 28, 5, 160, 0, 18, 42, 27, 28, 4, 160, 0, 7, 4]
abbrev dktX6_acts_2 : List UInt8 := dkwX6_acts_2 ++ dktX6_acts_3
def dkwX6_acts_1 : List UInt8 := [182, 1, 33, 100, 184, 0, 73, 184, 0, 69, 182, 1, 23, 42, 27, 182, 1, 54, 61, 28, 154, 0, 8, 42]
abbrev dktX6_acts_1 : List UInt8 := dkwX6_acts_1 ++ dktX6_acts_2
def dkwX6_acts_0 : List UInt8 := [42, 27, 5, 3, 16, 9, 42, 27, 5, 182, 1, 17, 42, 27, 4, 6, 182, 1, 33, 96, 42, 27, 3, 5]
abbrev dktX6_acts_0 : List UInt8 := dkwX6_acts_0 ++ dktX6_acts_1
theorem dksX6_acts_0 : cX6_acts.data.toList.drop 0 = dktX6_acts_0 := by decide +kernel
theorem dksX6_acts_1 : cX6_acts.data.toList.drop 24 = dktX6_acts_1 := dk_seg dksX6_acts_0 24 rfl rfl
theorem dksX6_acts_2 : cX6_acts.data.toList.drop 48 = dktX6_acts_2 := dk_seg dksX6_acts_1 24 rfl rfl
theorem dksX6_acts_3 : cX6_acts.data.toList.drop 70 = dktX6_acts_3 := dk_seg dksX6_acts_2 22 rfl rfl
theorem dksX6_acts_4 : cX6_acts.data.toList.drop 94 = dktX6_acts_4 := dk_seg dksX6_acts_3 24 rfl rfl
theorem dX6_acts_0 : decode cX6_acts 0 = .ok (.aload_n 0, 1) := dk_42 (dk_at dksX6_acts_0 0 rfl rfl)
theorem dX6_acts_1 : decode cX6_acts 1 = .ok (.iload_n 1, 1) := dk_27 (dk_at dksX6_acts_0 1 rfl rfl)
theorem dX6_acts_2 : decode cX6_acts 2 = .ok (.iconst 2, 1) := dk_5 (dk_at dksX6_acts_0 2 rfl rfl)
theorem dX6_acts_3 : decode cX6_acts 3 = .ok (.iconst 0, 1) := dk_3 (dk_at dksX6_acts_0 3 rfl rfl)
theorem dX6_acts_4 : decode cX6_acts 4 = .ok (.bipush 9, 2) := dk_16 9 (dk_at dksX6_acts_0 4 rfl rfl)
theorem dX6_acts_6 : decode cX6_acts 6 = .ok (.aload_n 0, 1) := dk_42 (dk_at dksX6_acts_0 6 rfl rfl)
theorem dX6_acts_7 : decode cX6_acts 7 = .ok (.iload_n 1, 1) := dk_27 (dk_at dksX6_acts_0 7 rfl rfl)
theorem dX6_acts_8 : decode cX6_acts 8 = .ok (.iconst 2, 1) := dk_5 (dk_at dksX6_acts_0 8 rfl rfl)
theorem dX6_acts_9 : decode cX6_acts 9 = .ok (.invokevirtual 273, 3) := dk_182 1 17 (dk_at dksX6_acts_0 9 rfl rfl)
theorem dX6_acts_12 : decode cX6_acts 12 = .ok (.aload_n 0, 1) := dk_42 (dk_at dksX6_acts_0 12 rfl rfl)
theorem dX6_acts_13 : decode cX6_acts 13 = .ok (.iload_n 1, 1) := dk_27 (dk_at dksX6_acts_0 13 rfl rfl)
theorem dX6_acts_14 : decode cX6_acts 14 = .ok (.iconst 1, 1) := dk_4 (dk_at dksX6_acts_0 14 rfl rfl)
theorem dX6_acts_15 : decode cX6_acts 15 = .ok (.iconst 3, 1) := dk_6 (dk_at dksX6_acts_0 15 rfl rfl)
theorem dX6_acts_16 : decode cX6_acts 16 = .ok (.invokevirtual 289, 3) := dk_182 1 33 (dk_at dksX6_acts_0 16 rfl rfl)
theorem dX6_acts_19 : decode cX6_acts 19 = .ok (.iadd, 1) := dk_96 (dk_at dksX6_acts_0 19 rfl rfl)
theorem dX6_acts_20 : decode cX6_acts 20 = .ok (.aload_n 0, 1) := dk_42 (dk_at dksX6_acts_0 20 rfl rfl)
theorem dX6_acts_21 : decode cX6_acts 21 = .ok (.iload_n 1, 1) := dk_27 (dk_at dksX6_acts_0 21 rfl rfl)
theorem dX6_acts_22 : decode cX6_acts 22 = .ok (.iconst 0, 1) := dk_3 (dk_at dksX6_acts_0 22 rfl rfl)
theorem dX6_acts_23 : decode cX6_acts 23 = .ok (.iconst 2, 1) := dk_5 (dk_at dksX6_acts_0 23 rfl rfl)
theorem dX6_acts_24 : decode cX6_acts 24 = .ok (.invokevirtual 289, 3) := dk_182 1 33 (dk_at dksX6_acts_1 0 rfl rfl)
theorem dX6_acts_27 : decode cX6_acts 27 = .ok (.isub, 1) := dk_100 (dk_at dksX6_acts_1 3 rfl rfl)
theorem dX6_acts_28 : decode cX6_acts 28 = .ok (.invokestatic 73, 3) := dk_184 0 73 (dk_at dksX6_acts_1 4 rfl rfl)
theorem dX6_acts_31 : decode cX6_acts 31 = .ok (.invokestatic 69, 3) := dk_184 0 69 (dk_at dksX6_acts_1 7 rfl rfl)
theorem dX6_acts_34 : decode cX6_acts 34 = .ok (.invokevirtual 279, 3) := dk_182 1 23 (dk_at dksX6_acts_1 10 rfl rfl)
theorem dX6_acts_37 : decode cX6_acts 37 = .ok (.aload_n 0, 1) := dk_42 (dk_at dksX6_acts_1 13 rfl rfl)
theorem dX6_acts_38 : decode cX6_acts 38 = .ok (.iload_n 1, 1) := dk_27 (dk_at dksX6_acts_1 14 rfl rfl)
theorem dX6_acts_39 : decode cX6_acts 39 = .ok (.invokevirtual 310, 3) := dk_182 1 54 (dk_at dksX6_acts_1 15 rfl rfl)
theorem dX6_acts_42 : decode cX6_acts 42 = .ok (.istore_n 2, 1) := dk_61 (dk_at dksX6_acts_1 18 rfl rfl)
theorem dX6_acts_43 : decode cX6_acts 43 = .ok (.iload_n 2, 1) := dk_28 (dk_at dksX6_acts_1 19 rfl rfl)
theorem dX6_acts_44 : decode cX6_acts 44 = .ok (.ifCond .ne 8, 3) := dk_154 0 8 (dk_at dksX6_acts_1 20 rfl rfl)
theorem dX6_acts_47 : decode cX6_acts 47 = .ok (.aload_n 0, 1) := dk_42 (dk_at dksX6_acts_1 23 rfl rfl)
theorem dX6_acts_48 : decode cX6_acts 48 = .ok (.iload_n 1, 1) := dk_27 (dk_at dksX6_acts_2 0 rfl rfl)
theorem dX6_acts_49 : decode cX6_acts 49 = .ok (.invokevirtual 313, 3) := dk_182 1 57 (dk_at dksX6_acts_2 1 rfl rfl)
theorem dX6_acts_52 : decode cX6_acts 52 = .ok (.iload_n 2, 1) := dk_28 (dk_at dksX6_acts_2 4 rfl rfl)
theorem dX6_acts_53 : decode cX6_acts 53 = .ok (.iconst 1, 1) := dk_4 (dk_at dksX6_acts_2 5 rfl rfl)
theorem dX6_acts_54 : decode cX6_acts 54 = .ok (.if_icmp .eq 8, 3) := dk_159 0 8 (dk_at dksX6_acts_2 6 rfl rfl)
theorem dX6_acts_57 : decode cX6_acts 57 = .ok (.iload_n 2, 1) := dk_28 (dk_at dksX6_acts_2 9 rfl rfl)
theorem dX6_acts_58 : decode cX6_acts 58 = .ok (.iconst 2, 1) := dk_5 (dk_at dksX6_acts_2 10 rfl rfl)
theorem dX6_acts_59 : decode cX6_acts 59 = .ok (.if_icmp .ne 18, 3) := dk_160 0 18 (dk_at dksX6_acts_2 11 rfl rfl)
theorem dX6_acts_62 : decode cX6_acts 62 = .ok (.aload_n 0, 1) := dk_42 (dk_at dksX6_acts_2 14 rfl rfl)
theorem dX6_acts_63 : decode cX6_acts 63 = .ok (.iload_n 1, 1) := dk_27 (dk_at dksX6_acts_2 15 rfl rfl)
theorem dX6_acts_64 : decode cX6_acts 64 = .ok (.iload_n 2, 1) := dk_28 (dk_at dksX6_acts_2 16 rfl rfl)
theorem dX6_acts_65 : decode cX6_acts 65 = .ok (.iconst 1, 1) := dk_4 (dk_at dksX6_acts_2 17 rfl rfl)
theorem dX6_acts_66 : decode cX6_acts 66 = .ok (.if_icmp .ne 7, 3) := dk_160 0 7 (dk_at dksX6_acts_2 18 rfl rfl)
theorem dX6_acts_69 : decode cX6_acts 69 = .ok (.iconst 1, 1) := dk_4 (dk_at dksX6_acts_2 21 rfl rfl)
theorem dX6_acts_70 : decode cX6_acts 70 = .ok (.goto 4, 3) := dk_167 0 4 (dk_at dksX6_acts_3 0 rfl rfl)
theorem dX6_acts_73 : decode cX6_acts 73 = .ok (.iconst 0, 1) := dk_3 (dk_at dksX6_acts_3 3 rfl rfl)
theorem dX6_acts_74 : decode cX6_acts 74 = .ok (.invokevirtual 316, 3) := dk_182 1 60 (dk_at dksX6_acts_3 4 rfl rfl)
theorem dX6_acts_77 : decode cX6_acts 77 = .ok (.iload_n 2, 1) := dk_28 (dk_at dksX6_acts_3 7 rfl rfl)
theorem dX6_acts_78 : decode cX6_acts 78 = .ok (.iconst 3, 1) := dk_6 (dk_at dksX6_acts_3 8 rfl rfl)
theorem dX6_acts_79 : decode cX6_acts 79 = .ok (.if_icmp .ne 8, 3) := dk_160 0 8 (dk_at dksX6_acts_3 9 rfl rfl)
theorem dX6_acts_82 : decode cX6_acts 82 = .ok (.aload_n 0, 1) := dk_42 (dk_at dksX6_acts_3 12 rfl rfl)
theorem dX6_acts_83 : decode cX6_acts 83 = .ok (.iload_n 1, 1) := dk_27 (dk_at dksX6_acts_3 13 rfl rfl)
theorem dX6_acts_84 : decode cX6_acts 84 = .ok (.invokevirtual 299, 3) := dk_182 1 43 (dk_at dksX6_acts_3 14 rfl rfl)
theorem dX6_acts_87 : decode cX6_acts 87 = .ok (.iload_n 2, 1) := dk_28 (dk_at dksX6_acts_3 17 rfl rfl)
theorem dX6_acts_88 : decode cX6_acts 88 = .ok (.iconst 4, 1) := dk_7 (dk_at dksX6_acts_3 18 rfl rfl)
theorem dX6_acts_89 : decode cX6_acts 89 = .ok (.if_icmp .ne 10, 3) := dk_160 0 10 (dk_at dksX6_acts_3 19 rfl rfl)
theorem dX6_acts_92 : decode cX6_acts 92 = .ok (.aload_n 0, 1) := dk_42 (dk_at dksX6_acts_3 22 rfl rfl)
theorem dX6_acts_93 : decode cX6_acts 93 = .ok (.iload_n 1, 1) := dk_27 (dk_at dksX6_acts_3 23 rfl rfl)
theorem dX6_acts_94 : decode cX6_acts 94 = .ok (.iconst 0, 1) := dk_3 (dk_at dksX6_acts_4 0 rfl rfl)
theorem dX6_acts_95 : decode cX6_acts 95 = .ok (.iconst (-1), 1) := dk_2 (dk_at dksX6_acts_4 1 rfl rfl)
theorem dX6_acts_96 : decode cX6_acts 96 = .ok (.invokevirtual 279, 3) := dk_182 1 23 (dk_at dksX6_acts_4 2 rfl rfl)
theorem dX6_acts_99 : decode cX6_acts 99 = .ok (.return_, 1) := dk_177 (dk_at dksX6_acts_4 5 rfl rfl)
abbrev cX6_sortOf : ByteArray := prog_30_method_64_code
def yX6_sortOf : MethodName := ⟨RX6, "sortOf", "(I)I"⟩
def dkwX6_sortOf_9 : List UInt8 := [46, 172, 132, 4, 1, 167, 255, 217, 6, 172]
abbrev dktX6_sortOf_9 : List UInt8 := dkwX6_sortOf_9 ++ []
def dkwX6_sortOf_8 : List UInt8 := [46, 162, 0, 31, 42, 28, 21, 4, 182, 1, 51, 153, 0, 15, 42, 180, 0, 13, 28, 21, 4, 184, 0, 229]
abbrev dktX6_sortOf_8 : List UInt8 := dkwX6_sortOf_8 ++ dktX6_sortOf_9
def dkwX6_sortOf_7 : List UInt8 := [154, 0, 7, 4, 167, 0, 4, 3, 181, 1, 11, 3, 54, 4, 21, 4, 42, 180, 0, 13, 28, 184, 0, 144]
abbrev dktX6_sortOf_7 : List UInt8 := dkwX6_sortOf_7 ++ dktX6_sortOf_8
def dkwX6_sortOf_6 : List UInt8 := [180, 0, 30, 8, 46, 158, 0, 7, 4, 167, 0, 4, 3, 181, 1, 8, 42, 42, 180, 0, 30, 4, 46]
abbrev dktX6_sortOf_6 : List UInt8 := dkwX6_sortOf_6 ++ dktX6_sortOf_7
def dkwX6_sortOf_5 : List UInt8 := [16, 99, 167, 0, 18, 42, 27, 4, 182, 1, 17, 42, 29, 4, 182, 1, 17, 184, 0, 90, 79, 42, 42]
abbrev dktX6_sortOf_5 : List UInt8 := dkwX6_sortOf_5 ++ dktX6_sortOf_6
def dkwX6_sortOf_4 : List UInt8 := [79, 42, 27, 4, 42, 27, 4, 182, 1, 17, 182, 1, 37, 62, 42, 180, 0, 30, 16, 6, 29, 156, 0, 8]
abbrev dktX6_sortOf_4 : List UInt8 := dkwX6_sortOf_4 ++ dktX6_sortOf_5
def dkwX6_sortOf_3 : List UInt8 := [180, 0, 13, 16, 13, 42, 27, 4, 182, 1, 17, 96, 46, 79, 42, 180, 0, 30, 8, 42, 27, 182, 1, 40]
abbrev dktX6_sortOf_3 : List UInt8 := dkwX6_sortOf_3 ++ dktX6_sortOf_4
def dkwX6_sortOf_2 : List UInt8 := [5, 182, 1, 17, 79, 42, 180, 0, 30, 6, 42, 180, 0, 13, 16, 7, 46, 79, 42, 180, 0, 30, 7, 42]
abbrev dktX6_sortOf_2 : List UInt8 := dkwX6_sortOf_2 ++ dktX6_sortOf_3
def dkwX6_sortOf_1 : List UInt8 := [182, 1, 33, 79, 42, 180, 0, 30, 4, 42, 27, 3, 5, 182, 1, 33, 79, 42, 180, 0, 30, 5, 42, 27]
abbrev dktX6_sortOf_1 : List UInt8 := dkwX6_sortOf_1 ++ dktX6_sortOf_2
def dkwX6_sortOf_0 : List UInt8 := [42, 27, 8, 182, 1, 17, 61, 28, 156, 0, 5, 6, 172, 42, 180, 0, 30, 3, 42, 27, 4, 6]
abbrev dktX6_sortOf_0 : List UInt8 := dkwX6_sortOf_0 ++ dktX6_sortOf_1
theorem dksX6_sortOf_0 : cX6_sortOf.data.toList.drop 0 = dktX6_sortOf_0 := by decide +kernel
theorem dksX6_sortOf_1 : cX6_sortOf.data.toList.drop 22 = dktX6_sortOf_1 := dk_seg dksX6_sortOf_0 22 rfl rfl
theorem dksX6_sortOf_2 : cX6_sortOf.data.toList.drop 46 = dktX6_sortOf_2 := dk_seg dksX6_sortOf_1 24 rfl rfl
theorem dksX6_sortOf_3 : cX6_sortOf.data.toList.drop 70 = dktX6_sortOf_3 := dk_seg dksX6_sortOf_2 24 rfl rfl
theorem dksX6_sortOf_4 : cX6_sortOf.data.toList.drop 94 = dktX6_sortOf_4 := dk_seg dksX6_sortOf_3 24 rfl rfl
theorem dksX6_sortOf_5 : cX6_sortOf.data.toList.drop 118 = dktX6_sortOf_5 := dk_seg dksX6_sortOf_4 24 rfl rfl
theorem dksX6_sortOf_6 : cX6_sortOf.data.toList.drop 141 = dktX6_sortOf_6 := dk_seg dksX6_sortOf_5 23 rfl rfl
theorem dksX6_sortOf_7 : cX6_sortOf.data.toList.drop 164 = dktX6_sortOf_7 := dk_seg dksX6_sortOf_6 23 rfl rfl
theorem dksX6_sortOf_8 : cX6_sortOf.data.toList.drop 188 = dktX6_sortOf_8 := dk_seg dksX6_sortOf_7 24 rfl rfl
theorem dksX6_sortOf_9 : cX6_sortOf.data.toList.drop 212 = dktX6_sortOf_9 := dk_seg dksX6_sortOf_8 24 rfl rfl
theorem dX6_sortOf_0 : decode cX6_sortOf 0 = .ok (.aload_n 0, 1) := dk_42 (dk_at dksX6_sortOf_0 0 rfl rfl)
theorem dX6_sortOf_1 : decode cX6_sortOf 1 = .ok (.iload_n 1, 1) := dk_27 (dk_at dksX6_sortOf_0 1 rfl rfl)
theorem dX6_sortOf_2 : decode cX6_sortOf 2 = .ok (.iconst 5, 1) := dk_8 (dk_at dksX6_sortOf_0 2 rfl rfl)
theorem dX6_sortOf_3 : decode cX6_sortOf 3 = .ok (.invokevirtual 273, 3) := dk_182 1 17 (dk_at dksX6_sortOf_0 3 rfl rfl)
theorem dX6_sortOf_6 : decode cX6_sortOf 6 = .ok (.istore_n 2, 1) := dk_61 (dk_at dksX6_sortOf_0 6 rfl rfl)
theorem dX6_sortOf_7 : decode cX6_sortOf 7 = .ok (.iload_n 2, 1) := dk_28 (dk_at dksX6_sortOf_0 7 rfl rfl)
theorem dX6_sortOf_8 : decode cX6_sortOf 8 = .ok (.ifCond .ge 5, 3) := dk_156 0 5 (dk_at dksX6_sortOf_0 8 rfl rfl)
theorem dX6_sortOf_11 : decode cX6_sortOf 11 = .ok (.iconst 3, 1) := dk_6 (dk_at dksX6_sortOf_0 11 rfl rfl)
theorem dX6_sortOf_12 : decode cX6_sortOf 12 = .ok (.ireturn, 1) := dk_172 (dk_at dksX6_sortOf_0 12 rfl rfl)
theorem dX6_sortOf_13 : decode cX6_sortOf 13 = .ok (.aload_n 0, 1) := dk_42 (dk_at dksX6_sortOf_0 13 rfl rfl)
theorem dX6_sortOf_14 : decode cX6_sortOf 14 = .ok (.getfield 30, 3) := dk_180 0 30 (dk_at dksX6_sortOf_0 14 rfl rfl)
theorem dX6_sortOf_17 : decode cX6_sortOf 17 = .ok (.iconst 0, 1) := dk_3 (dk_at dksX6_sortOf_0 17 rfl rfl)
theorem dX6_sortOf_18 : decode cX6_sortOf 18 = .ok (.aload_n 0, 1) := dk_42 (dk_at dksX6_sortOf_0 18 rfl rfl)
theorem dX6_sortOf_19 : decode cX6_sortOf 19 = .ok (.iload_n 1, 1) := dk_27 (dk_at dksX6_sortOf_0 19 rfl rfl)
theorem dX6_sortOf_20 : decode cX6_sortOf 20 = .ok (.iconst 1, 1) := dk_4 (dk_at dksX6_sortOf_0 20 rfl rfl)
theorem dX6_sortOf_21 : decode cX6_sortOf 21 = .ok (.iconst 3, 1) := dk_6 (dk_at dksX6_sortOf_0 21 rfl rfl)
theorem dX6_sortOf_22 : decode cX6_sortOf 22 = .ok (.invokevirtual 289, 3) := dk_182 1 33 (dk_at dksX6_sortOf_1 0 rfl rfl)
theorem dX6_sortOf_25 : decode cX6_sortOf 25 = .ok (.iastore, 1) := dk_79 (dk_at dksX6_sortOf_1 3 rfl rfl)
theorem dX6_sortOf_26 : decode cX6_sortOf 26 = .ok (.aload_n 0, 1) := dk_42 (dk_at dksX6_sortOf_1 4 rfl rfl)
theorem dX6_sortOf_27 : decode cX6_sortOf 27 = .ok (.getfield 30, 3) := dk_180 0 30 (dk_at dksX6_sortOf_1 5 rfl rfl)
theorem dX6_sortOf_30 : decode cX6_sortOf 30 = .ok (.iconst 1, 1) := dk_4 (dk_at dksX6_sortOf_1 8 rfl rfl)
theorem dX6_sortOf_31 : decode cX6_sortOf 31 = .ok (.aload_n 0, 1) := dk_42 (dk_at dksX6_sortOf_1 9 rfl rfl)
theorem dX6_sortOf_32 : decode cX6_sortOf 32 = .ok (.iload_n 1, 1) := dk_27 (dk_at dksX6_sortOf_1 10 rfl rfl)
theorem dX6_sortOf_33 : decode cX6_sortOf 33 = .ok (.iconst 0, 1) := dk_3 (dk_at dksX6_sortOf_1 11 rfl rfl)
theorem dX6_sortOf_34 : decode cX6_sortOf 34 = .ok (.iconst 2, 1) := dk_5 (dk_at dksX6_sortOf_1 12 rfl rfl)
theorem dX6_sortOf_35 : decode cX6_sortOf 35 = .ok (.invokevirtual 289, 3) := dk_182 1 33 (dk_at dksX6_sortOf_1 13 rfl rfl)
theorem dX6_sortOf_38 : decode cX6_sortOf 38 = .ok (.iastore, 1) := dk_79 (dk_at dksX6_sortOf_1 16 rfl rfl)
theorem dX6_sortOf_39 : decode cX6_sortOf 39 = .ok (.aload_n 0, 1) := dk_42 (dk_at dksX6_sortOf_1 17 rfl rfl)
theorem dX6_sortOf_40 : decode cX6_sortOf 40 = .ok (.getfield 30, 3) := dk_180 0 30 (dk_at dksX6_sortOf_1 18 rfl rfl)
theorem dX6_sortOf_43 : decode cX6_sortOf 43 = .ok (.iconst 2, 1) := dk_5 (dk_at dksX6_sortOf_1 21 rfl rfl)
theorem dX6_sortOf_44 : decode cX6_sortOf 44 = .ok (.aload_n 0, 1) := dk_42 (dk_at dksX6_sortOf_1 22 rfl rfl)
theorem dX6_sortOf_45 : decode cX6_sortOf 45 = .ok (.iload_n 1, 1) := dk_27 (dk_at dksX6_sortOf_1 23 rfl rfl)
theorem dX6_sortOf_46 : decode cX6_sortOf 46 = .ok (.iconst 2, 1) := dk_5 (dk_at dksX6_sortOf_2 0 rfl rfl)
theorem dX6_sortOf_47 : decode cX6_sortOf 47 = .ok (.invokevirtual 273, 3) := dk_182 1 17 (dk_at dksX6_sortOf_2 1 rfl rfl)
theorem dX6_sortOf_50 : decode cX6_sortOf 50 = .ok (.iastore, 1) := dk_79 (dk_at dksX6_sortOf_2 4 rfl rfl)
theorem dX6_sortOf_51 : decode cX6_sortOf 51 = .ok (.aload_n 0, 1) := dk_42 (dk_at dksX6_sortOf_2 5 rfl rfl)
theorem dX6_sortOf_52 : decode cX6_sortOf 52 = .ok (.getfield 30, 3) := dk_180 0 30 (dk_at dksX6_sortOf_2 6 rfl rfl)
theorem dX6_sortOf_55 : decode cX6_sortOf 55 = .ok (.iconst 3, 1) := dk_6 (dk_at dksX6_sortOf_2 9 rfl rfl)
theorem dX6_sortOf_56 : decode cX6_sortOf 56 = .ok (.aload_n 0, 1) := dk_42 (dk_at dksX6_sortOf_2 10 rfl rfl)
theorem dX6_sortOf_57 : decode cX6_sortOf 57 = .ok (.getfield 13, 3) := dk_180 0 13 (dk_at dksX6_sortOf_2 11 rfl rfl)
theorem dX6_sortOf_60 : decode cX6_sortOf 60 = .ok (.bipush 7, 2) := dk_16 7 (dk_at dksX6_sortOf_2 14 rfl rfl)
theorem dX6_sortOf_62 : decode cX6_sortOf 62 = .ok (.iaload, 1) := dk_46 (dk_at dksX6_sortOf_2 16 rfl rfl)
theorem dX6_sortOf_63 : decode cX6_sortOf 63 = .ok (.iastore, 1) := dk_79 (dk_at dksX6_sortOf_2 17 rfl rfl)
theorem dX6_sortOf_64 : decode cX6_sortOf 64 = .ok (.aload_n 0, 1) := dk_42 (dk_at dksX6_sortOf_2 18 rfl rfl)
theorem dX6_sortOf_65 : decode cX6_sortOf 65 = .ok (.getfield 30, 3) := dk_180 0 30 (dk_at dksX6_sortOf_2 19 rfl rfl)
theorem dX6_sortOf_68 : decode cX6_sortOf 68 = .ok (.iconst 4, 1) := dk_7 (dk_at dksX6_sortOf_2 22 rfl rfl)
theorem dX6_sortOf_69 : decode cX6_sortOf 69 = .ok (.aload_n 0, 1) := dk_42 (dk_at dksX6_sortOf_2 23 rfl rfl)
theorem dX6_sortOf_70 : decode cX6_sortOf 70 = .ok (.getfield 13, 3) := dk_180 0 13 (dk_at dksX6_sortOf_3 0 rfl rfl)
theorem dX6_sortOf_73 : decode cX6_sortOf 73 = .ok (.bipush 13, 2) := dk_16 13 (dk_at dksX6_sortOf_3 3 rfl rfl)
theorem dX6_sortOf_75 : decode cX6_sortOf 75 = .ok (.aload_n 0, 1) := dk_42 (dk_at dksX6_sortOf_3 5 rfl rfl)
theorem dX6_sortOf_76 : decode cX6_sortOf 76 = .ok (.iload_n 1, 1) := dk_27 (dk_at dksX6_sortOf_3 6 rfl rfl)
theorem dX6_sortOf_77 : decode cX6_sortOf 77 = .ok (.iconst 1, 1) := dk_4 (dk_at dksX6_sortOf_3 7 rfl rfl)
theorem dX6_sortOf_78 : decode cX6_sortOf 78 = .ok (.invokevirtual 273, 3) := dk_182 1 17 (dk_at dksX6_sortOf_3 8 rfl rfl)
theorem dX6_sortOf_81 : decode cX6_sortOf 81 = .ok (.iadd, 1) := dk_96 (dk_at dksX6_sortOf_3 11 rfl rfl)
theorem dX6_sortOf_82 : decode cX6_sortOf 82 = .ok (.iaload, 1) := dk_46 (dk_at dksX6_sortOf_3 12 rfl rfl)
theorem dX6_sortOf_83 : decode cX6_sortOf 83 = .ok (.iastore, 1) := dk_79 (dk_at dksX6_sortOf_3 13 rfl rfl)
theorem dX6_sortOf_84 : decode cX6_sortOf 84 = .ok (.aload_n 0, 1) := dk_42 (dk_at dksX6_sortOf_3 14 rfl rfl)
theorem dX6_sortOf_85 : decode cX6_sortOf 85 = .ok (.getfield 30, 3) := dk_180 0 30 (dk_at dksX6_sortOf_3 15 rfl rfl)
theorem dX6_sortOf_88 : decode cX6_sortOf 88 = .ok (.iconst 5, 1) := dk_8 (dk_at dksX6_sortOf_3 18 rfl rfl)
theorem dX6_sortOf_89 : decode cX6_sortOf 89 = .ok (.aload_n 0, 1) := dk_42 (dk_at dksX6_sortOf_3 19 rfl rfl)
theorem dX6_sortOf_90 : decode cX6_sortOf 90 = .ok (.iload_n 1, 1) := dk_27 (dk_at dksX6_sortOf_3 20 rfl rfl)
theorem dX6_sortOf_91 : decode cX6_sortOf 91 = .ok (.invokevirtual 296, 3) := dk_182 1 40 (dk_at dksX6_sortOf_3 21 rfl rfl)
theorem dX6_sortOf_94 : decode cX6_sortOf 94 = .ok (.iastore, 1) := dk_79 (dk_at dksX6_sortOf_4 0 rfl rfl)
theorem dX6_sortOf_95 : decode cX6_sortOf 95 = .ok (.aload_n 0, 1) := dk_42 (dk_at dksX6_sortOf_4 1 rfl rfl)
theorem dX6_sortOf_96 : decode cX6_sortOf 96 = .ok (.iload_n 1, 1) := dk_27 (dk_at dksX6_sortOf_4 2 rfl rfl)
theorem dX6_sortOf_97 : decode cX6_sortOf 97 = .ok (.iconst 1, 1) := dk_4 (dk_at dksX6_sortOf_4 3 rfl rfl)
theorem dX6_sortOf_98 : decode cX6_sortOf 98 = .ok (.aload_n 0, 1) := dk_42 (dk_at dksX6_sortOf_4 4 rfl rfl)
theorem dX6_sortOf_99 : decode cX6_sortOf 99 = .ok (.iload_n 1, 1) := dk_27 (dk_at dksX6_sortOf_4 5 rfl rfl)
theorem dX6_sortOf_100 : decode cX6_sortOf 100 = .ok (.iconst 1, 1) := dk_4 (dk_at dksX6_sortOf_4 6 rfl rfl)
theorem dX6_sortOf_101 : decode cX6_sortOf 101 = .ok (.invokevirtual 273, 3) := dk_182 1 17 (dk_at dksX6_sortOf_4 7 rfl rfl)
theorem dX6_sortOf_104 : decode cX6_sortOf 104 = .ok (.invokevirtual 293, 3) := dk_182 1 37 (dk_at dksX6_sortOf_4 10 rfl rfl)
theorem dX6_sortOf_107 : decode cX6_sortOf 107 = .ok (.istore_n 3, 1) := dk_62 (dk_at dksX6_sortOf_4 13 rfl rfl)
theorem dX6_sortOf_108 : decode cX6_sortOf 108 = .ok (.aload_n 0, 1) := dk_42 (dk_at dksX6_sortOf_4 14 rfl rfl)
theorem dX6_sortOf_109 : decode cX6_sortOf 109 = .ok (.getfield 30, 3) := dk_180 0 30 (dk_at dksX6_sortOf_4 15 rfl rfl)
theorem dX6_sortOf_112 : decode cX6_sortOf 112 = .ok (.bipush 6, 2) := dk_16 6 (dk_at dksX6_sortOf_4 18 rfl rfl)
theorem dX6_sortOf_114 : decode cX6_sortOf 114 = .ok (.iload_n 3, 1) := dk_29 (dk_at dksX6_sortOf_4 20 rfl rfl)
theorem dX6_sortOf_115 : decode cX6_sortOf 115 = .ok (.ifCond .ge 8, 3) := dk_156 0 8 (dk_at dksX6_sortOf_4 21 rfl rfl)
theorem dX6_sortOf_118 : decode cX6_sortOf 118 = .ok (.bipush 99, 2) := dk_16 99 (dk_at dksX6_sortOf_5 0 rfl rfl)
theorem dX6_sortOf_120 : decode cX6_sortOf 120 = .ok (.goto 18, 3) := dk_167 0 18 (dk_at dksX6_sortOf_5 2 rfl rfl)
theorem dX6_sortOf_123 : decode cX6_sortOf 123 = .ok (.aload_n 0, 1) := dk_42 (dk_at dksX6_sortOf_5 5 rfl rfl)
theorem dX6_sortOf_124 : decode cX6_sortOf 124 = .ok (.iload_n 1, 1) := dk_27 (dk_at dksX6_sortOf_5 6 rfl rfl)
theorem dX6_sortOf_125 : decode cX6_sortOf 125 = .ok (.iconst 1, 1) := dk_4 (dk_at dksX6_sortOf_5 7 rfl rfl)
theorem dX6_sortOf_126 : decode cX6_sortOf 126 = .ok (.invokevirtual 273, 3) := dk_182 1 17 (dk_at dksX6_sortOf_5 8 rfl rfl)
theorem dX6_sortOf_129 : decode cX6_sortOf 129 = .ok (.aload_n 0, 1) := dk_42 (dk_at dksX6_sortOf_5 11 rfl rfl)
theorem dX6_sortOf_130 : decode cX6_sortOf 130 = .ok (.iload_n 3, 1) := dk_29 (dk_at dksX6_sortOf_5 12 rfl rfl)
theorem dX6_sortOf_131 : decode cX6_sortOf 131 = .ok (.iconst 1, 1) := dk_4 (dk_at dksX6_sortOf_5 13 rfl rfl)
theorem dX6_sortOf_132 : decode cX6_sortOf 132 = .ok (.invokevirtual 273, 3) := dk_182 1 17 (dk_at dksX6_sortOf_5 14 rfl rfl)
theorem dX6_sortOf_135 : decode cX6_sortOf 135 = .ok (.invokestatic 90, 3) := dk_184 0 90 (dk_at dksX6_sortOf_5 17 rfl rfl)
theorem dX6_sortOf_138 : decode cX6_sortOf 138 = .ok (.iastore, 1) := dk_79 (dk_at dksX6_sortOf_5 20 rfl rfl)
theorem dX6_sortOf_139 : decode cX6_sortOf 139 = .ok (.aload_n 0, 1) := dk_42 (dk_at dksX6_sortOf_5 21 rfl rfl)
theorem dX6_sortOf_140 : decode cX6_sortOf 140 = .ok (.aload_n 0, 1) := dk_42 (dk_at dksX6_sortOf_5 22 rfl rfl)
theorem dX6_sortOf_141 : decode cX6_sortOf 141 = .ok (.getfield 30, 3) := dk_180 0 30 (dk_at dksX6_sortOf_6 0 rfl rfl)
theorem dX6_sortOf_144 : decode cX6_sortOf 144 = .ok (.iconst 5, 1) := dk_8 (dk_at dksX6_sortOf_6 3 rfl rfl)
theorem dX6_sortOf_145 : decode cX6_sortOf 145 = .ok (.iaload, 1) := dk_46 (dk_at dksX6_sortOf_6 4 rfl rfl)
theorem dX6_sortOf_146 : decode cX6_sortOf 146 = .ok (.ifCond .le 7, 3) := dk_158 0 7 (dk_at dksX6_sortOf_6 5 rfl rfl)
theorem dX6_sortOf_149 : decode cX6_sortOf 149 = .ok (.iconst 1, 1) := dk_4 (dk_at dksX6_sortOf_6 8 rfl rfl)
theorem dX6_sortOf_150 : decode cX6_sortOf 150 = .ok (.goto 4, 3) := dk_167 0 4 (dk_at dksX6_sortOf_6 9 rfl rfl)
theorem dX6_sortOf_153 : decode cX6_sortOf 153 = .ok (.iconst 0, 1) := dk_3 (dk_at dksX6_sortOf_6 12 rfl rfl)
theorem dX6_sortOf_154 : decode cX6_sortOf 154 = .ok (.putfield 264, 3) := dk_181 1 8 (dk_at dksX6_sortOf_6 13 rfl rfl)
theorem dX6_sortOf_157 : decode cX6_sortOf 157 = .ok (.aload_n 0, 1) := dk_42 (dk_at dksX6_sortOf_6 16 rfl rfl)
theorem dX6_sortOf_158 : decode cX6_sortOf 158 = .ok (.aload_n 0, 1) := dk_42 (dk_at dksX6_sortOf_6 17 rfl rfl)
theorem dX6_sortOf_159 : decode cX6_sortOf 159 = .ok (.getfield 30, 3) := dk_180 0 30 (dk_at dksX6_sortOf_6 18 rfl rfl)
theorem dX6_sortOf_162 : decode cX6_sortOf 162 = .ok (.iconst 1, 1) := dk_4 (dk_at dksX6_sortOf_6 21 rfl rfl)
theorem dX6_sortOf_163 : decode cX6_sortOf 163 = .ok (.iaload, 1) := dk_46 (dk_at dksX6_sortOf_6 22 rfl rfl)
theorem dX6_sortOf_164 : decode cX6_sortOf 164 = .ok (.ifCond .ne 7, 3) := dk_154 0 7 (dk_at dksX6_sortOf_7 0 rfl rfl)
theorem dX6_sortOf_167 : decode cX6_sortOf 167 = .ok (.iconst 1, 1) := dk_4 (dk_at dksX6_sortOf_7 3 rfl rfl)
theorem dX6_sortOf_168 : decode cX6_sortOf 168 = .ok (.goto 4, 3) := dk_167 0 4 (dk_at dksX6_sortOf_7 4 rfl rfl)
theorem dX6_sortOf_171 : decode cX6_sortOf 171 = .ok (.iconst 0, 1) := dk_3 (dk_at dksX6_sortOf_7 7 rfl rfl)
theorem dX6_sortOf_172 : decode cX6_sortOf 172 = .ok (.putfield 267, 3) := dk_181 1 11 (dk_at dksX6_sortOf_7 8 rfl rfl)
theorem dX6_sortOf_175 : decode cX6_sortOf 175 = .ok (.iconst 0, 1) := dk_3 (dk_at dksX6_sortOf_7 11 rfl rfl)
theorem dX6_sortOf_176 : decode cX6_sortOf 176 = .ok (.istore 4, 2) := dk_54 4 (dk_at dksX6_sortOf_7 12 rfl rfl)
theorem dX6_sortOf_178 : decode cX6_sortOf 178 = .ok (.iload 4, 2) := dk_21 4 (dk_at dksX6_sortOf_7 14 rfl rfl)
theorem dX6_sortOf_180 : decode cX6_sortOf 180 = .ok (.aload_n 0, 1) := dk_42 (dk_at dksX6_sortOf_7 16 rfl rfl)
theorem dX6_sortOf_181 : decode cX6_sortOf 181 = .ok (.getfield 13, 3) := dk_180 0 13 (dk_at dksX6_sortOf_7 17 rfl rfl)
theorem dX6_sortOf_184 : decode cX6_sortOf 184 = .ok (.iload_n 2, 1) := dk_28 (dk_at dksX6_sortOf_7 20 rfl rfl)
theorem dX6_sortOf_185 : decode cX6_sortOf 185 = .ok (.invokestatic 144, 3) := dk_184 0 144 (dk_at dksX6_sortOf_7 21 rfl rfl)
theorem dX6_sortOf_188 : decode cX6_sortOf 188 = .ok (.iaload, 1) := dk_46 (dk_at dksX6_sortOf_8 0 rfl rfl)
theorem dX6_sortOf_189 : decode cX6_sortOf 189 = .ok (.if_icmp .ge 31, 3) := dk_162 0 31 (dk_at dksX6_sortOf_8 1 rfl rfl)
theorem dX6_sortOf_192 : decode cX6_sortOf 192 = .ok (.aload_n 0, 1) := dk_42 (dk_at dksX6_sortOf_8 4 rfl rfl)
theorem dX6_sortOf_193 : decode cX6_sortOf 193 = .ok (.iload_n 2, 1) := dk_28 (dk_at dksX6_sortOf_8 5 rfl rfl)
theorem dX6_sortOf_194 : decode cX6_sortOf 194 = .ok (.iload 4, 2) := dk_21 4 (dk_at dksX6_sortOf_8 6 rfl rfl)
theorem dX6_sortOf_196 : decode cX6_sortOf 196 = .ok (.invokevirtual 307, 3) := dk_182 1 51 (dk_at dksX6_sortOf_8 8 rfl rfl)
theorem dX6_sortOf_199 : decode cX6_sortOf 199 = .ok (.ifCond .eq 15, 3) := dk_153 0 15 (dk_at dksX6_sortOf_8 11 rfl rfl)
theorem dX6_sortOf_202 : decode cX6_sortOf 202 = .ok (.aload_n 0, 1) := dk_42 (dk_at dksX6_sortOf_8 14 rfl rfl)
theorem dX6_sortOf_203 : decode cX6_sortOf 203 = .ok (.getfield 13, 3) := dk_180 0 13 (dk_at dksX6_sortOf_8 15 rfl rfl)
theorem dX6_sortOf_206 : decode cX6_sortOf 206 = .ok (.iload_n 2, 1) := dk_28 (dk_at dksX6_sortOf_8 18 rfl rfl)
theorem dX6_sortOf_207 : decode cX6_sortOf 207 = .ok (.iload 4, 2) := dk_21 4 (dk_at dksX6_sortOf_8 19 rfl rfl)
theorem dX6_sortOf_209 : decode cX6_sortOf 209 = .ok (.invokestatic 229, 3) := dk_184 0 229 (dk_at dksX6_sortOf_8 21 rfl rfl)
theorem dX6_sortOf_212 : decode cX6_sortOf 212 = .ok (.iaload, 1) := dk_46 (dk_at dksX6_sortOf_9 0 rfl rfl)
theorem dX6_sortOf_213 : decode cX6_sortOf 213 = .ok (.ireturn, 1) := dk_172 (dk_at dksX6_sortOf_9 1 rfl rfl)
theorem dX6_sortOf_214 : decode cX6_sortOf 214 = .ok (.iinc 4 1, 3) := dk_132 4 1 (dk_at dksX6_sortOf_9 2 rfl rfl)
theorem dX6_sortOf_217 : decode cX6_sortOf 217 = .ok (.goto (-39), 3) := dk_167 255 217 (dk_at dksX6_sortOf_9 5 rfl rfl)
theorem dX6_sortOf_220 : decode cX6_sortOf 220 = .ok (.iconst 3, 1) := dk_6 (dk_at dksX6_sortOf_9 8 rfl rfl)
theorem dX6_sortOf_221 : decode cX6_sortOf 221 = .ok (.ireturn, 1) := dk_172 (dk_at dksX6_sortOf_9 9 rfl rfl)
abbrev cX6_roundsOf : ByteArray := prog_30_method_59_code
def yX6_roundsOf : MethodName := ⟨RX6, "roundsOf", "(I)I"⟩
def dkwX6_roundsOf_1 : List UInt8 := [182, 1, 17, 104, 96, 6, 96, 46, 172]
abbrev dktX6_roundsOf_1 : List UInt8 := dkwX6_roundsOf_1 ++ []
def dkwX6_roundsOf_0 : List UInt8 := [42, 27, 3, 182, 1, 17, 156, 0, 7, 3, 167, 0, 22, 42, 180, 0, 13, 17, 1, 13, 7, 42, 27, 3]
abbrev dktX6_roundsOf_0 : List UInt8 := dkwX6_roundsOf_0 ++ dktX6_roundsOf_1
theorem dksX6_roundsOf_0 : cX6_roundsOf.data.toList.drop 0 = dktX6_roundsOf_0 := by decide +kernel
theorem dksX6_roundsOf_1 : cX6_roundsOf.data.toList.drop 24 = dktX6_roundsOf_1 := dk_seg dksX6_roundsOf_0 24 rfl rfl
theorem dX6_roundsOf_0 : decode cX6_roundsOf 0 = .ok (.aload_n 0, 1) := dk_42 (dk_at dksX6_roundsOf_0 0 rfl rfl)
theorem dX6_roundsOf_1 : decode cX6_roundsOf 1 = .ok (.iload_n 1, 1) := dk_27 (dk_at dksX6_roundsOf_0 1 rfl rfl)
theorem dX6_roundsOf_2 : decode cX6_roundsOf 2 = .ok (.iconst 0, 1) := dk_3 (dk_at dksX6_roundsOf_0 2 rfl rfl)
theorem dX6_roundsOf_3 : decode cX6_roundsOf 3 = .ok (.invokevirtual 273, 3) := dk_182 1 17 (dk_at dksX6_roundsOf_0 3 rfl rfl)
theorem dX6_roundsOf_6 : decode cX6_roundsOf 6 = .ok (.ifCond .ge 7, 3) := dk_156 0 7 (dk_at dksX6_roundsOf_0 6 rfl rfl)
theorem dX6_roundsOf_9 : decode cX6_roundsOf 9 = .ok (.iconst 0, 1) := dk_3 (dk_at dksX6_roundsOf_0 9 rfl rfl)
theorem dX6_roundsOf_10 : decode cX6_roundsOf 10 = .ok (.goto 22, 3) := dk_167 0 22 (dk_at dksX6_roundsOf_0 10 rfl rfl)
theorem dX6_roundsOf_13 : decode cX6_roundsOf 13 = .ok (.aload_n 0, 1) := dk_42 (dk_at dksX6_roundsOf_0 13 rfl rfl)
theorem dX6_roundsOf_14 : decode cX6_roundsOf 14 = .ok (.getfield 13, 3) := dk_180 0 13 (dk_at dksX6_roundsOf_0 14 rfl rfl)
theorem dX6_roundsOf_17 : decode cX6_roundsOf 17 = .ok (.sipush 269, 3) := dk_17 1 13 (dk_at dksX6_roundsOf_0 17 rfl rfl)
theorem dX6_roundsOf_20 : decode cX6_roundsOf 20 = .ok (.iconst 4, 1) := dk_7 (dk_at dksX6_roundsOf_0 20 rfl rfl)
theorem dX6_roundsOf_21 : decode cX6_roundsOf 21 = .ok (.aload_n 0, 1) := dk_42 (dk_at dksX6_roundsOf_0 21 rfl rfl)
theorem dX6_roundsOf_22 : decode cX6_roundsOf 22 = .ok (.iload_n 1, 1) := dk_27 (dk_at dksX6_roundsOf_0 22 rfl rfl)
theorem dX6_roundsOf_23 : decode cX6_roundsOf 23 = .ok (.iconst 0, 1) := dk_3 (dk_at dksX6_roundsOf_0 23 rfl rfl)
theorem dX6_roundsOf_24 : decode cX6_roundsOf 24 = .ok (.invokevirtual 273, 3) := dk_182 1 17 (dk_at dksX6_roundsOf_1 0 rfl rfl)
theorem dX6_roundsOf_27 : decode cX6_roundsOf 27 = .ok (.imul, 1) := dk_104 (dk_at dksX6_roundsOf_1 3 rfl rfl)
theorem dX6_roundsOf_28 : decode cX6_roundsOf 28 = .ok (.iadd, 1) := dk_96 (dk_at dksX6_roundsOf_1 4 rfl rfl)
theorem dX6_roundsOf_29 : decode cX6_roundsOf 29 = .ok (.iconst 3, 1) := dk_6 (dk_at dksX6_roundsOf_1 5 rfl rfl)
theorem dX6_roundsOf_30 : decode cX6_roundsOf 30 = .ok (.iadd, 1) := dk_96 (dk_at dksX6_roundsOf_1 6 rfl rfl)
theorem dX6_roundsOf_31 : decode cX6_roundsOf 31 = .ok (.iaload, 1) := dk_46 (dk_at dksX6_roundsOf_1 7 rfl rfl)
theorem dX6_roundsOf_32 : decode cX6_roundsOf 32 = .ok (.ireturn, 1) := dk_172 (dk_at dksX6_roundsOf_1 8 rfl rfl)
abbrev cX6_nearestTo : ByteArray := prog_30_method_56_code
def yX6_nearestTo : MethodName := ⟨RX6, "nearestTo", "(IZI)I"⟩
def dkwX6_nearestTo_3 : List UInt8 := [184, 0, 90, 162, 0, 7, 21, 5, 54, 4, 132, 5, 1, 167, 255, 181, 21, 4, 172]
abbrev dktX6_nearestTo_3 : List UInt8 := dkwX6_nearestTo_3 ++ []
def dkwX6_nearestTo_2 : List UInt8 := [155, 0, 28, 29, 42, 21, 5, 4, 182, 1, 17, 184, 0, 90, 29, 42, 21, 4, 4, 182, 1, 17]
abbrev dktX6_nearestTo_2 : List UInt8 := dkwX6_nearestTo_2 ++ dktX6_nearestTo_3
def dkwX6_nearestTo_1 : List UInt8 := [21, 5, 182, 1, 27, 153, 0, 50, 167, 0, 13, 42, 27, 21, 5, 182, 1, 30, 153, 0, 37, 21, 4]
abbrev dktX6_nearestTo_1 : List UInt8 := dkwX6_nearestTo_1 ++ dktX6_nearestTo_2
def dkwX6_nearestTo_0 : List UInt8 := [2, 54, 4, 3, 54, 5, 21, 5, 42, 180, 0, 13, 4, 46, 162, 0, 70, 28, 153, 0, 16, 42, 27]
abbrev dktX6_nearestTo_0 : List UInt8 := dkwX6_nearestTo_0 ++ dktX6_nearestTo_1
theorem dksX6_nearestTo_0 : cX6_nearestTo.data.toList.drop 0 = dktX6_nearestTo_0 := by decide +kernel
theorem dksX6_nearestTo_1 : cX6_nearestTo.data.toList.drop 23 = dktX6_nearestTo_1 := dk_seg dksX6_nearestTo_0 23 rfl rfl
theorem dksX6_nearestTo_2 : cX6_nearestTo.data.toList.drop 46 = dktX6_nearestTo_2 := dk_seg dksX6_nearestTo_1 23 rfl rfl
theorem dksX6_nearestTo_3 : cX6_nearestTo.data.toList.drop 68 = dktX6_nearestTo_3 := dk_seg dksX6_nearestTo_2 22 rfl rfl
theorem dX6_nearestTo_0 : decode cX6_nearestTo 0 = .ok (.iconst (-1), 1) := dk_2 (dk_at dksX6_nearestTo_0 0 rfl rfl)
theorem dX6_nearestTo_1 : decode cX6_nearestTo 1 = .ok (.istore 4, 2) := dk_54 4 (dk_at dksX6_nearestTo_0 1 rfl rfl)
theorem dX6_nearestTo_3 : decode cX6_nearestTo 3 = .ok (.iconst 0, 1) := dk_3 (dk_at dksX6_nearestTo_0 3 rfl rfl)
theorem dX6_nearestTo_4 : decode cX6_nearestTo 4 = .ok (.istore 5, 2) := dk_54 5 (dk_at dksX6_nearestTo_0 4 rfl rfl)
theorem dX6_nearestTo_6 : decode cX6_nearestTo 6 = .ok (.iload 5, 2) := dk_21 5 (dk_at dksX6_nearestTo_0 6 rfl rfl)
theorem dX6_nearestTo_8 : decode cX6_nearestTo 8 = .ok (.aload_n 0, 1) := dk_42 (dk_at dksX6_nearestTo_0 8 rfl rfl)
theorem dX6_nearestTo_9 : decode cX6_nearestTo 9 = .ok (.getfield 13, 3) := dk_180 0 13 (dk_at dksX6_nearestTo_0 9 rfl rfl)
theorem dX6_nearestTo_12 : decode cX6_nearestTo 12 = .ok (.iconst 1, 1) := dk_4 (dk_at dksX6_nearestTo_0 12 rfl rfl)
theorem dX6_nearestTo_13 : decode cX6_nearestTo 13 = .ok (.iaload, 1) := dk_46 (dk_at dksX6_nearestTo_0 13 rfl rfl)
theorem dX6_nearestTo_14 : decode cX6_nearestTo 14 = .ok (.if_icmp .ge 70, 3) := dk_162 0 70 (dk_at dksX6_nearestTo_0 14 rfl rfl)
theorem dX6_nearestTo_17 : decode cX6_nearestTo 17 = .ok (.iload_n 2, 1) := dk_28 (dk_at dksX6_nearestTo_0 17 rfl rfl)
theorem dX6_nearestTo_18 : decode cX6_nearestTo 18 = .ok (.ifCond .eq 16, 3) := dk_153 0 16 (dk_at dksX6_nearestTo_0 18 rfl rfl)
theorem dX6_nearestTo_21 : decode cX6_nearestTo 21 = .ok (.aload_n 0, 1) := dk_42 (dk_at dksX6_nearestTo_0 21 rfl rfl)
theorem dX6_nearestTo_22 : decode cX6_nearestTo 22 = .ok (.iload_n 1, 1) := dk_27 (dk_at dksX6_nearestTo_0 22 rfl rfl)
theorem dX6_nearestTo_23 : decode cX6_nearestTo 23 = .ok (.iload 5, 2) := dk_21 5 (dk_at dksX6_nearestTo_1 0 rfl rfl)
theorem dX6_nearestTo_25 : decode cX6_nearestTo 25 = .ok (.invokevirtual 283, 3) := dk_182 1 27 (dk_at dksX6_nearestTo_1 2 rfl rfl)
theorem dX6_nearestTo_28 : decode cX6_nearestTo 28 = .ok (.ifCond .eq 50, 3) := dk_153 0 50 (dk_at dksX6_nearestTo_1 5 rfl rfl)
theorem dX6_nearestTo_31 : decode cX6_nearestTo 31 = .ok (.goto 13, 3) := dk_167 0 13 (dk_at dksX6_nearestTo_1 8 rfl rfl)
theorem dX6_nearestTo_34 : decode cX6_nearestTo 34 = .ok (.aload_n 0, 1) := dk_42 (dk_at dksX6_nearestTo_1 11 rfl rfl)
theorem dX6_nearestTo_35 : decode cX6_nearestTo 35 = .ok (.iload_n 1, 1) := dk_27 (dk_at dksX6_nearestTo_1 12 rfl rfl)
theorem dX6_nearestTo_36 : decode cX6_nearestTo 36 = .ok (.iload 5, 2) := dk_21 5 (dk_at dksX6_nearestTo_1 13 rfl rfl)
theorem dX6_nearestTo_38 : decode cX6_nearestTo 38 = .ok (.invokevirtual 286, 3) := dk_182 1 30 (dk_at dksX6_nearestTo_1 15 rfl rfl)
theorem dX6_nearestTo_41 : decode cX6_nearestTo 41 = .ok (.ifCond .eq 37, 3) := dk_153 0 37 (dk_at dksX6_nearestTo_1 18 rfl rfl)
theorem dX6_nearestTo_44 : decode cX6_nearestTo 44 = .ok (.iload 4, 2) := dk_21 4 (dk_at dksX6_nearestTo_1 21 rfl rfl)
theorem dX6_nearestTo_46 : decode cX6_nearestTo 46 = .ok (.ifCond .lt 28, 3) := dk_155 0 28 (dk_at dksX6_nearestTo_2 0 rfl rfl)
theorem dX6_nearestTo_49 : decode cX6_nearestTo 49 = .ok (.iload_n 3, 1) := dk_29 (dk_at dksX6_nearestTo_2 3 rfl rfl)
theorem dX6_nearestTo_50 : decode cX6_nearestTo 50 = .ok (.aload_n 0, 1) := dk_42 (dk_at dksX6_nearestTo_2 4 rfl rfl)
theorem dX6_nearestTo_51 : decode cX6_nearestTo 51 = .ok (.iload 5, 2) := dk_21 5 (dk_at dksX6_nearestTo_2 5 rfl rfl)
theorem dX6_nearestTo_53 : decode cX6_nearestTo 53 = .ok (.iconst 1, 1) := dk_4 (dk_at dksX6_nearestTo_2 7 rfl rfl)
theorem dX6_nearestTo_54 : decode cX6_nearestTo 54 = .ok (.invokevirtual 273, 3) := dk_182 1 17 (dk_at dksX6_nearestTo_2 8 rfl rfl)
theorem dX6_nearestTo_57 : decode cX6_nearestTo 57 = .ok (.invokestatic 90, 3) := dk_184 0 90 (dk_at dksX6_nearestTo_2 11 rfl rfl)
theorem dX6_nearestTo_60 : decode cX6_nearestTo 60 = .ok (.iload_n 3, 1) := dk_29 (dk_at dksX6_nearestTo_2 14 rfl rfl)
theorem dX6_nearestTo_61 : decode cX6_nearestTo 61 = .ok (.aload_n 0, 1) := dk_42 (dk_at dksX6_nearestTo_2 15 rfl rfl)
theorem dX6_nearestTo_62 : decode cX6_nearestTo 62 = .ok (.iload 4, 2) := dk_21 4 (dk_at dksX6_nearestTo_2 16 rfl rfl)
theorem dX6_nearestTo_64 : decode cX6_nearestTo 64 = .ok (.iconst 1, 1) := dk_4 (dk_at dksX6_nearestTo_2 18 rfl rfl)
theorem dX6_nearestTo_65 : decode cX6_nearestTo 65 = .ok (.invokevirtual 273, 3) := dk_182 1 17 (dk_at dksX6_nearestTo_2 19 rfl rfl)
theorem dX6_nearestTo_68 : decode cX6_nearestTo 68 = .ok (.invokestatic 90, 3) := dk_184 0 90 (dk_at dksX6_nearestTo_3 0 rfl rfl)
theorem dX6_nearestTo_71 : decode cX6_nearestTo 71 = .ok (.if_icmp .ge 7, 3) := dk_162 0 7 (dk_at dksX6_nearestTo_3 3 rfl rfl)
theorem dX6_nearestTo_74 : decode cX6_nearestTo 74 = .ok (.iload 5, 2) := dk_21 5 (dk_at dksX6_nearestTo_3 6 rfl rfl)
theorem dX6_nearestTo_76 : decode cX6_nearestTo 76 = .ok (.istore 4, 2) := dk_54 4 (dk_at dksX6_nearestTo_3 8 rfl rfl)
theorem dX6_nearestTo_78 : decode cX6_nearestTo 78 = .ok (.iinc 5 1, 3) := dk_132 5 1 (dk_at dksX6_nearestTo_3 10 rfl rfl)
theorem dX6_nearestTo_81 : decode cX6_nearestTo 81 = .ok (.goto (-75), 3) := dk_167 255 181 (dk_at dksX6_nearestTo_3 13 rfl rfl)
theorem dX6_nearestTo_84 : decode cX6_nearestTo 84 = .ok (.iload 4, 2) := dk_21 4 (dk_at dksX6_nearestTo_3 16 rfl rfl)
theorem dX6_nearestTo_86 : decode cX6_nearestTo 86 = .ok (.ireturn, 1) := dk_172 (dk_at dksX6_nearestTo_3 18 rfl rfl)
abbrev cX6_holdsLine : ByteArray := prog_30_method_49_code
def yX6_holdsLine : MethodName := ⟨RX6, "holdsLine", "(II)Z"⟩
def dkwX6_holdsLine_16 : List UInt8 := [160, 0, 7, 4, 167, 0, 4, 3, 172]
abbrev dktX6_holdsLine_16 : List UInt8 := dkwX6_holdsLine_16 ++ []
def dkwX6_holdsLine_15 : List UInt8 := [4, 167, 0, 4, 3, 79, 132, 5, 1, 167, 254, 173, 29, 153, 0, 13, 42, 180, 0, 33, 3, 46, 4]
abbrev dktX6_holdsLine_15 : List UInt8 := dkwX6_holdsLine_15 ++ dktX6_holdsLine_16
def dkwX6_holdsLine_14 : List UInt8 := [96, 167, 0, 28, 21, 6, 16, 11, 160, 0, 11, 21, 8, 21, 9, 104, 167, 0, 13, 21, 10, 153, 0, 7]
abbrev dktX6_holdsLine_14 : List UInt8 := dkwX6_holdsLine_14 ++ dktX6_holdsLine_15
def dkwX6_holdsLine_13 : List UInt8 := [167, 0, 4, 3, 54, 10, 42, 180, 0, 33, 29, 4, 100, 21, 6, 16, 12, 160, 0, 11, 21, 8, 21, 9]
abbrev dktX6_holdsLine_13 : List UInt8 := dkwX6_holdsLine_13 ++ dktX6_holdsLine_14
def dkwX6_holdsLine_12 : List UInt8 := [96, 5, 160, 0, 7, 4, 167, 0, 20, 3, 167, 0, 16, 21, 8, 21, 9, 96, 158, 0, 7, 4]
abbrev dktX6_holdsLine_12 : List UInt8 := dkwX6_holdsLine_12 ++ dktX6_holdsLine_13
def dkwX6_holdsLine_11 : List UInt8 := [21, 9, 164, 0, 7, 4, 167, 0, 44, 3, 167, 0, 40, 21, 6, 16, 16, 160, 0, 20, 21, 8, 21, 9]
abbrev dktX6_holdsLine_11 : List UInt8 := dkwX6_holdsLine_11 ++ dktX6_holdsLine_12
def dkwX6_holdsLine_10 : List UInt8 := [21, 8, 21, 9, 162, 0, 7, 4, 167, 0, 66, 3, 167, 0, 62, 21, 6, 16, 14, 160, 0, 18, 21, 8]
abbrev dktX6_holdsLine_10 : List UInt8 := dkwX6_holdsLine_10 ++ dktX6_holdsLine_11
def dkwX6_holdsLine_9 : List UInt8 := [180, 0, 33, 29, 4, 100, 46, 54, 8, 42, 180, 0, 33, 29, 46, 54, 9, 21, 6, 16, 13, 160, 0, 18]
abbrev dktX6_holdsLine_9 : List UInt8 := dkwX6_holdsLine_9 ++ dktX6_holdsLine_10
def dkwX6_holdsLine_8 : List UInt8 := [180, 0, 33, 29, 4, 100, 4, 42, 180, 0, 33, 29, 4, 100, 46, 100, 79, 167, 0, 155, 132, 3, 255, 42]
abbrev dktX6_holdsLine_8 : List UInt8 := dkwX6_holdsLine_8 ++ dktX6_holdsLine_9
def dkwX6_holdsLine_7 : List UInt8 := [153, 0, 7, 4, 167, 0, 4, 3, 79, 132, 3, 1, 167, 0, 183, 21, 6, 16, 15, 160, 0, 24, 42]
abbrev dktX6_holdsLine_7 : List UInt8 := dkwX6_holdsLine_7 ++ dktX6_holdsLine_8
def dkwX6_holdsLine_6 : List UInt8 := [167, 0, 30, 21, 6, 16, 7, 162, 0, 13, 42, 180, 0, 30, 21, 6, 46, 167, 0, 13, 21, 8]
abbrev dktX6_holdsLine_6 : List UInt8 := dkwX6_holdsLine_6 ++ dktX6_holdsLine_7
def dkwX6_holdsLine_5 : List UInt8 := [161, 0, 7, 4, 167, 0, 4, 3, 54, 8, 42, 180, 0, 33, 29, 21, 6, 16, 10, 160, 0, 8, 21, 7]
abbrev dktX6_holdsLine_5 : List UInt8 := dkwX6_holdsLine_5 ++ dktX6_holdsLine_6
def dkwX6_holdsLine_4 : List UInt8 := [167, 0, 31, 21, 6, 16, 8, 160, 0, 10, 42, 180, 1, 11, 167, 0, 17, 42, 180, 1, 14, 21, 7]
abbrev dktX6_holdsLine_4 : List UInt8 := dkwX6_holdsLine_4 ++ dktX6_holdsLine_5
def dkwX6_holdsLine_3 : List UInt8 := [96, 46, 54, 7, 21, 6, 16, 10, 163, 0, 98, 21, 6, 16, 7, 160, 0, 10, 42, 180, 1, 8]
abbrev dktX6_holdsLine_3 : List UInt8 := dkwX6_holdsLine_3 ++ dktX6_holdsLine_4
def dkwX6_holdsLine_2 : List UInt8 := [21, 5, 104, 96, 46, 54, 6, 42, 180, 0, 13, 27, 184, 0, 144, 16, 31, 96, 5, 21, 5, 104, 96, 4]
abbrev dktX6_holdsLine_2 : List UInt8 := dkwX6_holdsLine_2 ++ dktX6_holdsLine_3
def dkwX6_holdsLine_1 : List UInt8 := [180, 0, 13, 21, 4, 5, 96, 46, 162, 1, 75, 42, 180, 0, 13, 27, 184, 0, 144, 16, 31, 96, 5]
abbrev dktX6_holdsLine_1 : List UInt8 := dkwX6_holdsLine_1 ++ dktX6_holdsLine_2
def dkwX6_holdsLine_0 : List UInt8 := [3, 62, 27, 28, 184, 0, 229, 54, 4, 42, 180, 0, 13, 21, 4, 4, 96, 46, 54, 5, 21, 5, 42]
abbrev dktX6_holdsLine_0 : List UInt8 := dkwX6_holdsLine_0 ++ dktX6_holdsLine_1
theorem dksX6_holdsLine_0 : cX6_holdsLine.data.toList.drop 0 = dktX6_holdsLine_0 := by decide +kernel
theorem dksX6_holdsLine_1 : cX6_holdsLine.data.toList.drop 23 = dktX6_holdsLine_1 := dk_seg dksX6_holdsLine_0 23 rfl rfl
theorem dksX6_holdsLine_2 : cX6_holdsLine.data.toList.drop 46 = dktX6_holdsLine_2 := dk_seg dksX6_holdsLine_1 23 rfl rfl
theorem dksX6_holdsLine_3 : cX6_holdsLine.data.toList.drop 70 = dktX6_holdsLine_3 := dk_seg dksX6_holdsLine_2 24 rfl rfl
theorem dksX6_holdsLine_4 : cX6_holdsLine.data.toList.drop 92 = dktX6_holdsLine_4 := dk_seg dksX6_holdsLine_3 22 rfl rfl
theorem dksX6_holdsLine_5 : cX6_holdsLine.data.toList.drop 115 = dktX6_holdsLine_5 := dk_seg dksX6_holdsLine_4 23 rfl rfl
theorem dksX6_holdsLine_6 : cX6_holdsLine.data.toList.drop 139 = dktX6_holdsLine_6 := dk_seg dksX6_holdsLine_5 24 rfl rfl
theorem dksX6_holdsLine_7 : cX6_holdsLine.data.toList.drop 161 = dktX6_holdsLine_7 := dk_seg dksX6_holdsLine_6 22 rfl rfl
theorem dksX6_holdsLine_8 : cX6_holdsLine.data.toList.drop 184 = dktX6_holdsLine_8 := dk_seg dksX6_holdsLine_7 23 rfl rfl
theorem dksX6_holdsLine_9 : cX6_holdsLine.data.toList.drop 208 = dktX6_holdsLine_9 := dk_seg dksX6_holdsLine_8 24 rfl rfl
theorem dksX6_holdsLine_10 : cX6_holdsLine.data.toList.drop 232 = dktX6_holdsLine_10 := dk_seg dksX6_holdsLine_9 24 rfl rfl
theorem dksX6_holdsLine_11 : cX6_holdsLine.data.toList.drop 256 = dktX6_holdsLine_11 := dk_seg dksX6_holdsLine_10 24 rfl rfl
theorem dksX6_holdsLine_12 : cX6_holdsLine.data.toList.drop 280 = dktX6_holdsLine_12 := dk_seg dksX6_holdsLine_11 24 rfl rfl
theorem dksX6_holdsLine_13 : cX6_holdsLine.data.toList.drop 302 = dktX6_holdsLine_13 := dk_seg dksX6_holdsLine_12 22 rfl rfl
theorem dksX6_holdsLine_14 : cX6_holdsLine.data.toList.drop 326 = dktX6_holdsLine_14 := dk_seg dksX6_holdsLine_13 24 rfl rfl
theorem dksX6_holdsLine_15 : cX6_holdsLine.data.toList.drop 350 = dktX6_holdsLine_15 := dk_seg dksX6_holdsLine_14 24 rfl rfl
theorem dksX6_holdsLine_16 : cX6_holdsLine.data.toList.drop 373 = dktX6_holdsLine_16 := dk_seg dksX6_holdsLine_15 23 rfl rfl
theorem dX6_holdsLine_0 : decode cX6_holdsLine 0 = .ok (.iconst 0, 1) := dk_3 (dk_at dksX6_holdsLine_0 0 rfl rfl)
theorem dX6_holdsLine_1 : decode cX6_holdsLine 1 = .ok (.istore_n 3, 1) := dk_62 (dk_at dksX6_holdsLine_0 1 rfl rfl)
theorem dX6_holdsLine_2 : decode cX6_holdsLine 2 = .ok (.iload_n 1, 1) := dk_27 (dk_at dksX6_holdsLine_0 2 rfl rfl)
theorem dX6_holdsLine_3 : decode cX6_holdsLine 3 = .ok (.iload_n 2, 1) := dk_28 (dk_at dksX6_holdsLine_0 3 rfl rfl)
theorem dX6_holdsLine_4 : decode cX6_holdsLine 4 = .ok (.invokestatic 229, 3) := dk_184 0 229 (dk_at dksX6_holdsLine_0 4 rfl rfl)
theorem dX6_holdsLine_7 : decode cX6_holdsLine 7 = .ok (.istore 4, 2) := dk_54 4 (dk_at dksX6_holdsLine_0 7 rfl rfl)
theorem dX6_holdsLine_9 : decode cX6_holdsLine 9 = .ok (.aload_n 0, 1) := dk_42 (dk_at dksX6_holdsLine_0 9 rfl rfl)
theorem dX6_holdsLine_10 : decode cX6_holdsLine 10 = .ok (.getfield 13, 3) := dk_180 0 13 (dk_at dksX6_holdsLine_0 10 rfl rfl)
theorem dX6_holdsLine_13 : decode cX6_holdsLine 13 = .ok (.iload 4, 2) := dk_21 4 (dk_at dksX6_holdsLine_0 13 rfl rfl)
theorem dX6_holdsLine_15 : decode cX6_holdsLine 15 = .ok (.iconst 1, 1) := dk_4 (dk_at dksX6_holdsLine_0 15 rfl rfl)
theorem dX6_holdsLine_16 : decode cX6_holdsLine 16 = .ok (.iadd, 1) := dk_96 (dk_at dksX6_holdsLine_0 16 rfl rfl)
theorem dX6_holdsLine_17 : decode cX6_holdsLine 17 = .ok (.iaload, 1) := dk_46 (dk_at dksX6_holdsLine_0 17 rfl rfl)
theorem dX6_holdsLine_18 : decode cX6_holdsLine 18 = .ok (.istore 5, 2) := dk_54 5 (dk_at dksX6_holdsLine_0 18 rfl rfl)
theorem dX6_holdsLine_20 : decode cX6_holdsLine 20 = .ok (.iload 5, 2) := dk_21 5 (dk_at dksX6_holdsLine_0 20 rfl rfl)
theorem dX6_holdsLine_22 : decode cX6_holdsLine 22 = .ok (.aload_n 0, 1) := dk_42 (dk_at dksX6_holdsLine_0 22 rfl rfl)
theorem dX6_holdsLine_23 : decode cX6_holdsLine 23 = .ok (.getfield 13, 3) := dk_180 0 13 (dk_at dksX6_holdsLine_1 0 rfl rfl)
theorem dX6_holdsLine_26 : decode cX6_holdsLine 26 = .ok (.iload 4, 2) := dk_21 4 (dk_at dksX6_holdsLine_1 3 rfl rfl)
theorem dX6_holdsLine_28 : decode cX6_holdsLine 28 = .ok (.iconst 2, 1) := dk_5 (dk_at dksX6_holdsLine_1 5 rfl rfl)
theorem dX6_holdsLine_29 : decode cX6_holdsLine 29 = .ok (.iadd, 1) := dk_96 (dk_at dksX6_holdsLine_1 6 rfl rfl)
theorem dX6_holdsLine_30 : decode cX6_holdsLine 30 = .ok (.iaload, 1) := dk_46 (dk_at dksX6_holdsLine_1 7 rfl rfl)
theorem dX6_holdsLine_31 : decode cX6_holdsLine 31 = .ok (.if_icmp .ge 331, 3) := dk_162 1 75 (dk_at dksX6_holdsLine_1 8 rfl rfl)
theorem dX6_holdsLine_34 : decode cX6_holdsLine 34 = .ok (.aload_n 0, 1) := dk_42 (dk_at dksX6_holdsLine_1 11 rfl rfl)
theorem dX6_holdsLine_35 : decode cX6_holdsLine 35 = .ok (.getfield 13, 3) := dk_180 0 13 (dk_at dksX6_holdsLine_1 12 rfl rfl)
theorem dX6_holdsLine_38 : decode cX6_holdsLine 38 = .ok (.iload_n 1, 1) := dk_27 (dk_at dksX6_holdsLine_1 15 rfl rfl)
theorem dX6_holdsLine_39 : decode cX6_holdsLine 39 = .ok (.invokestatic 144, 3) := dk_184 0 144 (dk_at dksX6_holdsLine_1 16 rfl rfl)
theorem dX6_holdsLine_42 : decode cX6_holdsLine 42 = .ok (.bipush 31, 2) := dk_16 31 (dk_at dksX6_holdsLine_1 19 rfl rfl)
theorem dX6_holdsLine_44 : decode cX6_holdsLine 44 = .ok (.iadd, 1) := dk_96 (dk_at dksX6_holdsLine_1 21 rfl rfl)
theorem dX6_holdsLine_45 : decode cX6_holdsLine 45 = .ok (.iconst 2, 1) := dk_5 (dk_at dksX6_holdsLine_1 22 rfl rfl)
theorem dX6_holdsLine_46 : decode cX6_holdsLine 46 = .ok (.iload 5, 2) := dk_21 5 (dk_at dksX6_holdsLine_2 0 rfl rfl)
theorem dX6_holdsLine_48 : decode cX6_holdsLine 48 = .ok (.imul, 1) := dk_104 (dk_at dksX6_holdsLine_2 2 rfl rfl)
theorem dX6_holdsLine_49 : decode cX6_holdsLine 49 = .ok (.iadd, 1) := dk_96 (dk_at dksX6_holdsLine_2 3 rfl rfl)
theorem dX6_holdsLine_50 : decode cX6_holdsLine 50 = .ok (.iaload, 1) := dk_46 (dk_at dksX6_holdsLine_2 4 rfl rfl)
theorem dX6_holdsLine_51 : decode cX6_holdsLine 51 = .ok (.istore 6, 2) := dk_54 6 (dk_at dksX6_holdsLine_2 5 rfl rfl)
theorem dX6_holdsLine_53 : decode cX6_holdsLine 53 = .ok (.aload_n 0, 1) := dk_42 (dk_at dksX6_holdsLine_2 7 rfl rfl)
theorem dX6_holdsLine_54 : decode cX6_holdsLine 54 = .ok (.getfield 13, 3) := dk_180 0 13 (dk_at dksX6_holdsLine_2 8 rfl rfl)
theorem dX6_holdsLine_57 : decode cX6_holdsLine 57 = .ok (.iload_n 1, 1) := dk_27 (dk_at dksX6_holdsLine_2 11 rfl rfl)
theorem dX6_holdsLine_58 : decode cX6_holdsLine 58 = .ok (.invokestatic 144, 3) := dk_184 0 144 (dk_at dksX6_holdsLine_2 12 rfl rfl)
theorem dX6_holdsLine_61 : decode cX6_holdsLine 61 = .ok (.bipush 31, 2) := dk_16 31 (dk_at dksX6_holdsLine_2 15 rfl rfl)
theorem dX6_holdsLine_63 : decode cX6_holdsLine 63 = .ok (.iadd, 1) := dk_96 (dk_at dksX6_holdsLine_2 17 rfl rfl)
theorem dX6_holdsLine_64 : decode cX6_holdsLine 64 = .ok (.iconst 2, 1) := dk_5 (dk_at dksX6_holdsLine_2 18 rfl rfl)
theorem dX6_holdsLine_65 : decode cX6_holdsLine 65 = .ok (.iload 5, 2) := dk_21 5 (dk_at dksX6_holdsLine_2 19 rfl rfl)
theorem dX6_holdsLine_67 : decode cX6_holdsLine 67 = .ok (.imul, 1) := dk_104 (dk_at dksX6_holdsLine_2 21 rfl rfl)
theorem dX6_holdsLine_68 : decode cX6_holdsLine 68 = .ok (.iadd, 1) := dk_96 (dk_at dksX6_holdsLine_2 22 rfl rfl)
theorem dX6_holdsLine_69 : decode cX6_holdsLine 69 = .ok (.iconst 1, 1) := dk_4 (dk_at dksX6_holdsLine_2 23 rfl rfl)
theorem dX6_holdsLine_70 : decode cX6_holdsLine 70 = .ok (.iadd, 1) := dk_96 (dk_at dksX6_holdsLine_3 0 rfl rfl)
theorem dX6_holdsLine_71 : decode cX6_holdsLine 71 = .ok (.iaload, 1) := dk_46 (dk_at dksX6_holdsLine_3 1 rfl rfl)
theorem dX6_holdsLine_72 : decode cX6_holdsLine 72 = .ok (.istore 7, 2) := dk_54 7 (dk_at dksX6_holdsLine_3 2 rfl rfl)
theorem dX6_holdsLine_74 : decode cX6_holdsLine 74 = .ok (.iload 6, 2) := dk_21 6 (dk_at dksX6_holdsLine_3 4 rfl rfl)
theorem dX6_holdsLine_76 : decode cX6_holdsLine 76 = .ok (.bipush 10, 2) := dk_16 10 (dk_at dksX6_holdsLine_3 6 rfl rfl)
theorem dX6_holdsLine_78 : decode cX6_holdsLine 78 = .ok (.if_icmp .gt 98, 3) := dk_163 0 98 (dk_at dksX6_holdsLine_3 8 rfl rfl)
theorem dX6_holdsLine_81 : decode cX6_holdsLine 81 = .ok (.iload 6, 2) := dk_21 6 (dk_at dksX6_holdsLine_3 11 rfl rfl)
theorem dX6_holdsLine_83 : decode cX6_holdsLine 83 = .ok (.bipush 7, 2) := dk_16 7 (dk_at dksX6_holdsLine_3 13 rfl rfl)
theorem dX6_holdsLine_85 : decode cX6_holdsLine 85 = .ok (.if_icmp .ne 10, 3) := dk_160 0 10 (dk_at dksX6_holdsLine_3 15 rfl rfl)
theorem dX6_holdsLine_88 : decode cX6_holdsLine 88 = .ok (.aload_n 0, 1) := dk_42 (dk_at dksX6_holdsLine_3 18 rfl rfl)
theorem dX6_holdsLine_89 : decode cX6_holdsLine 89 = .ok (.getfield 264, 3) := dk_180 1 8 (dk_at dksX6_holdsLine_3 19 rfl rfl)
theorem dX6_holdsLine_92 : decode cX6_holdsLine 92 = .ok (.goto 31, 3) := dk_167 0 31 (dk_at dksX6_holdsLine_4 0 rfl rfl)
theorem dX6_holdsLine_95 : decode cX6_holdsLine 95 = .ok (.iload 6, 2) := dk_21 6 (dk_at dksX6_holdsLine_4 3 rfl rfl)
theorem dX6_holdsLine_97 : decode cX6_holdsLine 97 = .ok (.bipush 8, 2) := dk_16 8 (dk_at dksX6_holdsLine_4 5 rfl rfl)
theorem dX6_holdsLine_99 : decode cX6_holdsLine 99 = .ok (.if_icmp .ne 10, 3) := dk_160 0 10 (dk_at dksX6_holdsLine_4 7 rfl rfl)
theorem dX6_holdsLine_102 : decode cX6_holdsLine 102 = .ok (.aload_n 0, 1) := dk_42 (dk_at dksX6_holdsLine_4 10 rfl rfl)
theorem dX6_holdsLine_103 : decode cX6_holdsLine 103 = .ok (.getfield 267, 3) := dk_180 1 11 (dk_at dksX6_holdsLine_4 11 rfl rfl)
theorem dX6_holdsLine_106 : decode cX6_holdsLine 106 = .ok (.goto 17, 3) := dk_167 0 17 (dk_at dksX6_holdsLine_4 14 rfl rfl)
theorem dX6_holdsLine_109 : decode cX6_holdsLine 109 = .ok (.aload_n 0, 1) := dk_42 (dk_at dksX6_holdsLine_4 17 rfl rfl)
theorem dX6_holdsLine_110 : decode cX6_holdsLine 110 = .ok (.getfield 270, 3) := dk_180 1 14 (dk_at dksX6_holdsLine_4 18 rfl rfl)
theorem dX6_holdsLine_113 : decode cX6_holdsLine 113 = .ok (.iload 7, 2) := dk_21 7 (dk_at dksX6_holdsLine_4 21 rfl rfl)
theorem dX6_holdsLine_115 : decode cX6_holdsLine 115 = .ok (.if_icmp .lt 7, 3) := dk_161 0 7 (dk_at dksX6_holdsLine_5 0 rfl rfl)
theorem dX6_holdsLine_118 : decode cX6_holdsLine 118 = .ok (.iconst 1, 1) := dk_4 (dk_at dksX6_holdsLine_5 3 rfl rfl)
theorem dX6_holdsLine_119 : decode cX6_holdsLine 119 = .ok (.goto 4, 3) := dk_167 0 4 (dk_at dksX6_holdsLine_5 4 rfl rfl)
theorem dX6_holdsLine_122 : decode cX6_holdsLine 122 = .ok (.iconst 0, 1) := dk_3 (dk_at dksX6_holdsLine_5 7 rfl rfl)
theorem dX6_holdsLine_123 : decode cX6_holdsLine 123 = .ok (.istore 8, 2) := dk_54 8 (dk_at dksX6_holdsLine_5 8 rfl rfl)
theorem dX6_holdsLine_125 : decode cX6_holdsLine 125 = .ok (.aload_n 0, 1) := dk_42 (dk_at dksX6_holdsLine_5 10 rfl rfl)
theorem dX6_holdsLine_126 : decode cX6_holdsLine 126 = .ok (.getfield 33, 3) := dk_180 0 33 (dk_at dksX6_holdsLine_5 11 rfl rfl)
theorem dX6_holdsLine_129 : decode cX6_holdsLine 129 = .ok (.iload_n 3, 1) := dk_29 (dk_at dksX6_holdsLine_5 14 rfl rfl)
theorem dX6_holdsLine_130 : decode cX6_holdsLine 130 = .ok (.iload 6, 2) := dk_21 6 (dk_at dksX6_holdsLine_5 15 rfl rfl)
theorem dX6_holdsLine_132 : decode cX6_holdsLine 132 = .ok (.bipush 10, 2) := dk_16 10 (dk_at dksX6_holdsLine_5 17 rfl rfl)
theorem dX6_holdsLine_134 : decode cX6_holdsLine 134 = .ok (.if_icmp .ne 8, 3) := dk_160 0 8 (dk_at dksX6_holdsLine_5 19 rfl rfl)
theorem dX6_holdsLine_137 : decode cX6_holdsLine 137 = .ok (.iload 7, 2) := dk_21 7 (dk_at dksX6_holdsLine_5 22 rfl rfl)
theorem dX6_holdsLine_139 : decode cX6_holdsLine 139 = .ok (.goto 30, 3) := dk_167 0 30 (dk_at dksX6_holdsLine_6 0 rfl rfl)
theorem dX6_holdsLine_142 : decode cX6_holdsLine 142 = .ok (.iload 6, 2) := dk_21 6 (dk_at dksX6_holdsLine_6 3 rfl rfl)
theorem dX6_holdsLine_144 : decode cX6_holdsLine 144 = .ok (.bipush 7, 2) := dk_16 7 (dk_at dksX6_holdsLine_6 5 rfl rfl)
theorem dX6_holdsLine_146 : decode cX6_holdsLine 146 = .ok (.if_icmp .ge 13, 3) := dk_162 0 13 (dk_at dksX6_holdsLine_6 7 rfl rfl)
theorem dX6_holdsLine_149 : decode cX6_holdsLine 149 = .ok (.aload_n 0, 1) := dk_42 (dk_at dksX6_holdsLine_6 10 rfl rfl)
theorem dX6_holdsLine_150 : decode cX6_holdsLine 150 = .ok (.getfield 30, 3) := dk_180 0 30 (dk_at dksX6_holdsLine_6 11 rfl rfl)
theorem dX6_holdsLine_153 : decode cX6_holdsLine 153 = .ok (.iload 6, 2) := dk_21 6 (dk_at dksX6_holdsLine_6 14 rfl rfl)
theorem dX6_holdsLine_155 : decode cX6_holdsLine 155 = .ok (.iaload, 1) := dk_46 (dk_at dksX6_holdsLine_6 16 rfl rfl)
theorem dX6_holdsLine_156 : decode cX6_holdsLine 156 = .ok (.goto 13, 3) := dk_167 0 13 (dk_at dksX6_holdsLine_6 17 rfl rfl)
theorem dX6_holdsLine_159 : decode cX6_holdsLine 159 = .ok (.iload 8, 2) := dk_21 8 (dk_at dksX6_holdsLine_6 20 rfl rfl)
theorem dX6_holdsLine_161 : decode cX6_holdsLine 161 = .ok (.ifCond .eq 7, 3) := dk_153 0 7 (dk_at dksX6_holdsLine_7 0 rfl rfl)
theorem dX6_holdsLine_164 : decode cX6_holdsLine 164 = .ok (.iconst 1, 1) := dk_4 (dk_at dksX6_holdsLine_7 3 rfl rfl)
theorem dX6_holdsLine_165 : decode cX6_holdsLine 165 = .ok (.goto 4, 3) := dk_167 0 4 (dk_at dksX6_holdsLine_7 4 rfl rfl)
theorem dX6_holdsLine_168 : decode cX6_holdsLine 168 = .ok (.iconst 0, 1) := dk_3 (dk_at dksX6_holdsLine_7 7 rfl rfl)
theorem dX6_holdsLine_169 : decode cX6_holdsLine 169 = .ok (.iastore, 1) := dk_79 (dk_at dksX6_holdsLine_7 8 rfl rfl)
theorem dX6_holdsLine_170 : decode cX6_holdsLine 170 = .ok (.iinc 3 1, 3) := dk_132 3 1 (dk_at dksX6_holdsLine_7 9 rfl rfl)
theorem dX6_holdsLine_173 : decode cX6_holdsLine 173 = .ok (.goto 183, 3) := dk_167 0 183 (dk_at dksX6_holdsLine_7 12 rfl rfl)
theorem dX6_holdsLine_176 : decode cX6_holdsLine 176 = .ok (.iload 6, 2) := dk_21 6 (dk_at dksX6_holdsLine_7 15 rfl rfl)
theorem dX6_holdsLine_178 : decode cX6_holdsLine 178 = .ok (.bipush 15, 2) := dk_16 15 (dk_at dksX6_holdsLine_7 17 rfl rfl)
theorem dX6_holdsLine_180 : decode cX6_holdsLine 180 = .ok (.if_icmp .ne 24, 3) := dk_160 0 24 (dk_at dksX6_holdsLine_7 19 rfl rfl)
theorem dX6_holdsLine_183 : decode cX6_holdsLine 183 = .ok (.aload_n 0, 1) := dk_42 (dk_at dksX6_holdsLine_7 22 rfl rfl)
theorem dX6_holdsLine_184 : decode cX6_holdsLine 184 = .ok (.getfield 33, 3) := dk_180 0 33 (dk_at dksX6_holdsLine_8 0 rfl rfl)
theorem dX6_holdsLine_187 : decode cX6_holdsLine 187 = .ok (.iload_n 3, 1) := dk_29 (dk_at dksX6_holdsLine_8 3 rfl rfl)
theorem dX6_holdsLine_188 : decode cX6_holdsLine 188 = .ok (.iconst 1, 1) := dk_4 (dk_at dksX6_holdsLine_8 4 rfl rfl)
theorem dX6_holdsLine_189 : decode cX6_holdsLine 189 = .ok (.isub, 1) := dk_100 (dk_at dksX6_holdsLine_8 5 rfl rfl)
theorem dX6_holdsLine_190 : decode cX6_holdsLine 190 = .ok (.iconst 1, 1) := dk_4 (dk_at dksX6_holdsLine_8 6 rfl rfl)
theorem dX6_holdsLine_191 : decode cX6_holdsLine 191 = .ok (.aload_n 0, 1) := dk_42 (dk_at dksX6_holdsLine_8 7 rfl rfl)
theorem dX6_holdsLine_192 : decode cX6_holdsLine 192 = .ok (.getfield 33, 3) := dk_180 0 33 (dk_at dksX6_holdsLine_8 8 rfl rfl)
theorem dX6_holdsLine_195 : decode cX6_holdsLine 195 = .ok (.iload_n 3, 1) := dk_29 (dk_at dksX6_holdsLine_8 11 rfl rfl)
theorem dX6_holdsLine_196 : decode cX6_holdsLine 196 = .ok (.iconst 1, 1) := dk_4 (dk_at dksX6_holdsLine_8 12 rfl rfl)
theorem dX6_holdsLine_197 : decode cX6_holdsLine 197 = .ok (.isub, 1) := dk_100 (dk_at dksX6_holdsLine_8 13 rfl rfl)
theorem dX6_holdsLine_198 : decode cX6_holdsLine 198 = .ok (.iaload, 1) := dk_46 (dk_at dksX6_holdsLine_8 14 rfl rfl)
theorem dX6_holdsLine_199 : decode cX6_holdsLine 199 = .ok (.isub, 1) := dk_100 (dk_at dksX6_holdsLine_8 15 rfl rfl)
theorem dX6_holdsLine_200 : decode cX6_holdsLine 200 = .ok (.iastore, 1) := dk_79 (dk_at dksX6_holdsLine_8 16 rfl rfl)
theorem dX6_holdsLine_201 : decode cX6_holdsLine 201 = .ok (.goto 155, 3) := dk_167 0 155 (dk_at dksX6_holdsLine_8 17 rfl rfl)
theorem dX6_holdsLine_204 : decode cX6_holdsLine 204 = .ok (.iinc 3 (-1), 3) := dk_132 3 255 (dk_at dksX6_holdsLine_8 20 rfl rfl)
theorem dX6_holdsLine_207 : decode cX6_holdsLine 207 = .ok (.aload_n 0, 1) := dk_42 (dk_at dksX6_holdsLine_8 23 rfl rfl)
theorem dX6_holdsLine_208 : decode cX6_holdsLine 208 = .ok (.getfield 33, 3) := dk_180 0 33 (dk_at dksX6_holdsLine_9 0 rfl rfl)
theorem dX6_holdsLine_211 : decode cX6_holdsLine 211 = .ok (.iload_n 3, 1) := dk_29 (dk_at dksX6_holdsLine_9 3 rfl rfl)
theorem dX6_holdsLine_212 : decode cX6_holdsLine 212 = .ok (.iconst 1, 1) := dk_4 (dk_at dksX6_holdsLine_9 4 rfl rfl)
theorem dX6_holdsLine_213 : decode cX6_holdsLine 213 = .ok (.isub, 1) := dk_100 (dk_at dksX6_holdsLine_9 5 rfl rfl)
theorem dX6_holdsLine_214 : decode cX6_holdsLine 214 = .ok (.iaload, 1) := dk_46 (dk_at dksX6_holdsLine_9 6 rfl rfl)
theorem dX6_holdsLine_215 : decode cX6_holdsLine 215 = .ok (.istore 8, 2) := dk_54 8 (dk_at dksX6_holdsLine_9 7 rfl rfl)
theorem dX6_holdsLine_217 : decode cX6_holdsLine 217 = .ok (.aload_n 0, 1) := dk_42 (dk_at dksX6_holdsLine_9 9 rfl rfl)
theorem dX6_holdsLine_218 : decode cX6_holdsLine 218 = .ok (.getfield 33, 3) := dk_180 0 33 (dk_at dksX6_holdsLine_9 10 rfl rfl)
theorem dX6_holdsLine_221 : decode cX6_holdsLine 221 = .ok (.iload_n 3, 1) := dk_29 (dk_at dksX6_holdsLine_9 13 rfl rfl)
theorem dX6_holdsLine_222 : decode cX6_holdsLine 222 = .ok (.iaload, 1) := dk_46 (dk_at dksX6_holdsLine_9 14 rfl rfl)
theorem dX6_holdsLine_223 : decode cX6_holdsLine 223 = .ok (.istore 9, 2) := dk_54 9 (dk_at dksX6_holdsLine_9 15 rfl rfl)
theorem dX6_holdsLine_225 : decode cX6_holdsLine 225 = .ok (.iload 6, 2) := dk_21 6 (dk_at dksX6_holdsLine_9 17 rfl rfl)
theorem dX6_holdsLine_227 : decode cX6_holdsLine 227 = .ok (.bipush 13, 2) := dk_16 13 (dk_at dksX6_holdsLine_9 19 rfl rfl)
theorem dX6_holdsLine_229 : decode cX6_holdsLine 229 = .ok (.if_icmp .ne 18, 3) := dk_160 0 18 (dk_at dksX6_holdsLine_9 21 rfl rfl)
theorem dX6_holdsLine_232 : decode cX6_holdsLine 232 = .ok (.iload 8, 2) := dk_21 8 (dk_at dksX6_holdsLine_10 0 rfl rfl)
theorem dX6_holdsLine_234 : decode cX6_holdsLine 234 = .ok (.iload 9, 2) := dk_21 9 (dk_at dksX6_holdsLine_10 2 rfl rfl)
theorem dX6_holdsLine_236 : decode cX6_holdsLine 236 = .ok (.if_icmp .ge 7, 3) := dk_162 0 7 (dk_at dksX6_holdsLine_10 4 rfl rfl)
theorem dX6_holdsLine_239 : decode cX6_holdsLine 239 = .ok (.iconst 1, 1) := dk_4 (dk_at dksX6_holdsLine_10 7 rfl rfl)
theorem dX6_holdsLine_240 : decode cX6_holdsLine 240 = .ok (.goto 66, 3) := dk_167 0 66 (dk_at dksX6_holdsLine_10 8 rfl rfl)
theorem dX6_holdsLine_243 : decode cX6_holdsLine 243 = .ok (.iconst 0, 1) := dk_3 (dk_at dksX6_holdsLine_10 11 rfl rfl)
theorem dX6_holdsLine_244 : decode cX6_holdsLine 244 = .ok (.goto 62, 3) := dk_167 0 62 (dk_at dksX6_holdsLine_10 12 rfl rfl)
theorem dX6_holdsLine_247 : decode cX6_holdsLine 247 = .ok (.iload 6, 2) := dk_21 6 (dk_at dksX6_holdsLine_10 15 rfl rfl)
theorem dX6_holdsLine_249 : decode cX6_holdsLine 249 = .ok (.bipush 14, 2) := dk_16 14 (dk_at dksX6_holdsLine_10 17 rfl rfl)
theorem dX6_holdsLine_251 : decode cX6_holdsLine 251 = .ok (.if_icmp .ne 18, 3) := dk_160 0 18 (dk_at dksX6_holdsLine_10 19 rfl rfl)
theorem dX6_holdsLine_254 : decode cX6_holdsLine 254 = .ok (.iload 8, 2) := dk_21 8 (dk_at dksX6_holdsLine_10 22 rfl rfl)
theorem dX6_holdsLine_256 : decode cX6_holdsLine 256 = .ok (.iload 9, 2) := dk_21 9 (dk_at dksX6_holdsLine_11 0 rfl rfl)
theorem dX6_holdsLine_258 : decode cX6_holdsLine 258 = .ok (.if_icmp .le 7, 3) := dk_164 0 7 (dk_at dksX6_holdsLine_11 2 rfl rfl)
theorem dX6_holdsLine_261 : decode cX6_holdsLine 261 = .ok (.iconst 1, 1) := dk_4 (dk_at dksX6_holdsLine_11 5 rfl rfl)
theorem dX6_holdsLine_262 : decode cX6_holdsLine 262 = .ok (.goto 44, 3) := dk_167 0 44 (dk_at dksX6_holdsLine_11 6 rfl rfl)
theorem dX6_holdsLine_265 : decode cX6_holdsLine 265 = .ok (.iconst 0, 1) := dk_3 (dk_at dksX6_holdsLine_11 9 rfl rfl)
theorem dX6_holdsLine_266 : decode cX6_holdsLine 266 = .ok (.goto 40, 3) := dk_167 0 40 (dk_at dksX6_holdsLine_11 10 rfl rfl)
theorem dX6_holdsLine_269 : decode cX6_holdsLine 269 = .ok (.iload 6, 2) := dk_21 6 (dk_at dksX6_holdsLine_11 13 rfl rfl)
theorem dX6_holdsLine_271 : decode cX6_holdsLine 271 = .ok (.bipush 16, 2) := dk_16 16 (dk_at dksX6_holdsLine_11 15 rfl rfl)
theorem dX6_holdsLine_273 : decode cX6_holdsLine 273 = .ok (.if_icmp .ne 20, 3) := dk_160 0 20 (dk_at dksX6_holdsLine_11 17 rfl rfl)
theorem dX6_holdsLine_276 : decode cX6_holdsLine 276 = .ok (.iload 8, 2) := dk_21 8 (dk_at dksX6_holdsLine_11 20 rfl rfl)
theorem dX6_holdsLine_278 : decode cX6_holdsLine 278 = .ok (.iload 9, 2) := dk_21 9 (dk_at dksX6_holdsLine_11 22 rfl rfl)
theorem dX6_holdsLine_280 : decode cX6_holdsLine 280 = .ok (.iadd, 1) := dk_96 (dk_at dksX6_holdsLine_12 0 rfl rfl)
theorem dX6_holdsLine_281 : decode cX6_holdsLine 281 = .ok (.iconst 2, 1) := dk_5 (dk_at dksX6_holdsLine_12 1 rfl rfl)
theorem dX6_holdsLine_282 : decode cX6_holdsLine 282 = .ok (.if_icmp .ne 7, 3) := dk_160 0 7 (dk_at dksX6_holdsLine_12 2 rfl rfl)
theorem dX6_holdsLine_285 : decode cX6_holdsLine 285 = .ok (.iconst 1, 1) := dk_4 (dk_at dksX6_holdsLine_12 5 rfl rfl)
theorem dX6_holdsLine_286 : decode cX6_holdsLine 286 = .ok (.goto 20, 3) := dk_167 0 20 (dk_at dksX6_holdsLine_12 6 rfl rfl)
theorem dX6_holdsLine_289 : decode cX6_holdsLine 289 = .ok (.iconst 0, 1) := dk_3 (dk_at dksX6_holdsLine_12 9 rfl rfl)
theorem dX6_holdsLine_290 : decode cX6_holdsLine 290 = .ok (.goto 16, 3) := dk_167 0 16 (dk_at dksX6_holdsLine_12 10 rfl rfl)
theorem dX6_holdsLine_293 : decode cX6_holdsLine 293 = .ok (.iload 8, 2) := dk_21 8 (dk_at dksX6_holdsLine_12 13 rfl rfl)
theorem dX6_holdsLine_295 : decode cX6_holdsLine 295 = .ok (.iload 9, 2) := dk_21 9 (dk_at dksX6_holdsLine_12 15 rfl rfl)
theorem dX6_holdsLine_297 : decode cX6_holdsLine 297 = .ok (.iadd, 1) := dk_96 (dk_at dksX6_holdsLine_12 17 rfl rfl)
theorem dX6_holdsLine_298 : decode cX6_holdsLine 298 = .ok (.ifCond .le 7, 3) := dk_158 0 7 (dk_at dksX6_holdsLine_12 18 rfl rfl)
theorem dX6_holdsLine_301 : decode cX6_holdsLine 301 = .ok (.iconst 1, 1) := dk_4 (dk_at dksX6_holdsLine_12 21 rfl rfl)
theorem dX6_holdsLine_302 : decode cX6_holdsLine 302 = .ok (.goto 4, 3) := dk_167 0 4 (dk_at dksX6_holdsLine_13 0 rfl rfl)
theorem dX6_holdsLine_305 : decode cX6_holdsLine 305 = .ok (.iconst 0, 1) := dk_3 (dk_at dksX6_holdsLine_13 3 rfl rfl)
theorem dX6_holdsLine_306 : decode cX6_holdsLine 306 = .ok (.istore 10, 2) := dk_54 10 (dk_at dksX6_holdsLine_13 4 rfl rfl)
theorem dX6_holdsLine_308 : decode cX6_holdsLine 308 = .ok (.aload_n 0, 1) := dk_42 (dk_at dksX6_holdsLine_13 6 rfl rfl)
theorem dX6_holdsLine_309 : decode cX6_holdsLine 309 = .ok (.getfield 33, 3) := dk_180 0 33 (dk_at dksX6_holdsLine_13 7 rfl rfl)
theorem dX6_holdsLine_312 : decode cX6_holdsLine 312 = .ok (.iload_n 3, 1) := dk_29 (dk_at dksX6_holdsLine_13 10 rfl rfl)
theorem dX6_holdsLine_313 : decode cX6_holdsLine 313 = .ok (.iconst 1, 1) := dk_4 (dk_at dksX6_holdsLine_13 11 rfl rfl)
theorem dX6_holdsLine_314 : decode cX6_holdsLine 314 = .ok (.isub, 1) := dk_100 (dk_at dksX6_holdsLine_13 12 rfl rfl)
theorem dX6_holdsLine_315 : decode cX6_holdsLine 315 = .ok (.iload 6, 2) := dk_21 6 (dk_at dksX6_holdsLine_13 13 rfl rfl)
theorem dX6_holdsLine_317 : decode cX6_holdsLine 317 = .ok (.bipush 12, 2) := dk_16 12 (dk_at dksX6_holdsLine_13 15 rfl rfl)
theorem dX6_holdsLine_319 : decode cX6_holdsLine 319 = .ok (.if_icmp .ne 11, 3) := dk_160 0 11 (dk_at dksX6_holdsLine_13 17 rfl rfl)
theorem dX6_holdsLine_322 : decode cX6_holdsLine 322 = .ok (.iload 8, 2) := dk_21 8 (dk_at dksX6_holdsLine_13 20 rfl rfl)
theorem dX6_holdsLine_324 : decode cX6_holdsLine 324 = .ok (.iload 9, 2) := dk_21 9 (dk_at dksX6_holdsLine_13 22 rfl rfl)
theorem dX6_holdsLine_326 : decode cX6_holdsLine 326 = .ok (.iadd, 1) := dk_96 (dk_at dksX6_holdsLine_14 0 rfl rfl)
theorem dX6_holdsLine_327 : decode cX6_holdsLine 327 = .ok (.goto 28, 3) := dk_167 0 28 (dk_at dksX6_holdsLine_14 1 rfl rfl)
theorem dX6_holdsLine_330 : decode cX6_holdsLine 330 = .ok (.iload 6, 2) := dk_21 6 (dk_at dksX6_holdsLine_14 4 rfl rfl)
theorem dX6_holdsLine_332 : decode cX6_holdsLine 332 = .ok (.bipush 11, 2) := dk_16 11 (dk_at dksX6_holdsLine_14 6 rfl rfl)
theorem dX6_holdsLine_334 : decode cX6_holdsLine 334 = .ok (.if_icmp .ne 11, 3) := dk_160 0 11 (dk_at dksX6_holdsLine_14 8 rfl rfl)
theorem dX6_holdsLine_337 : decode cX6_holdsLine 337 = .ok (.iload 8, 2) := dk_21 8 (dk_at dksX6_holdsLine_14 11 rfl rfl)
theorem dX6_holdsLine_339 : decode cX6_holdsLine 339 = .ok (.iload 9, 2) := dk_21 9 (dk_at dksX6_holdsLine_14 13 rfl rfl)
theorem dX6_holdsLine_341 : decode cX6_holdsLine 341 = .ok (.imul, 1) := dk_104 (dk_at dksX6_holdsLine_14 15 rfl rfl)
theorem dX6_holdsLine_342 : decode cX6_holdsLine 342 = .ok (.goto 13, 3) := dk_167 0 13 (dk_at dksX6_holdsLine_14 16 rfl rfl)
theorem dX6_holdsLine_345 : decode cX6_holdsLine 345 = .ok (.iload 10, 2) := dk_21 10 (dk_at dksX6_holdsLine_14 19 rfl rfl)
theorem dX6_holdsLine_347 : decode cX6_holdsLine 347 = .ok (.ifCond .eq 7, 3) := dk_153 0 7 (dk_at dksX6_holdsLine_14 21 rfl rfl)
theorem dX6_holdsLine_350 : decode cX6_holdsLine 350 = .ok (.iconst 1, 1) := dk_4 (dk_at dksX6_holdsLine_15 0 rfl rfl)
theorem dX6_holdsLine_351 : decode cX6_holdsLine 351 = .ok (.goto 4, 3) := dk_167 0 4 (dk_at dksX6_holdsLine_15 1 rfl rfl)
theorem dX6_holdsLine_354 : decode cX6_holdsLine 354 = .ok (.iconst 0, 1) := dk_3 (dk_at dksX6_holdsLine_15 4 rfl rfl)
theorem dX6_holdsLine_355 : decode cX6_holdsLine 355 = .ok (.iastore, 1) := dk_79 (dk_at dksX6_holdsLine_15 5 rfl rfl)
theorem dX6_holdsLine_356 : decode cX6_holdsLine 356 = .ok (.iinc 5 1, 3) := dk_132 5 1 (dk_at dksX6_holdsLine_15 6 rfl rfl)
theorem dX6_holdsLine_359 : decode cX6_holdsLine 359 = .ok (.goto (-339), 3) := dk_167 254 173 (dk_at dksX6_holdsLine_15 9 rfl rfl)
theorem dX6_holdsLine_362 : decode cX6_holdsLine 362 = .ok (.iload_n 3, 1) := dk_29 (dk_at dksX6_holdsLine_15 12 rfl rfl)
theorem dX6_holdsLine_363 : decode cX6_holdsLine 363 = .ok (.ifCond .eq 13, 3) := dk_153 0 13 (dk_at dksX6_holdsLine_15 13 rfl rfl)
theorem dX6_holdsLine_366 : decode cX6_holdsLine 366 = .ok (.aload_n 0, 1) := dk_42 (dk_at dksX6_holdsLine_15 16 rfl rfl)
theorem dX6_holdsLine_367 : decode cX6_holdsLine 367 = .ok (.getfield 33, 3) := dk_180 0 33 (dk_at dksX6_holdsLine_15 17 rfl rfl)
theorem dX6_holdsLine_370 : decode cX6_holdsLine 370 = .ok (.iconst 0, 1) := dk_3 (dk_at dksX6_holdsLine_15 20 rfl rfl)
theorem dX6_holdsLine_371 : decode cX6_holdsLine 371 = .ok (.iaload, 1) := dk_46 (dk_at dksX6_holdsLine_15 21 rfl rfl)
theorem dX6_holdsLine_372 : decode cX6_holdsLine 372 = .ok (.iconst 1, 1) := dk_4 (dk_at dksX6_holdsLine_15 22 rfl rfl)
theorem dX6_holdsLine_373 : decode cX6_holdsLine 373 = .ok (.if_icmp .ne 7, 3) := dk_160 0 7 (dk_at dksX6_holdsLine_16 0 rfl rfl)
theorem dX6_holdsLine_376 : decode cX6_holdsLine 376 = .ok (.iconst 1, 1) := dk_4 (dk_at dksX6_holdsLine_16 3 rfl rfl)
theorem dX6_holdsLine_377 : decode cX6_holdsLine 377 = .ok (.goto 4, 3) := dk_167 0 4 (dk_at dksX6_holdsLine_16 4 rfl rfl)
theorem dX6_holdsLine_380 : decode cX6_holdsLine 380 = .ok (.iconst 0, 1) := dk_3 (dk_at dksX6_holdsLine_16 7 rfl rfl)
theorem dX6_holdsLine_381 : decode cX6_holdsLine 381 = .ok (.ireturn, 1) := dk_172 (dk_at dksX6_holdsLine_16 8 rfl rfl)
abbrev cX6_shoots : ByteArray := prog_30_method_62_code
def yX6_shoots : MethodName := ⟨RX6, "shoots", "(I)V"⟩
def dkwX6_shoots_8 : List UInt8 := [42, 28, 6, 3, 182, 1, 23, 177]
abbrev dktX6_shoots_8 : List UInt8 := dkwX6_shoots_8 ++ []
def dkwX6_shoots_7 : List UInt8 := [184, 0, 90, 100, 161, 0, 4, 177, 42, 5, 42, 28, 4, 182, 1, 17, 21, 4, 4, 28, 120, 182, 1, 46]
abbrev dktX6_shoots_7 : List UInt8 := dkwX6_shoots_7 ++ dktX6_shoots_8
def dkwX6_shoots_6 : List UInt8 := [16, 16, 122, 17, 127, 255, 126, 16, 12, 112, 16, 10, 42, 27, 4, 182, 1, 17, 42, 28, 4, 182, 1, 17]
abbrev dktX6_shoots_6 : List UInt8 := dkwX6_shoots_6 ++ dktX6_shoots_7
def dkwX6_shoots_5 : List UInt8 := [19, 1, 50, 42, 180, 0, 13, 16, 9, 46, 104, 17, 48, 57, 96, 79, 42, 180, 0, 13, 16, 9, 46]
abbrev dktX6_shoots_5 : List UInt8 := dkwX6_shoots_5 ++ dktX6_shoots_6
def dkwX6_shoots_4 : List UInt8 := [42, 28, 4, 182, 1, 17, 21, 4, 42, 27, 7, 182, 1, 17, 182, 1, 46, 42, 180, 0, 13, 16, 9]
abbrev dktX6_shoots_4 : List UInt8 := dkwX6_shoots_4 ++ dktX6_shoots_5
def dkwX6_shoots_3 : List UInt8 := [3, 42, 27, 4, 182, 1, 17, 21, 4, 4, 42, 180, 0, 13, 29, 4, 96, 46, 120, 182, 1, 46, 42, 4]
abbrev dktX6_shoots_3 : List UInt8 := dkwX6_shoots_3 ++ dktX6_shoots_4
def dkwX6_shoots_2 : List UInt8 := [180, 0, 13, 16, 7, 46, 16, 10, 112, 54, 4, 42, 180, 0, 13, 29, 6, 96, 92, 46, 4, 100, 79, 42]
abbrev dktX6_shoots_2 : List UInt8 := dkwX6_shoots_2 ++ dktX6_shoots_3
def dkwX6_shoots_1 : List UInt8 := [156, 0, 9, 42, 27, 182, 1, 43, 177, 17, 1, 13, 7, 42, 27, 3, 182, 1, 17, 104, 96, 62, 42]
abbrev dktX6_shoots_1 : List UInt8 := dkwX6_shoots_1 ++ dktX6_shoots_2
def dkwX6_shoots_0 : List UInt8 := [42, 27, 4, 42, 27, 4, 182, 1, 17, 182, 1, 37, 61, 42, 27, 182, 1, 40, 153, 0, 7, 28]
abbrev dktX6_shoots_0 : List UInt8 := dkwX6_shoots_0 ++ dktX6_shoots_1
theorem dksX6_shoots_0 : cX6_shoots.data.toList.drop 0 = dktX6_shoots_0 := by decide +kernel
theorem dksX6_shoots_1 : cX6_shoots.data.toList.drop 22 = dktX6_shoots_1 := dk_seg dksX6_shoots_0 22 rfl rfl
theorem dksX6_shoots_2 : cX6_shoots.data.toList.drop 45 = dktX6_shoots_2 := dk_seg dksX6_shoots_1 23 rfl rfl
theorem dksX6_shoots_3 : cX6_shoots.data.toList.drop 69 = dktX6_shoots_3 := dk_seg dksX6_shoots_2 24 rfl rfl
theorem dksX6_shoots_4 : cX6_shoots.data.toList.drop 93 = dktX6_shoots_4 := dk_seg dksX6_shoots_3 24 rfl rfl
theorem dksX6_shoots_5 : cX6_shoots.data.toList.drop 116 = dktX6_shoots_5 := dk_seg dksX6_shoots_4 23 rfl rfl
theorem dksX6_shoots_6 : cX6_shoots.data.toList.drop 139 = dktX6_shoots_6 := dk_seg dksX6_shoots_5 23 rfl rfl
theorem dksX6_shoots_7 : cX6_shoots.data.toList.drop 163 = dktX6_shoots_7 := dk_seg dksX6_shoots_6 24 rfl rfl
theorem dksX6_shoots_8 : cX6_shoots.data.toList.drop 187 = dktX6_shoots_8 := dk_seg dksX6_shoots_7 24 rfl rfl
theorem dX6_shoots_0 : decode cX6_shoots 0 = .ok (.aload_n 0, 1) := dk_42 (dk_at dksX6_shoots_0 0 rfl rfl)
theorem dX6_shoots_1 : decode cX6_shoots 1 = .ok (.iload_n 1, 1) := dk_27 (dk_at dksX6_shoots_0 1 rfl rfl)
theorem dX6_shoots_2 : decode cX6_shoots 2 = .ok (.iconst 1, 1) := dk_4 (dk_at dksX6_shoots_0 2 rfl rfl)
theorem dX6_shoots_3 : decode cX6_shoots 3 = .ok (.aload_n 0, 1) := dk_42 (dk_at dksX6_shoots_0 3 rfl rfl)
theorem dX6_shoots_4 : decode cX6_shoots 4 = .ok (.iload_n 1, 1) := dk_27 (dk_at dksX6_shoots_0 4 rfl rfl)
theorem dX6_shoots_5 : decode cX6_shoots 5 = .ok (.iconst 1, 1) := dk_4 (dk_at dksX6_shoots_0 5 rfl rfl)
theorem dX6_shoots_6 : decode cX6_shoots 6 = .ok (.invokevirtual 273, 3) := dk_182 1 17 (dk_at dksX6_shoots_0 6 rfl rfl)
theorem dX6_shoots_9 : decode cX6_shoots 9 = .ok (.invokevirtual 293, 3) := dk_182 1 37 (dk_at dksX6_shoots_0 9 rfl rfl)
theorem dX6_shoots_12 : decode cX6_shoots 12 = .ok (.istore_n 2, 1) := dk_61 (dk_at dksX6_shoots_0 12 rfl rfl)
theorem dX6_shoots_13 : decode cX6_shoots 13 = .ok (.aload_n 0, 1) := dk_42 (dk_at dksX6_shoots_0 13 rfl rfl)
theorem dX6_shoots_14 : decode cX6_shoots 14 = .ok (.iload_n 1, 1) := dk_27 (dk_at dksX6_shoots_0 14 rfl rfl)
theorem dX6_shoots_15 : decode cX6_shoots 15 = .ok (.invokevirtual 296, 3) := dk_182 1 40 (dk_at dksX6_shoots_0 15 rfl rfl)
theorem dX6_shoots_18 : decode cX6_shoots 18 = .ok (.ifCond .eq 7, 3) := dk_153 0 7 (dk_at dksX6_shoots_0 18 rfl rfl)
theorem dX6_shoots_21 : decode cX6_shoots 21 = .ok (.iload_n 2, 1) := dk_28 (dk_at dksX6_shoots_0 21 rfl rfl)
theorem dX6_shoots_22 : decode cX6_shoots 22 = .ok (.ifCond .ge 9, 3) := dk_156 0 9 (dk_at dksX6_shoots_1 0 rfl rfl)
theorem dX6_shoots_25 : decode cX6_shoots 25 = .ok (.aload_n 0, 1) := dk_42 (dk_at dksX6_shoots_1 3 rfl rfl)
theorem dX6_shoots_26 : decode cX6_shoots 26 = .ok (.iload_n 1, 1) := dk_27 (dk_at dksX6_shoots_1 4 rfl rfl)
theorem dX6_shoots_27 : decode cX6_shoots 27 = .ok (.invokevirtual 299, 3) := dk_182 1 43 (dk_at dksX6_shoots_1 5 rfl rfl)
theorem dX6_shoots_30 : decode cX6_shoots 30 = .ok (.return_, 1) := dk_177 (dk_at dksX6_shoots_1 8 rfl rfl)
theorem dX6_shoots_31 : decode cX6_shoots 31 = .ok (.sipush 269, 3) := dk_17 1 13 (dk_at dksX6_shoots_1 9 rfl rfl)
theorem dX6_shoots_34 : decode cX6_shoots 34 = .ok (.iconst 4, 1) := dk_7 (dk_at dksX6_shoots_1 12 rfl rfl)
theorem dX6_shoots_35 : decode cX6_shoots 35 = .ok (.aload_n 0, 1) := dk_42 (dk_at dksX6_shoots_1 13 rfl rfl)
theorem dX6_shoots_36 : decode cX6_shoots 36 = .ok (.iload_n 1, 1) := dk_27 (dk_at dksX6_shoots_1 14 rfl rfl)
theorem dX6_shoots_37 : decode cX6_shoots 37 = .ok (.iconst 0, 1) := dk_3 (dk_at dksX6_shoots_1 15 rfl rfl)
theorem dX6_shoots_38 : decode cX6_shoots 38 = .ok (.invokevirtual 273, 3) := dk_182 1 17 (dk_at dksX6_shoots_1 16 rfl rfl)
theorem dX6_shoots_41 : decode cX6_shoots 41 = .ok (.imul, 1) := dk_104 (dk_at dksX6_shoots_1 19 rfl rfl)
theorem dX6_shoots_42 : decode cX6_shoots 42 = .ok (.iadd, 1) := dk_96 (dk_at dksX6_shoots_1 20 rfl rfl)
theorem dX6_shoots_43 : decode cX6_shoots 43 = .ok (.istore_n 3, 1) := dk_62 (dk_at dksX6_shoots_1 21 rfl rfl)
theorem dX6_shoots_44 : decode cX6_shoots 44 = .ok (.aload_n 0, 1) := dk_42 (dk_at dksX6_shoots_1 22 rfl rfl)
theorem dX6_shoots_45 : decode cX6_shoots 45 = .ok (.getfield 13, 3) := dk_180 0 13 (dk_at dksX6_shoots_2 0 rfl rfl)
theorem dX6_shoots_48 : decode cX6_shoots 48 = .ok (.bipush 7, 2) := dk_16 7 (dk_at dksX6_shoots_2 3 rfl rfl)
theorem dX6_shoots_50 : decode cX6_shoots 50 = .ok (.iaload, 1) := dk_46 (dk_at dksX6_shoots_2 5 rfl rfl)
theorem dX6_shoots_51 : decode cX6_shoots 51 = .ok (.bipush 10, 2) := dk_16 10 (dk_at dksX6_shoots_2 6 rfl rfl)
theorem dX6_shoots_53 : decode cX6_shoots 53 = .ok (.irem, 1) := dk_112 (dk_at dksX6_shoots_2 8 rfl rfl)
theorem dX6_shoots_54 : decode cX6_shoots 54 = .ok (.istore 4, 2) := dk_54 4 (dk_at dksX6_shoots_2 9 rfl rfl)
theorem dX6_shoots_56 : decode cX6_shoots 56 = .ok (.aload_n 0, 1) := dk_42 (dk_at dksX6_shoots_2 11 rfl rfl)
theorem dX6_shoots_57 : decode cX6_shoots 57 = .ok (.getfield 13, 3) := dk_180 0 13 (dk_at dksX6_shoots_2 12 rfl rfl)
theorem dX6_shoots_60 : decode cX6_shoots 60 = .ok (.iload_n 3, 1) := dk_29 (dk_at dksX6_shoots_2 15 rfl rfl)
theorem dX6_shoots_61 : decode cX6_shoots 61 = .ok (.iconst 3, 1) := dk_6 (dk_at dksX6_shoots_2 16 rfl rfl)
theorem dX6_shoots_62 : decode cX6_shoots 62 = .ok (.iadd, 1) := dk_96 (dk_at dksX6_shoots_2 17 rfl rfl)
theorem dX6_shoots_63 : decode cX6_shoots 63 = .ok (.dup2, 1) := dk_92 (dk_at dksX6_shoots_2 18 rfl rfl)
theorem dX6_shoots_64 : decode cX6_shoots 64 = .ok (.iaload, 1) := dk_46 (dk_at dksX6_shoots_2 19 rfl rfl)
theorem dX6_shoots_65 : decode cX6_shoots 65 = .ok (.iconst 1, 1) := dk_4 (dk_at dksX6_shoots_2 20 rfl rfl)
theorem dX6_shoots_66 : decode cX6_shoots 66 = .ok (.isub, 1) := dk_100 (dk_at dksX6_shoots_2 21 rfl rfl)
theorem dX6_shoots_67 : decode cX6_shoots 67 = .ok (.iastore, 1) := dk_79 (dk_at dksX6_shoots_2 22 rfl rfl)
theorem dX6_shoots_68 : decode cX6_shoots 68 = .ok (.aload_n 0, 1) := dk_42 (dk_at dksX6_shoots_2 23 rfl rfl)
theorem dX6_shoots_69 : decode cX6_shoots 69 = .ok (.iconst 0, 1) := dk_3 (dk_at dksX6_shoots_3 0 rfl rfl)
theorem dX6_shoots_70 : decode cX6_shoots 70 = .ok (.aload_n 0, 1) := dk_42 (dk_at dksX6_shoots_3 1 rfl rfl)
theorem dX6_shoots_71 : decode cX6_shoots 71 = .ok (.iload_n 1, 1) := dk_27 (dk_at dksX6_shoots_3 2 rfl rfl)
theorem dX6_shoots_72 : decode cX6_shoots 72 = .ok (.iconst 1, 1) := dk_4 (dk_at dksX6_shoots_3 3 rfl rfl)
theorem dX6_shoots_73 : decode cX6_shoots 73 = .ok (.invokevirtual 273, 3) := dk_182 1 17 (dk_at dksX6_shoots_3 4 rfl rfl)
theorem dX6_shoots_76 : decode cX6_shoots 76 = .ok (.iload 4, 2) := dk_21 4 (dk_at dksX6_shoots_3 7 rfl rfl)
theorem dX6_shoots_78 : decode cX6_shoots 78 = .ok (.iconst 1, 1) := dk_4 (dk_at dksX6_shoots_3 9 rfl rfl)
theorem dX6_shoots_79 : decode cX6_shoots 79 = .ok (.aload_n 0, 1) := dk_42 (dk_at dksX6_shoots_3 10 rfl rfl)
theorem dX6_shoots_80 : decode cX6_shoots 80 = .ok (.getfield 13, 3) := dk_180 0 13 (dk_at dksX6_shoots_3 11 rfl rfl)
theorem dX6_shoots_83 : decode cX6_shoots 83 = .ok (.iload_n 3, 1) := dk_29 (dk_at dksX6_shoots_3 14 rfl rfl)
theorem dX6_shoots_84 : decode cX6_shoots 84 = .ok (.iconst 1, 1) := dk_4 (dk_at dksX6_shoots_3 15 rfl rfl)
theorem dX6_shoots_85 : decode cX6_shoots 85 = .ok (.iadd, 1) := dk_96 (dk_at dksX6_shoots_3 16 rfl rfl)
theorem dX6_shoots_86 : decode cX6_shoots 86 = .ok (.iaload, 1) := dk_46 (dk_at dksX6_shoots_3 17 rfl rfl)
theorem dX6_shoots_87 : decode cX6_shoots 87 = .ok (.ishl, 1) := dk_120 (dk_at dksX6_shoots_3 18 rfl rfl)
theorem dX6_shoots_88 : decode cX6_shoots 88 = .ok (.invokevirtual 302, 3) := dk_182 1 46 (dk_at dksX6_shoots_3 19 rfl rfl)
theorem dX6_shoots_91 : decode cX6_shoots 91 = .ok (.aload_n 0, 1) := dk_42 (dk_at dksX6_shoots_3 22 rfl rfl)
theorem dX6_shoots_92 : decode cX6_shoots 92 = .ok (.iconst 1, 1) := dk_4 (dk_at dksX6_shoots_3 23 rfl rfl)
theorem dX6_shoots_93 : decode cX6_shoots 93 = .ok (.aload_n 0, 1) := dk_42 (dk_at dksX6_shoots_4 0 rfl rfl)
theorem dX6_shoots_94 : decode cX6_shoots 94 = .ok (.iload_n 2, 1) := dk_28 (dk_at dksX6_shoots_4 1 rfl rfl)
theorem dX6_shoots_95 : decode cX6_shoots 95 = .ok (.iconst 1, 1) := dk_4 (dk_at dksX6_shoots_4 2 rfl rfl)
theorem dX6_shoots_96 : decode cX6_shoots 96 = .ok (.invokevirtual 273, 3) := dk_182 1 17 (dk_at dksX6_shoots_4 3 rfl rfl)
theorem dX6_shoots_99 : decode cX6_shoots 99 = .ok (.iload 4, 2) := dk_21 4 (dk_at dksX6_shoots_4 6 rfl rfl)
theorem dX6_shoots_101 : decode cX6_shoots 101 = .ok (.aload_n 0, 1) := dk_42 (dk_at dksX6_shoots_4 8 rfl rfl)
theorem dX6_shoots_102 : decode cX6_shoots 102 = .ok (.iload_n 1, 1) := dk_27 (dk_at dksX6_shoots_4 9 rfl rfl)
theorem dX6_shoots_103 : decode cX6_shoots 103 = .ok (.iconst 4, 1) := dk_7 (dk_at dksX6_shoots_4 10 rfl rfl)
theorem dX6_shoots_104 : decode cX6_shoots 104 = .ok (.invokevirtual 273, 3) := dk_182 1 17 (dk_at dksX6_shoots_4 11 rfl rfl)
theorem dX6_shoots_107 : decode cX6_shoots 107 = .ok (.invokevirtual 302, 3) := dk_182 1 46 (dk_at dksX6_shoots_4 14 rfl rfl)
theorem dX6_shoots_110 : decode cX6_shoots 110 = .ok (.aload_n 0, 1) := dk_42 (dk_at dksX6_shoots_4 17 rfl rfl)
theorem dX6_shoots_111 : decode cX6_shoots 111 = .ok (.getfield 13, 3) := dk_180 0 13 (dk_at dksX6_shoots_4 18 rfl rfl)
theorem dX6_shoots_114 : decode cX6_shoots 114 = .ok (.bipush 9, 2) := dk_16 9 (dk_at dksX6_shoots_4 21 rfl rfl)
theorem dX6_shoots_116 : decode cX6_shoots 116 = .ok (.ldc_w 306, 3) := dk_19 1 50 (dk_at dksX6_shoots_5 0 rfl rfl)
theorem dX6_shoots_119 : decode cX6_shoots 119 = .ok (.aload_n 0, 1) := dk_42 (dk_at dksX6_shoots_5 3 rfl rfl)
theorem dX6_shoots_120 : decode cX6_shoots 120 = .ok (.getfield 13, 3) := dk_180 0 13 (dk_at dksX6_shoots_5 4 rfl rfl)
theorem dX6_shoots_123 : decode cX6_shoots 123 = .ok (.bipush 9, 2) := dk_16 9 (dk_at dksX6_shoots_5 7 rfl rfl)
theorem dX6_shoots_125 : decode cX6_shoots 125 = .ok (.iaload, 1) := dk_46 (dk_at dksX6_shoots_5 9 rfl rfl)
theorem dX6_shoots_126 : decode cX6_shoots 126 = .ok (.imul, 1) := dk_104 (dk_at dksX6_shoots_5 10 rfl rfl)
theorem dX6_shoots_127 : decode cX6_shoots 127 = .ok (.sipush 12345, 3) := dk_17 48 57 (dk_at dksX6_shoots_5 11 rfl rfl)
theorem dX6_shoots_130 : decode cX6_shoots 130 = .ok (.iadd, 1) := dk_96 (dk_at dksX6_shoots_5 14 rfl rfl)
theorem dX6_shoots_131 : decode cX6_shoots 131 = .ok (.iastore, 1) := dk_79 (dk_at dksX6_shoots_5 15 rfl rfl)
theorem dX6_shoots_132 : decode cX6_shoots 132 = .ok (.aload_n 0, 1) := dk_42 (dk_at dksX6_shoots_5 16 rfl rfl)
theorem dX6_shoots_133 : decode cX6_shoots 133 = .ok (.getfield 13, 3) := dk_180 0 13 (dk_at dksX6_shoots_5 17 rfl rfl)
theorem dX6_shoots_136 : decode cX6_shoots 136 = .ok (.bipush 9, 2) := dk_16 9 (dk_at dksX6_shoots_5 20 rfl rfl)
theorem dX6_shoots_138 : decode cX6_shoots 138 = .ok (.iaload, 1) := dk_46 (dk_at dksX6_shoots_5 22 rfl rfl)
theorem dX6_shoots_139 : decode cX6_shoots 139 = .ok (.bipush 16, 2) := dk_16 16 (dk_at dksX6_shoots_6 0 rfl rfl)
theorem dX6_shoots_141 : decode cX6_shoots 141 = .ok (.ishr, 1) := dk_122 (dk_at dksX6_shoots_6 2 rfl rfl)
theorem dX6_shoots_142 : decode cX6_shoots 142 = .ok (.sipush 32767, 3) := dk_17 127 255 (dk_at dksX6_shoots_6 3 rfl rfl)
theorem dX6_shoots_145 : decode cX6_shoots 145 = .ok (.iand, 1) := dk_126 (dk_at dksX6_shoots_6 6 rfl rfl)
theorem dX6_shoots_146 : decode cX6_shoots 146 = .ok (.bipush 12, 2) := dk_16 12 (dk_at dksX6_shoots_6 7 rfl rfl)
theorem dX6_shoots_148 : decode cX6_shoots 148 = .ok (.irem, 1) := dk_112 (dk_at dksX6_shoots_6 9 rfl rfl)
theorem dX6_shoots_149 : decode cX6_shoots 149 = .ok (.bipush 10, 2) := dk_16 10 (dk_at dksX6_shoots_6 10 rfl rfl)
theorem dX6_shoots_151 : decode cX6_shoots 151 = .ok (.aload_n 0, 1) := dk_42 (dk_at dksX6_shoots_6 12 rfl rfl)
theorem dX6_shoots_152 : decode cX6_shoots 152 = .ok (.iload_n 1, 1) := dk_27 (dk_at dksX6_shoots_6 13 rfl rfl)
theorem dX6_shoots_153 : decode cX6_shoots 153 = .ok (.iconst 1, 1) := dk_4 (dk_at dksX6_shoots_6 14 rfl rfl)
theorem dX6_shoots_154 : decode cX6_shoots 154 = .ok (.invokevirtual 273, 3) := dk_182 1 17 (dk_at dksX6_shoots_6 15 rfl rfl)
theorem dX6_shoots_157 : decode cX6_shoots 157 = .ok (.aload_n 0, 1) := dk_42 (dk_at dksX6_shoots_6 18 rfl rfl)
theorem dX6_shoots_158 : decode cX6_shoots 158 = .ok (.iload_n 2, 1) := dk_28 (dk_at dksX6_shoots_6 19 rfl rfl)
theorem dX6_shoots_159 : decode cX6_shoots 159 = .ok (.iconst 1, 1) := dk_4 (dk_at dksX6_shoots_6 20 rfl rfl)
theorem dX6_shoots_160 : decode cX6_shoots 160 = .ok (.invokevirtual 273, 3) := dk_182 1 17 (dk_at dksX6_shoots_6 21 rfl rfl)
theorem dX6_shoots_163 : decode cX6_shoots 163 = .ok (.invokestatic 90, 3) := dk_184 0 90 (dk_at dksX6_shoots_7 0 rfl rfl)
theorem dX6_shoots_166 : decode cX6_shoots 166 = .ok (.isub, 1) := dk_100 (dk_at dksX6_shoots_7 3 rfl rfl)
theorem dX6_shoots_167 : decode cX6_shoots 167 = .ok (.if_icmp .lt 4, 3) := dk_161 0 4 (dk_at dksX6_shoots_7 4 rfl rfl)
theorem dX6_shoots_170 : decode cX6_shoots 170 = .ok (.return_, 1) := dk_177 (dk_at dksX6_shoots_7 7 rfl rfl)
theorem dX6_shoots_171 : decode cX6_shoots 171 = .ok (.aload_n 0, 1) := dk_42 (dk_at dksX6_shoots_7 8 rfl rfl)
theorem dX6_shoots_172 : decode cX6_shoots 172 = .ok (.iconst 2, 1) := dk_5 (dk_at dksX6_shoots_7 9 rfl rfl)
theorem dX6_shoots_173 : decode cX6_shoots 173 = .ok (.aload_n 0, 1) := dk_42 (dk_at dksX6_shoots_7 10 rfl rfl)
theorem dX6_shoots_174 : decode cX6_shoots 174 = .ok (.iload_n 2, 1) := dk_28 (dk_at dksX6_shoots_7 11 rfl rfl)
theorem dX6_shoots_175 : decode cX6_shoots 175 = .ok (.iconst 1, 1) := dk_4 (dk_at dksX6_shoots_7 12 rfl rfl)
theorem dX6_shoots_176 : decode cX6_shoots 176 = .ok (.invokevirtual 273, 3) := dk_182 1 17 (dk_at dksX6_shoots_7 13 rfl rfl)
theorem dX6_shoots_179 : decode cX6_shoots 179 = .ok (.iload 4, 2) := dk_21 4 (dk_at dksX6_shoots_7 16 rfl rfl)
theorem dX6_shoots_181 : decode cX6_shoots 181 = .ok (.iconst 1, 1) := dk_4 (dk_at dksX6_shoots_7 18 rfl rfl)
theorem dX6_shoots_182 : decode cX6_shoots 182 = .ok (.iload_n 2, 1) := dk_28 (dk_at dksX6_shoots_7 19 rfl rfl)
theorem dX6_shoots_183 : decode cX6_shoots 183 = .ok (.ishl, 1) := dk_120 (dk_at dksX6_shoots_7 20 rfl rfl)
theorem dX6_shoots_184 : decode cX6_shoots 184 = .ok (.invokevirtual 302, 3) := dk_182 1 46 (dk_at dksX6_shoots_7 21 rfl rfl)
theorem dX6_shoots_187 : decode cX6_shoots 187 = .ok (.aload_n 0, 1) := dk_42 (dk_at dksX6_shoots_8 0 rfl rfl)
theorem dX6_shoots_188 : decode cX6_shoots 188 = .ok (.iload_n 2, 1) := dk_28 (dk_at dksX6_shoots_8 1 rfl rfl)
theorem dX6_shoots_189 : decode cX6_shoots 189 = .ok (.iconst 3, 1) := dk_6 (dk_at dksX6_shoots_8 2 rfl rfl)
theorem dX6_shoots_190 : decode cX6_shoots 190 = .ok (.iconst 0, 1) := dk_3 (dk_at dksX6_shoots_8 3 rfl rfl)
theorem dX6_shoots_191 : decode cX6_shoots 191 = .ok (.invokevirtual 279, 3) := dk_182 1 23 (dk_at dksX6_shoots_8 4 rfl rfl)
theorem dX6_shoots_194 : decode cX6_shoots 194 = .ok (.return_, 1) := dk_177 (dk_at dksX6_shoots_8 7 rfl rfl)
abbrev cX6_holdsStill : ByteArray := prog_30_method_61_code
def yX6_holdsStill : MethodName := ⟨RX6, "holdsStill", "(I)V"⟩
def dkwX6_holdsStill_0 : List UInt8 := [42, 27, 5, 3, 42, 27, 5, 182, 1, 17, 4, 100, 184, 0, 69, 182, 1, 23, 177]
abbrev dktX6_holdsStill_0 : List UInt8 := dkwX6_holdsStill_0 ++ []
theorem dksX6_holdsStill_0 : cX6_holdsStill.data.toList.drop 0 = dktX6_holdsStill_0 := by decide +kernel
theorem dX6_holdsStill_0 : decode cX6_holdsStill 0 = .ok (.aload_n 0, 1) := dk_42 (dk_at dksX6_holdsStill_0 0 rfl rfl)
theorem dX6_holdsStill_1 : decode cX6_holdsStill 1 = .ok (.iload_n 1, 1) := dk_27 (dk_at dksX6_holdsStill_0 1 rfl rfl)
theorem dX6_holdsStill_2 : decode cX6_holdsStill 2 = .ok (.iconst 2, 1) := dk_5 (dk_at dksX6_holdsStill_0 2 rfl rfl)
theorem dX6_holdsStill_3 : decode cX6_holdsStill 3 = .ok (.iconst 0, 1) := dk_3 (dk_at dksX6_holdsStill_0 3 rfl rfl)
theorem dX6_holdsStill_4 : decode cX6_holdsStill 4 = .ok (.aload_n 0, 1) := dk_42 (dk_at dksX6_holdsStill_0 4 rfl rfl)
theorem dX6_holdsStill_5 : decode cX6_holdsStill 5 = .ok (.iload_n 1, 1) := dk_27 (dk_at dksX6_holdsStill_0 5 rfl rfl)
theorem dX6_holdsStill_6 : decode cX6_holdsStill 6 = .ok (.iconst 2, 1) := dk_5 (dk_at dksX6_holdsStill_0 6 rfl rfl)
theorem dX6_holdsStill_7 : decode cX6_holdsStill 7 = .ok (.invokevirtual 273, 3) := dk_182 1 17 (dk_at dksX6_holdsStill_0 7 rfl rfl)
theorem dX6_holdsStill_10 : decode cX6_holdsStill 10 = .ok (.iconst 1, 1) := dk_4 (dk_at dksX6_holdsStill_0 10 rfl rfl)
theorem dX6_holdsStill_11 : decode cX6_holdsStill 11 = .ok (.isub, 1) := dk_100 (dk_at dksX6_holdsStill_0 11 rfl rfl)
theorem dX6_holdsStill_12 : decode cX6_holdsStill 12 = .ok (.invokestatic 69, 3) := dk_184 0 69 (dk_at dksX6_holdsStill_0 12 rfl rfl)
theorem dX6_holdsStill_15 : decode cX6_holdsStill 15 = .ok (.invokevirtual 279, 3) := dk_182 1 23 (dk_at dksX6_holdsStill_0 15 rfl rfl)
theorem dX6_holdsStill_18 : decode cX6_holdsStill 18 = .ok (.return_, 1) := dk_177 (dk_at dksX6_holdsStill_0 18 rfl rfl)
abbrev cX6_leaves : ByteArray := prog_30_method_60_code
def yX6_leaves : MethodName := ⟨RX6, "leaves", "(IIII)V"⟩
def dkwX6_leaves_4 : List UInt8 := [46, 4, 96, 79, 177]
abbrev dktX6_leaves_4 : List UInt8 := dkwX6_leaves_4 ++ []
def dkwX6_leaves_3 : List UInt8 := [21, 5, 7, 96, 3, 79, 42, 180, 0, 13, 21, 5, 8, 96, 17, 0, 239, 79, 42, 180, 0, 13, 6, 92]
abbrev dktX6_leaves_3 : List UInt8 := dkwX6_leaves_3 ++ dktX6_leaves_4
def dkwX6_leaves_2 : List UInt8 := [180, 0, 13, 21, 5, 5, 96, 29, 79, 42, 180, 0, 13, 21, 5, 6, 96, 21, 4, 79, 42, 180, 0, 13]
abbrev dktX6_leaves_2 : List UInt8 := dkwX6_leaves_2 ++ dktX6_leaves_3
def dkwX6_leaves_1 : List UInt8 := [96, 54, 5, 42, 180, 0, 13, 21, 5, 27, 79, 42, 180, 0, 13, 21, 5, 4, 96, 28, 79, 42]
abbrev dktX6_leaves_1 : List UInt8 := dkwX6_leaves_1 ++ dktX6_leaves_2
def dkwX6_leaves_0 : List UInt8 := [42, 180, 0, 13, 6, 46, 16, 120, 160, 0, 4, 177, 17, 1, 93, 16, 6, 42, 180, 0, 13, 6, 46, 104]
abbrev dktX6_leaves_0 : List UInt8 := dkwX6_leaves_0 ++ dktX6_leaves_1
theorem dksX6_leaves_0 : cX6_leaves.data.toList.drop 0 = dktX6_leaves_0 := by decide +kernel
theorem dksX6_leaves_1 : cX6_leaves.data.toList.drop 24 = dktX6_leaves_1 := dk_seg dksX6_leaves_0 24 rfl rfl
theorem dksX6_leaves_2 : cX6_leaves.data.toList.drop 46 = dktX6_leaves_2 := dk_seg dksX6_leaves_1 22 rfl rfl
theorem dksX6_leaves_3 : cX6_leaves.data.toList.drop 70 = dktX6_leaves_3 := dk_seg dksX6_leaves_2 24 rfl rfl
theorem dksX6_leaves_4 : cX6_leaves.data.toList.drop 94 = dktX6_leaves_4 := dk_seg dksX6_leaves_3 24 rfl rfl
theorem dX6_leaves_0 : decode cX6_leaves 0 = .ok (.aload_n 0, 1) := dk_42 (dk_at dksX6_leaves_0 0 rfl rfl)
theorem dX6_leaves_1 : decode cX6_leaves 1 = .ok (.getfield 13, 3) := dk_180 0 13 (dk_at dksX6_leaves_0 1 rfl rfl)
theorem dX6_leaves_4 : decode cX6_leaves 4 = .ok (.iconst 3, 1) := dk_6 (dk_at dksX6_leaves_0 4 rfl rfl)
theorem dX6_leaves_5 : decode cX6_leaves 5 = .ok (.iaload, 1) := dk_46 (dk_at dksX6_leaves_0 5 rfl rfl)
theorem dX6_leaves_6 : decode cX6_leaves 6 = .ok (.bipush 120, 2) := dk_16 120 (dk_at dksX6_leaves_0 6 rfl rfl)
theorem dX6_leaves_8 : decode cX6_leaves 8 = .ok (.if_icmp .ne 4, 3) := dk_160 0 4 (dk_at dksX6_leaves_0 8 rfl rfl)
theorem dX6_leaves_11 : decode cX6_leaves 11 = .ok (.return_, 1) := dk_177 (dk_at dksX6_leaves_0 11 rfl rfl)
theorem dX6_leaves_12 : decode cX6_leaves 12 = .ok (.sipush 349, 3) := dk_17 1 93 (dk_at dksX6_leaves_0 12 rfl rfl)
theorem dX6_leaves_15 : decode cX6_leaves 15 = .ok (.bipush 6, 2) := dk_16 6 (dk_at dksX6_leaves_0 15 rfl rfl)
theorem dX6_leaves_17 : decode cX6_leaves 17 = .ok (.aload_n 0, 1) := dk_42 (dk_at dksX6_leaves_0 17 rfl rfl)
theorem dX6_leaves_18 : decode cX6_leaves 18 = .ok (.getfield 13, 3) := dk_180 0 13 (dk_at dksX6_leaves_0 18 rfl rfl)
theorem dX6_leaves_21 : decode cX6_leaves 21 = .ok (.iconst 3, 1) := dk_6 (dk_at dksX6_leaves_0 21 rfl rfl)
theorem dX6_leaves_22 : decode cX6_leaves 22 = .ok (.iaload, 1) := dk_46 (dk_at dksX6_leaves_0 22 rfl rfl)
theorem dX6_leaves_23 : decode cX6_leaves 23 = .ok (.imul, 1) := dk_104 (dk_at dksX6_leaves_0 23 rfl rfl)
theorem dX6_leaves_24 : decode cX6_leaves 24 = .ok (.iadd, 1) := dk_96 (dk_at dksX6_leaves_1 0 rfl rfl)
theorem dX6_leaves_25 : decode cX6_leaves 25 = .ok (.istore 5, 2) := dk_54 5 (dk_at dksX6_leaves_1 1 rfl rfl)
theorem dX6_leaves_27 : decode cX6_leaves 27 = .ok (.aload_n 0, 1) := dk_42 (dk_at dksX6_leaves_1 3 rfl rfl)
theorem dX6_leaves_28 : decode cX6_leaves 28 = .ok (.getfield 13, 3) := dk_180 0 13 (dk_at dksX6_leaves_1 4 rfl rfl)
theorem dX6_leaves_31 : decode cX6_leaves 31 = .ok (.iload 5, 2) := dk_21 5 (dk_at dksX6_leaves_1 7 rfl rfl)
theorem dX6_leaves_33 : decode cX6_leaves 33 = .ok (.iload_n 1, 1) := dk_27 (dk_at dksX6_leaves_1 9 rfl rfl)
theorem dX6_leaves_34 : decode cX6_leaves 34 = .ok (.iastore, 1) := dk_79 (dk_at dksX6_leaves_1 10 rfl rfl)
theorem dX6_leaves_35 : decode cX6_leaves 35 = .ok (.aload_n 0, 1) := dk_42 (dk_at dksX6_leaves_1 11 rfl rfl)
theorem dX6_leaves_36 : decode cX6_leaves 36 = .ok (.getfield 13, 3) := dk_180 0 13 (dk_at dksX6_leaves_1 12 rfl rfl)
theorem dX6_leaves_39 : decode cX6_leaves 39 = .ok (.iload 5, 2) := dk_21 5 (dk_at dksX6_leaves_1 15 rfl rfl)
theorem dX6_leaves_41 : decode cX6_leaves 41 = .ok (.iconst 1, 1) := dk_4 (dk_at dksX6_leaves_1 17 rfl rfl)
theorem dX6_leaves_42 : decode cX6_leaves 42 = .ok (.iadd, 1) := dk_96 (dk_at dksX6_leaves_1 18 rfl rfl)
theorem dX6_leaves_43 : decode cX6_leaves 43 = .ok (.iload_n 2, 1) := dk_28 (dk_at dksX6_leaves_1 19 rfl rfl)
theorem dX6_leaves_44 : decode cX6_leaves 44 = .ok (.iastore, 1) := dk_79 (dk_at dksX6_leaves_1 20 rfl rfl)
theorem dX6_leaves_45 : decode cX6_leaves 45 = .ok (.aload_n 0, 1) := dk_42 (dk_at dksX6_leaves_1 21 rfl rfl)
theorem dX6_leaves_46 : decode cX6_leaves 46 = .ok (.getfield 13, 3) := dk_180 0 13 (dk_at dksX6_leaves_2 0 rfl rfl)
theorem dX6_leaves_49 : decode cX6_leaves 49 = .ok (.iload 5, 2) := dk_21 5 (dk_at dksX6_leaves_2 3 rfl rfl)
theorem dX6_leaves_51 : decode cX6_leaves 51 = .ok (.iconst 2, 1) := dk_5 (dk_at dksX6_leaves_2 5 rfl rfl)
theorem dX6_leaves_52 : decode cX6_leaves 52 = .ok (.iadd, 1) := dk_96 (dk_at dksX6_leaves_2 6 rfl rfl)
theorem dX6_leaves_53 : decode cX6_leaves 53 = .ok (.iload_n 3, 1) := dk_29 (dk_at dksX6_leaves_2 7 rfl rfl)
theorem dX6_leaves_54 : decode cX6_leaves 54 = .ok (.iastore, 1) := dk_79 (dk_at dksX6_leaves_2 8 rfl rfl)
theorem dX6_leaves_55 : decode cX6_leaves 55 = .ok (.aload_n 0, 1) := dk_42 (dk_at dksX6_leaves_2 9 rfl rfl)
theorem dX6_leaves_56 : decode cX6_leaves 56 = .ok (.getfield 13, 3) := dk_180 0 13 (dk_at dksX6_leaves_2 10 rfl rfl)
theorem dX6_leaves_59 : decode cX6_leaves 59 = .ok (.iload 5, 2) := dk_21 5 (dk_at dksX6_leaves_2 13 rfl rfl)
theorem dX6_leaves_61 : decode cX6_leaves 61 = .ok (.iconst 3, 1) := dk_6 (dk_at dksX6_leaves_2 15 rfl rfl)
theorem dX6_leaves_62 : decode cX6_leaves 62 = .ok (.iadd, 1) := dk_96 (dk_at dksX6_leaves_2 16 rfl rfl)
theorem dX6_leaves_63 : decode cX6_leaves 63 = .ok (.iload 4, 2) := dk_21 4 (dk_at dksX6_leaves_2 17 rfl rfl)
theorem dX6_leaves_65 : decode cX6_leaves 65 = .ok (.iastore, 1) := dk_79 (dk_at dksX6_leaves_2 19 rfl rfl)
theorem dX6_leaves_66 : decode cX6_leaves 66 = .ok (.aload_n 0, 1) := dk_42 (dk_at dksX6_leaves_2 20 rfl rfl)
theorem dX6_leaves_67 : decode cX6_leaves 67 = .ok (.getfield 13, 3) := dk_180 0 13 (dk_at dksX6_leaves_2 21 rfl rfl)
theorem dX6_leaves_70 : decode cX6_leaves 70 = .ok (.iload 5, 2) := dk_21 5 (dk_at dksX6_leaves_3 0 rfl rfl)
theorem dX6_leaves_72 : decode cX6_leaves 72 = .ok (.iconst 4, 1) := dk_7 (dk_at dksX6_leaves_3 2 rfl rfl)
theorem dX6_leaves_73 : decode cX6_leaves 73 = .ok (.iadd, 1) := dk_96 (dk_at dksX6_leaves_3 3 rfl rfl)
theorem dX6_leaves_74 : decode cX6_leaves 74 = .ok (.iconst 0, 1) := dk_3 (dk_at dksX6_leaves_3 4 rfl rfl)
theorem dX6_leaves_75 : decode cX6_leaves 75 = .ok (.iastore, 1) := dk_79 (dk_at dksX6_leaves_3 5 rfl rfl)
theorem dX6_leaves_76 : decode cX6_leaves 76 = .ok (.aload_n 0, 1) := dk_42 (dk_at dksX6_leaves_3 6 rfl rfl)
theorem dX6_leaves_77 : decode cX6_leaves 77 = .ok (.getfield 13, 3) := dk_180 0 13 (dk_at dksX6_leaves_3 7 rfl rfl)
theorem dX6_leaves_80 : decode cX6_leaves 80 = .ok (.iload 5, 2) := dk_21 5 (dk_at dksX6_leaves_3 10 rfl rfl)
theorem dX6_leaves_82 : decode cX6_leaves 82 = .ok (.iconst 5, 1) := dk_8 (dk_at dksX6_leaves_3 12 rfl rfl)
theorem dX6_leaves_83 : decode cX6_leaves 83 = .ok (.iadd, 1) := dk_96 (dk_at dksX6_leaves_3 13 rfl rfl)
theorem dX6_leaves_84 : decode cX6_leaves 84 = .ok (.sipush 239, 3) := dk_17 0 239 (dk_at dksX6_leaves_3 14 rfl rfl)
theorem dX6_leaves_87 : decode cX6_leaves 87 = .ok (.iastore, 1) := dk_79 (dk_at dksX6_leaves_3 17 rfl rfl)
theorem dX6_leaves_88 : decode cX6_leaves 88 = .ok (.aload_n 0, 1) := dk_42 (dk_at dksX6_leaves_3 18 rfl rfl)
theorem dX6_leaves_89 : decode cX6_leaves 89 = .ok (.getfield 13, 3) := dk_180 0 13 (dk_at dksX6_leaves_3 19 rfl rfl)
theorem dX6_leaves_92 : decode cX6_leaves 92 = .ok (.iconst 3, 1) := dk_6 (dk_at dksX6_leaves_3 22 rfl rfl)
theorem dX6_leaves_93 : decode cX6_leaves 93 = .ok (.dup2, 1) := dk_92 (dk_at dksX6_leaves_3 23 rfl rfl)
theorem dX6_leaves_94 : decode cX6_leaves 94 = .ok (.iaload, 1) := dk_46 (dk_at dksX6_leaves_4 0 rfl rfl)
theorem dX6_leaves_95 : decode cX6_leaves 95 = .ok (.iconst 1, 1) := dk_4 (dk_at dksX6_leaves_4 1 rfl rfl)
theorem dX6_leaves_96 : decode cX6_leaves 96 = .ok (.iadd, 1) := dk_96 (dk_at dksX6_leaves_4 2 rfl rfl)
theorem dX6_leaves_97 : decode cX6_leaves 97 = .ok (.iastore, 1) := dk_79 (dk_at dksX6_leaves_4 3 rfl rfl)
theorem dX6_leaves_98 : decode cX6_leaves 98 = .ok (.return_, 1) := dk_177 (dk_at dksX6_leaves_4 4 rfl rfl)
abbrev cX6_moves : ByteArray := prog_30_method_63_code
def yX6_moves : MethodName := ⟨RX6, "moves", "(IZ)V"⟩
def dkwX6_moves_6 : List UInt8 := [182, 1, 23, 177]
abbrev dktX6_moves_6 : List UInt8 := dkwX6_moves_6 ++ []
def dkwX6_moves_5 : List UInt8 := [167, 0, 11, 21, 7, 54, 5, 21, 8, 54, 6, 132, 7, 1, 167, 255, 169, 42, 27, 4, 21, 5]
abbrev dktX6_moves_5 : List UInt8 := dkwX6_moves_5 ++ dktX6_moves_6
def dkwX6_moves_4 : List UInt8 := [21, 4, 4, 182, 1, 17, 184, 0, 90, 116, 54, 8, 21, 5, 155, 0, 13, 21, 8, 21, 6, 163, 0, 6]
abbrev dktX6_moves_4 : List UInt8 := dkwX6_moves_4 ++ dktX6_moves_5
def dkwX6_moves_3 : List UInt8 := [21, 7, 42, 42, 27, 4, 21, 7, 182, 1, 37, 4, 182, 1, 17, 184, 0, 90, 167, 0, 16, 21, 7, 42]
abbrev dktX6_moves_3 : List UInt8 := dkwX6_moves_3 ++ dktX6_moves_4
def dkwX6_moves_2 : List UInt8 := [17, 1, 0, 162, 0, 85, 21, 7, 29, 184, 0, 90, 4, 164, 0, 6, 167, 0, 66, 28, 153, 0, 24]
abbrev dktX6_moves_2 : List UInt8 := dkwX6_moves_2 ++ dktX6_moves_3
def dkwX6_moves_1 : List UInt8 := [182, 1, 37, 167, 0, 5, 21, 4, 156, 0, 4, 177, 2, 54, 5, 3, 54, 6, 3, 54, 7, 21, 7]
abbrev dktX6_moves_1 : List UInt8 := dkwX6_moves_1 ++ dktX6_moves_2
def dkwX6_moves_0 : List UInt8 := [42, 27, 4, 182, 1, 17, 62, 42, 27, 3, 29, 182, 1, 37, 54, 4, 28, 153, 0, 13, 42, 27, 4, 29]
abbrev dktX6_moves_0 : List UInt8 := dkwX6_moves_0 ++ dktX6_moves_1
theorem dksX6_moves_0 : cX6_moves.data.toList.drop 0 = dktX6_moves_0 := by decide +kernel
theorem dksX6_moves_1 : cX6_moves.data.toList.drop 24 = dktX6_moves_1 := dk_seg dksX6_moves_0 24 rfl rfl
theorem dksX6_moves_2 : cX6_moves.data.toList.drop 47 = dktX6_moves_2 := dk_seg dksX6_moves_1 23 rfl rfl
theorem dksX6_moves_3 : cX6_moves.data.toList.drop 70 = dktX6_moves_3 := dk_seg dksX6_moves_2 23 rfl rfl
theorem dksX6_moves_4 : cX6_moves.data.toList.drop 94 = dktX6_moves_4 := dk_seg dksX6_moves_3 24 rfl rfl
theorem dksX6_moves_5 : cX6_moves.data.toList.drop 118 = dktX6_moves_5 := dk_seg dksX6_moves_4 24 rfl rfl
theorem dksX6_moves_6 : cX6_moves.data.toList.drop 140 = dktX6_moves_6 := dk_seg dksX6_moves_5 22 rfl rfl
theorem dX6_moves_0 : decode cX6_moves 0 = .ok (.aload_n 0, 1) := dk_42 (dk_at dksX6_moves_0 0 rfl rfl)
theorem dX6_moves_1 : decode cX6_moves 1 = .ok (.iload_n 1, 1) := dk_27 (dk_at dksX6_moves_0 1 rfl rfl)
theorem dX6_moves_2 : decode cX6_moves 2 = .ok (.iconst 1, 1) := dk_4 (dk_at dksX6_moves_0 2 rfl rfl)
theorem dX6_moves_3 : decode cX6_moves 3 = .ok (.invokevirtual 273, 3) := dk_182 1 17 (dk_at dksX6_moves_0 3 rfl rfl)
theorem dX6_moves_6 : decode cX6_moves 6 = .ok (.istore_n 3, 1) := dk_62 (dk_at dksX6_moves_0 6 rfl rfl)
theorem dX6_moves_7 : decode cX6_moves 7 = .ok (.aload_n 0, 1) := dk_42 (dk_at dksX6_moves_0 7 rfl rfl)
theorem dX6_moves_8 : decode cX6_moves 8 = .ok (.iload_n 1, 1) := dk_27 (dk_at dksX6_moves_0 8 rfl rfl)
theorem dX6_moves_9 : decode cX6_moves 9 = .ok (.iconst 0, 1) := dk_3 (dk_at dksX6_moves_0 9 rfl rfl)
theorem dX6_moves_10 : decode cX6_moves 10 = .ok (.iload_n 3, 1) := dk_29 (dk_at dksX6_moves_0 10 rfl rfl)
theorem dX6_moves_11 : decode cX6_moves 11 = .ok (.invokevirtual 293, 3) := dk_182 1 37 (dk_at dksX6_moves_0 11 rfl rfl)
theorem dX6_moves_14 : decode cX6_moves 14 = .ok (.istore 4, 2) := dk_54 4 (dk_at dksX6_moves_0 14 rfl rfl)
theorem dX6_moves_16 : decode cX6_moves 16 = .ok (.iload_n 2, 1) := dk_28 (dk_at dksX6_moves_0 16 rfl rfl)
theorem dX6_moves_17 : decode cX6_moves 17 = .ok (.ifCond .eq 13, 3) := dk_153 0 13 (dk_at dksX6_moves_0 17 rfl rfl)
theorem dX6_moves_20 : decode cX6_moves 20 = .ok (.aload_n 0, 1) := dk_42 (dk_at dksX6_moves_0 20 rfl rfl)
theorem dX6_moves_21 : decode cX6_moves 21 = .ok (.iload_n 1, 1) := dk_27 (dk_at dksX6_moves_0 21 rfl rfl)
theorem dX6_moves_22 : decode cX6_moves 22 = .ok (.iconst 1, 1) := dk_4 (dk_at dksX6_moves_0 22 rfl rfl)
theorem dX6_moves_23 : decode cX6_moves 23 = .ok (.iload_n 3, 1) := dk_29 (dk_at dksX6_moves_0 23 rfl rfl)
theorem dX6_moves_24 : decode cX6_moves 24 = .ok (.invokevirtual 293, 3) := dk_182 1 37 (dk_at dksX6_moves_1 0 rfl rfl)
theorem dX6_moves_27 : decode cX6_moves 27 = .ok (.goto 5, 3) := dk_167 0 5 (dk_at dksX6_moves_1 3 rfl rfl)
theorem dX6_moves_30 : decode cX6_moves 30 = .ok (.iload 4, 2) := dk_21 4 (dk_at dksX6_moves_1 6 rfl rfl)
theorem dX6_moves_32 : decode cX6_moves 32 = .ok (.ifCond .ge 4, 3) := dk_156 0 4 (dk_at dksX6_moves_1 8 rfl rfl)
theorem dX6_moves_35 : decode cX6_moves 35 = .ok (.return_, 1) := dk_177 (dk_at dksX6_moves_1 11 rfl rfl)
theorem dX6_moves_36 : decode cX6_moves 36 = .ok (.iconst (-1), 1) := dk_2 (dk_at dksX6_moves_1 12 rfl rfl)
theorem dX6_moves_37 : decode cX6_moves 37 = .ok (.istore 5, 2) := dk_54 5 (dk_at dksX6_moves_1 13 rfl rfl)
theorem dX6_moves_39 : decode cX6_moves 39 = .ok (.iconst 0, 1) := dk_3 (dk_at dksX6_moves_1 15 rfl rfl)
theorem dX6_moves_40 : decode cX6_moves 40 = .ok (.istore 6, 2) := dk_54 6 (dk_at dksX6_moves_1 16 rfl rfl)
theorem dX6_moves_42 : decode cX6_moves 42 = .ok (.iconst 0, 1) := dk_3 (dk_at dksX6_moves_1 18 rfl rfl)
theorem dX6_moves_43 : decode cX6_moves 43 = .ok (.istore 7, 2) := dk_54 7 (dk_at dksX6_moves_1 19 rfl rfl)
theorem dX6_moves_45 : decode cX6_moves 45 = .ok (.iload 7, 2) := dk_21 7 (dk_at dksX6_moves_1 21 rfl rfl)
theorem dX6_moves_47 : decode cX6_moves 47 = .ok (.sipush 256, 3) := dk_17 1 0 (dk_at dksX6_moves_2 0 rfl rfl)
theorem dX6_moves_50 : decode cX6_moves 50 = .ok (.if_icmp .ge 85, 3) := dk_162 0 85 (dk_at dksX6_moves_2 3 rfl rfl)
theorem dX6_moves_53 : decode cX6_moves 53 = .ok (.iload 7, 2) := dk_21 7 (dk_at dksX6_moves_2 6 rfl rfl)
theorem dX6_moves_55 : decode cX6_moves 55 = .ok (.iload_n 3, 1) := dk_29 (dk_at dksX6_moves_2 8 rfl rfl)
theorem dX6_moves_56 : decode cX6_moves 56 = .ok (.invokestatic 90, 3) := dk_184 0 90 (dk_at dksX6_moves_2 9 rfl rfl)
theorem dX6_moves_59 : decode cX6_moves 59 = .ok (.iconst 1, 1) := dk_4 (dk_at dksX6_moves_2 12 rfl rfl)
theorem dX6_moves_60 : decode cX6_moves 60 = .ok (.if_icmp .le 6, 3) := dk_164 0 6 (dk_at dksX6_moves_2 13 rfl rfl)
theorem dX6_moves_63 : decode cX6_moves 63 = .ok (.goto 66, 3) := dk_167 0 66 (dk_at dksX6_moves_2 16 rfl rfl)
theorem dX6_moves_66 : decode cX6_moves 66 = .ok (.iload_n 2, 1) := dk_28 (dk_at dksX6_moves_2 19 rfl rfl)
theorem dX6_moves_67 : decode cX6_moves 67 = .ok (.ifCond .eq 24, 3) := dk_153 0 24 (dk_at dksX6_moves_2 20 rfl rfl)
theorem dX6_moves_70 : decode cX6_moves 70 = .ok (.iload 7, 2) := dk_21 7 (dk_at dksX6_moves_3 0 rfl rfl)
theorem dX6_moves_72 : decode cX6_moves 72 = .ok (.aload_n 0, 1) := dk_42 (dk_at dksX6_moves_3 2 rfl rfl)
theorem dX6_moves_73 : decode cX6_moves 73 = .ok (.aload_n 0, 1) := dk_42 (dk_at dksX6_moves_3 3 rfl rfl)
theorem dX6_moves_74 : decode cX6_moves 74 = .ok (.iload_n 1, 1) := dk_27 (dk_at dksX6_moves_3 4 rfl rfl)
theorem dX6_moves_75 : decode cX6_moves 75 = .ok (.iconst 1, 1) := dk_4 (dk_at dksX6_moves_3 5 rfl rfl)
theorem dX6_moves_76 : decode cX6_moves 76 = .ok (.iload 7, 2) := dk_21 7 (dk_at dksX6_moves_3 6 rfl rfl)
theorem dX6_moves_78 : decode cX6_moves 78 = .ok (.invokevirtual 293, 3) := dk_182 1 37 (dk_at dksX6_moves_3 8 rfl rfl)
theorem dX6_moves_81 : decode cX6_moves 81 = .ok (.iconst 1, 1) := dk_4 (dk_at dksX6_moves_3 11 rfl rfl)
theorem dX6_moves_82 : decode cX6_moves 82 = .ok (.invokevirtual 273, 3) := dk_182 1 17 (dk_at dksX6_moves_3 12 rfl rfl)
theorem dX6_moves_85 : decode cX6_moves 85 = .ok (.invokestatic 90, 3) := dk_184 0 90 (dk_at dksX6_moves_3 15 rfl rfl)
theorem dX6_moves_88 : decode cX6_moves 88 = .ok (.goto 16, 3) := dk_167 0 16 (dk_at dksX6_moves_3 18 rfl rfl)
theorem dX6_moves_91 : decode cX6_moves 91 = .ok (.iload 7, 2) := dk_21 7 (dk_at dksX6_moves_3 21 rfl rfl)
theorem dX6_moves_93 : decode cX6_moves 93 = .ok (.aload_n 0, 1) := dk_42 (dk_at dksX6_moves_3 23 rfl rfl)
theorem dX6_moves_94 : decode cX6_moves 94 = .ok (.iload 4, 2) := dk_21 4 (dk_at dksX6_moves_4 0 rfl rfl)
theorem dX6_moves_96 : decode cX6_moves 96 = .ok (.iconst 1, 1) := dk_4 (dk_at dksX6_moves_4 2 rfl rfl)
theorem dX6_moves_97 : decode cX6_moves 97 = .ok (.invokevirtual 273, 3) := dk_182 1 17 (dk_at dksX6_moves_4 3 rfl rfl)
theorem dX6_moves_100 : decode cX6_moves 100 = .ok (.invokestatic 90, 3) := dk_184 0 90 (dk_at dksX6_moves_4 6 rfl rfl)
theorem dX6_moves_103 : decode cX6_moves 103 = .ok (.ineg, 1) := dk_116 (dk_at dksX6_moves_4 9 rfl rfl)
theorem dX6_moves_104 : decode cX6_moves 104 = .ok (.istore 8, 2) := dk_54 8 (dk_at dksX6_moves_4 10 rfl rfl)
theorem dX6_moves_106 : decode cX6_moves 106 = .ok (.iload 5, 2) := dk_21 5 (dk_at dksX6_moves_4 12 rfl rfl)
theorem dX6_moves_108 : decode cX6_moves 108 = .ok (.ifCond .lt 13, 3) := dk_155 0 13 (dk_at dksX6_moves_4 14 rfl rfl)
theorem dX6_moves_111 : decode cX6_moves 111 = .ok (.iload 8, 2) := dk_21 8 (dk_at dksX6_moves_4 17 rfl rfl)
theorem dX6_moves_113 : decode cX6_moves 113 = .ok (.iload 6, 2) := dk_21 6 (dk_at dksX6_moves_4 19 rfl rfl)
theorem dX6_moves_115 : decode cX6_moves 115 = .ok (.if_icmp .gt 6, 3) := dk_163 0 6 (dk_at dksX6_moves_4 21 rfl rfl)
theorem dX6_moves_118 : decode cX6_moves 118 = .ok (.goto 11, 3) := dk_167 0 11 (dk_at dksX6_moves_5 0 rfl rfl)
theorem dX6_moves_121 : decode cX6_moves 121 = .ok (.iload 7, 2) := dk_21 7 (dk_at dksX6_moves_5 3 rfl rfl)
theorem dX6_moves_123 : decode cX6_moves 123 = .ok (.istore 5, 2) := dk_54 5 (dk_at dksX6_moves_5 5 rfl rfl)
theorem dX6_moves_125 : decode cX6_moves 125 = .ok (.iload 8, 2) := dk_21 8 (dk_at dksX6_moves_5 7 rfl rfl)
theorem dX6_moves_127 : decode cX6_moves 127 = .ok (.istore 6, 2) := dk_54 6 (dk_at dksX6_moves_5 9 rfl rfl)
theorem dX6_moves_129 : decode cX6_moves 129 = .ok (.iinc 7 1, 3) := dk_132 7 1 (dk_at dksX6_moves_5 11 rfl rfl)
theorem dX6_moves_132 : decode cX6_moves 132 = .ok (.goto (-87), 3) := dk_167 255 169 (dk_at dksX6_moves_5 14 rfl rfl)
theorem dX6_moves_135 : decode cX6_moves 135 = .ok (.aload_n 0, 1) := dk_42 (dk_at dksX6_moves_5 17 rfl rfl)
theorem dX6_moves_136 : decode cX6_moves 136 = .ok (.iload_n 1, 1) := dk_27 (dk_at dksX6_moves_5 18 rfl rfl)
theorem dX6_moves_137 : decode cX6_moves 137 = .ok (.iconst 1, 1) := dk_4 (dk_at dksX6_moves_5 19 rfl rfl)
theorem dX6_moves_138 : decode cX6_moves 138 = .ok (.iload 5, 2) := dk_21 5 (dk_at dksX6_moves_5 20 rfl rfl)
theorem dX6_moves_140 : decode cX6_moves 140 = .ok (.invokevirtual 279, 3) := dk_182 1 23 (dk_at dksX6_moves_6 0 rfl rfl)
theorem dX6_moves_143 : decode cX6_moves 143 = .ok (.return_, 1) := dk_177 (dk_at dksX6_moves_6 3 rfl rfl)
abbrev cX6_found : ByteArray := prog_30_method_73_code
def yX6_found : MethodName := ⟨RX6, "found", "(III)I"⟩
def dkwX6_found_3 : List UInt8 := [182, 0, 80, 153, 0, 5, 3, 172, 42, 3, 27, 28, 29, 182, 1, 46, 42, 182, 1, 77, 4, 100, 172]
abbrev dktX6_found_3 : List UInt8 := dkwX6_found_3 ++ []
def dkwX6_found_2 : List UInt8 := [182, 0, 80, 154, 0, 25, 42, 42, 182, 1, 77, 16, 120, 160, 0, 7, 4, 167, 0, 4, 3, 6]
abbrev dktX6_found_2 : List UInt8 := dkwX6_found_2 ++ dktX6_found_3
def dkwX6_found_1 : List UInt8 := [184, 0, 59, 153, 0, 14, 29, 4, 19, 1, 76, 184, 0, 59, 154, 0, 7, 4, 167, 0, 4, 3, 5]
abbrev dktX6_found_1 : List UInt8 := dkwX6_found_1 ++ dktX6_found_2
def dkwX6_found_0 : List UInt8 := [42, 3, 181, 0, 3, 42, 27, 184, 0, 76, 4, 182, 0, 80, 154, 0, 59, 42, 28, 3, 16, 9]
abbrev dktX6_found_0 : List UInt8 := dkwX6_found_0 ++ dktX6_found_1
theorem dksX6_found_0 : cX6_found.data.toList.drop 0 = dktX6_found_0 := by decide +kernel
theorem dksX6_found_1 : cX6_found.data.toList.drop 22 = dktX6_found_1 := dk_seg dksX6_found_0 22 rfl rfl
theorem dksX6_found_2 : cX6_found.data.toList.drop 45 = dktX6_found_2 := dk_seg dksX6_found_1 23 rfl rfl
theorem dksX6_found_3 : cX6_found.data.toList.drop 67 = dktX6_found_3 := dk_seg dksX6_found_2 22 rfl rfl
theorem dX6_found_0 : decode cX6_found 0 = .ok (.aload_n 0, 1) := dk_42 (dk_at dksX6_found_0 0 rfl rfl)
theorem dX6_found_1 : decode cX6_found 1 = .ok (.iconst 0, 1) := dk_3 (dk_at dksX6_found_0 1 rfl rfl)
theorem dX6_found_2 : decode cX6_found 2 = .ok (.putfield 3, 3) := dk_181 0 3 (dk_at dksX6_found_0 2 rfl rfl)
theorem dX6_found_5 : decode cX6_found 5 = .ok (.aload_n 0, 1) := dk_42 (dk_at dksX6_found_0 5 rfl rfl)
theorem dX6_found_6 : decode cX6_found 6 = .ok (.iload_n 1, 1) := dk_27 (dk_at dksX6_found_0 6 rfl rfl)
theorem dX6_found_7 : decode cX6_found 7 = .ok (.invokestatic 76, 3) := dk_184 0 76 (dk_at dksX6_found_0 7 rfl rfl)
theorem dX6_found_10 : decode cX6_found 10 = .ok (.iconst 1, 1) := dk_4 (dk_at dksX6_found_0 10 rfl rfl)
theorem dX6_found_11 : decode cX6_found 11 = .ok (.invokevirtual 80, 3) := dk_182 0 80 (dk_at dksX6_found_0 11 rfl rfl)
theorem dX6_found_14 : decode cX6_found 14 = .ok (.ifCond .ne 59, 3) := dk_154 0 59 (dk_at dksX6_found_0 14 rfl rfl)
theorem dX6_found_17 : decode cX6_found 17 = .ok (.aload_n 0, 1) := dk_42 (dk_at dksX6_found_0 17 rfl rfl)
theorem dX6_found_18 : decode cX6_found 18 = .ok (.iload_n 2, 1) := dk_28 (dk_at dksX6_found_0 18 rfl rfl)
theorem dX6_found_19 : decode cX6_found 19 = .ok (.iconst 0, 1) := dk_3 (dk_at dksX6_found_0 19 rfl rfl)
theorem dX6_found_20 : decode cX6_found 20 = .ok (.bipush 9, 2) := dk_16 9 (dk_at dksX6_found_0 20 rfl rfl)
theorem dX6_found_22 : decode cX6_found 22 = .ok (.invokestatic 59, 3) := dk_184 0 59 (dk_at dksX6_found_1 0 rfl rfl)
theorem dX6_found_25 : decode cX6_found 25 = .ok (.ifCond .eq 14, 3) := dk_153 0 14 (dk_at dksX6_found_1 3 rfl rfl)
theorem dX6_found_28 : decode cX6_found 28 = .ok (.iload_n 3, 1) := dk_29 (dk_at dksX6_found_1 6 rfl rfl)
theorem dX6_found_29 : decode cX6_found 29 = .ok (.iconst 1, 1) := dk_4 (dk_at dksX6_found_1 7 rfl rfl)
theorem dX6_found_30 : decode cX6_found 30 = .ok (.ldc_w 332, 3) := dk_19 1 76 (dk_at dksX6_found_1 8 rfl rfl)
theorem dX6_found_33 : decode cX6_found 33 = .ok (.invokestatic 59, 3) := dk_184 0 59 (dk_at dksX6_found_1 11 rfl rfl)
theorem dX6_found_36 : decode cX6_found 36 = .ok (.ifCond .ne 7, 3) := dk_154 0 7 (dk_at dksX6_found_1 14 rfl rfl)
theorem dX6_found_39 : decode cX6_found 39 = .ok (.iconst 1, 1) := dk_4 (dk_at dksX6_found_1 17 rfl rfl)
theorem dX6_found_40 : decode cX6_found 40 = .ok (.goto 4, 3) := dk_167 0 4 (dk_at dksX6_found_1 18 rfl rfl)
theorem dX6_found_43 : decode cX6_found 43 = .ok (.iconst 0, 1) := dk_3 (dk_at dksX6_found_1 21 rfl rfl)
theorem dX6_found_44 : decode cX6_found 44 = .ok (.iconst 2, 1) := dk_5 (dk_at dksX6_found_1 22 rfl rfl)
theorem dX6_found_45 : decode cX6_found 45 = .ok (.invokevirtual 80, 3) := dk_182 0 80 (dk_at dksX6_found_2 0 rfl rfl)
theorem dX6_found_48 : decode cX6_found 48 = .ok (.ifCond .ne 25, 3) := dk_154 0 25 (dk_at dksX6_found_2 3 rfl rfl)
theorem dX6_found_51 : decode cX6_found 51 = .ok (.aload_n 0, 1) := dk_42 (dk_at dksX6_found_2 6 rfl rfl)
theorem dX6_found_52 : decode cX6_found 52 = .ok (.aload_n 0, 1) := dk_42 (dk_at dksX6_found_2 7 rfl rfl)
theorem dX6_found_53 : decode cX6_found 53 = .ok (.invokevirtual 333, 3) := dk_182 1 77 (dk_at dksX6_found_2 8 rfl rfl)
theorem dX6_found_56 : decode cX6_found 56 = .ok (.bipush 120, 2) := dk_16 120 (dk_at dksX6_found_2 11 rfl rfl)
theorem dX6_found_58 : decode cX6_found 58 = .ok (.if_icmp .ne 7, 3) := dk_160 0 7 (dk_at dksX6_found_2 13 rfl rfl)
theorem dX6_found_61 : decode cX6_found 61 = .ok (.iconst 1, 1) := dk_4 (dk_at dksX6_found_2 16 rfl rfl)
theorem dX6_found_62 : decode cX6_found 62 = .ok (.goto 4, 3) := dk_167 0 4 (dk_at dksX6_found_2 17 rfl rfl)
theorem dX6_found_65 : decode cX6_found 65 = .ok (.iconst 0, 1) := dk_3 (dk_at dksX6_found_2 20 rfl rfl)
theorem dX6_found_66 : decode cX6_found 66 = .ok (.iconst 3, 1) := dk_6 (dk_at dksX6_found_2 21 rfl rfl)
theorem dX6_found_67 : decode cX6_found 67 = .ok (.invokevirtual 80, 3) := dk_182 0 80 (dk_at dksX6_found_3 0 rfl rfl)
theorem dX6_found_70 : decode cX6_found 70 = .ok (.ifCond .eq 5, 3) := dk_153 0 5 (dk_at dksX6_found_3 3 rfl rfl)
theorem dX6_found_73 : decode cX6_found 73 = .ok (.iconst 0, 1) := dk_3 (dk_at dksX6_found_3 6 rfl rfl)
theorem dX6_found_74 : decode cX6_found 74 = .ok (.ireturn, 1) := dk_172 (dk_at dksX6_found_3 7 rfl rfl)
theorem dX6_found_75 : decode cX6_found 75 = .ok (.aload_n 0, 1) := dk_42 (dk_at dksX6_found_3 8 rfl rfl)
theorem dX6_found_76 : decode cX6_found 76 = .ok (.iconst 0, 1) := dk_3 (dk_at dksX6_found_3 9 rfl rfl)
theorem dX6_found_77 : decode cX6_found 77 = .ok (.iload_n 1, 1) := dk_27 (dk_at dksX6_found_3 10 rfl rfl)
theorem dX6_found_78 : decode cX6_found 78 = .ok (.iload_n 2, 1) := dk_28 (dk_at dksX6_found_3 11 rfl rfl)
theorem dX6_found_79 : decode cX6_found 79 = .ok (.iload_n 3, 1) := dk_29 (dk_at dksX6_found_3 12 rfl rfl)
theorem dX6_found_80 : decode cX6_found 80 = .ok (.invokevirtual 302, 3) := dk_182 1 46 (dk_at dksX6_found_3 13 rfl rfl)
theorem dX6_found_83 : decode cX6_found 83 = .ok (.aload_n 0, 1) := dk_42 (dk_at dksX6_found_3 16 rfl rfl)
theorem dX6_found_84 : decode cX6_found 84 = .ok (.invokevirtual 333, 3) := dk_182 1 77 (dk_at dksX6_found_3 17 rfl rfl)
theorem dX6_found_87 : decode cX6_found 87 = .ok (.iconst 1, 1) := dk_4 (dk_at dksX6_found_3 20 rfl rfl)
theorem dX6_found_88 : decode cX6_found 88 = .ok (.isub, 1) := dk_100 (dk_at dksX6_found_3 21 rfl rfl)
theorem dX6_found_89 : decode cX6_found 89 = .ok (.ireturn, 1) := dk_172 (dk_at dksX6_found_3 22 rfl rfl)
abbrev cX6_finds : ByteArray := prog_30_method_68_code
def yX6_finds : MethodName := ⟨RX6, "finds", "()I"⟩
def dkwX6_finds_0 : List UInt8 := [42, 180, 0, 13, 6, 46, 172]
abbrev dktX6_finds_0 : List UInt8 := dkwX6_finds_0 ++ []
theorem dksX6_finds_0 : cX6_finds.data.toList.drop 0 = dktX6_finds_0 := by decide +kernel
theorem dX6_finds_0 : decode cX6_finds 0 = .ok (.aload_n 0, 1) := dk_42 (dk_at dksX6_finds_0 0 rfl rfl)
theorem dX6_finds_1 : decode cX6_finds 1 = .ok (.getfield 13, 3) := dk_180 0 13 (dk_at dksX6_finds_0 1 rfl rfl)
theorem dX6_finds_4 : decode cX6_finds 4 = .ok (.iconst 3, 1) := dk_6 (dk_at dksX6_finds_0 4 rfl rfl)
theorem dX6_finds_5 : decode cX6_finds 5 = .ok (.iaload, 1) := dk_46 (dk_at dksX6_finds_0 5 rfl rfl)
theorem dX6_finds_6 : decode cX6_finds 6 = .ok (.ireturn, 1) := dk_172 (dk_at dksX6_finds_0 6 rfl rfl)
abbrev cX6_other : ByteArray := prog_30_method_74_code
def yX6_other : MethodName := ⟨RX6, "other", "(IIII)I"⟩
def dkwX6_other_5 : List UInt8 := [182, 0, 80, 153, 0, 5, 3, 172, 42, 27, 28, 29, 21, 4, 182, 1, 46, 42, 182, 1, 77, 4, 100, 172]
abbrev dktX6_other_5 : List UInt8 := dkwX6_other_5 ++ []
def dkwX6_other_4 : List UInt8 := [5, 182, 0, 80, 154, 0, 25, 42, 42, 182, 1, 77, 16, 120, 160, 0, 7, 4, 167, 0, 4, 3, 6]
abbrev dktX6_other_4 : List UInt8 := dkwX6_other_4 ++ dktX6_other_5
def dkwX6_other_3 : List UInt8 := [154, 0, 18, 167, 0, 11, 21, 4, 184, 0, 100, 153, 0, 7, 4, 167, 0, 4, 3, 54, 5, 42, 21, 5]
abbrev dktX6_other_3 : List UInt8 := dkwX6_other_3 ++ dktX6_other_4
def dkwX6_other_2 : List UInt8 := [4, 184, 0, 59, 154, 0, 38, 167, 0, 31, 27, 5, 160, 0, 18, 21, 4, 4, 17, 0, 255, 184, 0, 59]
abbrev dktX6_other_2 : List UInt8 := dkwX6_other_2 ++ dktX6_other_3
def dkwX6_other_1 : List UInt8 := [184, 0, 59, 153, 0, 59, 29, 3, 16, 9, 184, 0, 59, 153, 0, 49, 27, 4, 160, 0, 16, 21, 4, 3]
abbrev dktX6_other_1 : List UInt8 := dkwX6_other_1 ++ dktX6_other_2
def dkwX6_other_0 : List UInt8 := [42, 3, 181, 0, 3, 42, 28, 184, 0, 76, 4, 182, 0, 80, 153, 0, 5, 3, 172, 27, 4, 6]
abbrev dktX6_other_0 : List UInt8 := dkwX6_other_0 ++ dktX6_other_1
theorem dksX6_other_0 : cX6_other.data.toList.drop 0 = dktX6_other_0 := by decide +kernel
theorem dksX6_other_1 : cX6_other.data.toList.drop 22 = dktX6_other_1 := dk_seg dksX6_other_0 22 rfl rfl
theorem dksX6_other_2 : cX6_other.data.toList.drop 46 = dktX6_other_2 := dk_seg dksX6_other_1 24 rfl rfl
theorem dksX6_other_3 : cX6_other.data.toList.drop 70 = dktX6_other_3 := dk_seg dksX6_other_2 24 rfl rfl
theorem dksX6_other_4 : cX6_other.data.toList.drop 94 = dktX6_other_4 := dk_seg dksX6_other_3 24 rfl rfl
theorem dksX6_other_5 : cX6_other.data.toList.drop 117 = dktX6_other_5 := dk_seg dksX6_other_4 23 rfl rfl
theorem dX6_other_0 : decode cX6_other 0 = .ok (.aload_n 0, 1) := dk_42 (dk_at dksX6_other_0 0 rfl rfl)
theorem dX6_other_1 : decode cX6_other 1 = .ok (.iconst 0, 1) := dk_3 (dk_at dksX6_other_0 1 rfl rfl)
theorem dX6_other_2 : decode cX6_other 2 = .ok (.putfield 3, 3) := dk_181 0 3 (dk_at dksX6_other_0 2 rfl rfl)
theorem dX6_other_5 : decode cX6_other 5 = .ok (.aload_n 0, 1) := dk_42 (dk_at dksX6_other_0 5 rfl rfl)
theorem dX6_other_6 : decode cX6_other 6 = .ok (.iload_n 2, 1) := dk_28 (dk_at dksX6_other_0 6 rfl rfl)
theorem dX6_other_7 : decode cX6_other 7 = .ok (.invokestatic 76, 3) := dk_184 0 76 (dk_at dksX6_other_0 7 rfl rfl)
theorem dX6_other_10 : decode cX6_other 10 = .ok (.iconst 1, 1) := dk_4 (dk_at dksX6_other_0 10 rfl rfl)
theorem dX6_other_11 : decode cX6_other 11 = .ok (.invokevirtual 80, 3) := dk_182 0 80 (dk_at dksX6_other_0 11 rfl rfl)
theorem dX6_other_14 : decode cX6_other 14 = .ok (.ifCond .eq 5, 3) := dk_153 0 5 (dk_at dksX6_other_0 14 rfl rfl)
theorem dX6_other_17 : decode cX6_other 17 = .ok (.iconst 0, 1) := dk_3 (dk_at dksX6_other_0 17 rfl rfl)
theorem dX6_other_18 : decode cX6_other 18 = .ok (.ireturn, 1) := dk_172 (dk_at dksX6_other_0 18 rfl rfl)
theorem dX6_other_19 : decode cX6_other 19 = .ok (.iload_n 1, 1) := dk_27 (dk_at dksX6_other_0 19 rfl rfl)
theorem dX6_other_20 : decode cX6_other 20 = .ok (.iconst 1, 1) := dk_4 (dk_at dksX6_other_0 20 rfl rfl)
theorem dX6_other_21 : decode cX6_other 21 = .ok (.iconst 3, 1) := dk_6 (dk_at dksX6_other_0 21 rfl rfl)
theorem dX6_other_22 : decode cX6_other 22 = .ok (.invokestatic 59, 3) := dk_184 0 59 (dk_at dksX6_other_1 0 rfl rfl)
theorem dX6_other_25 : decode cX6_other 25 = .ok (.ifCond .eq 59, 3) := dk_153 0 59 (dk_at dksX6_other_1 3 rfl rfl)
theorem dX6_other_28 : decode cX6_other 28 = .ok (.iload_n 3, 1) := dk_29 (dk_at dksX6_other_1 6 rfl rfl)
theorem dX6_other_29 : decode cX6_other 29 = .ok (.iconst 0, 1) := dk_3 (dk_at dksX6_other_1 7 rfl rfl)
theorem dX6_other_30 : decode cX6_other 30 = .ok (.bipush 9, 2) := dk_16 9 (dk_at dksX6_other_1 8 rfl rfl)
theorem dX6_other_32 : decode cX6_other 32 = .ok (.invokestatic 59, 3) := dk_184 0 59 (dk_at dksX6_other_1 10 rfl rfl)
theorem dX6_other_35 : decode cX6_other 35 = .ok (.ifCond .eq 49, 3) := dk_153 0 49 (dk_at dksX6_other_1 13 rfl rfl)
theorem dX6_other_38 : decode cX6_other 38 = .ok (.iload_n 1, 1) := dk_27 (dk_at dksX6_other_1 16 rfl rfl)
theorem dX6_other_39 : decode cX6_other 39 = .ok (.iconst 1, 1) := dk_4 (dk_at dksX6_other_1 17 rfl rfl)
theorem dX6_other_40 : decode cX6_other 40 = .ok (.if_icmp .ne 16, 3) := dk_160 0 16 (dk_at dksX6_other_1 18 rfl rfl)
theorem dX6_other_43 : decode cX6_other 43 = .ok (.iload 4, 2) := dk_21 4 (dk_at dksX6_other_1 21 rfl rfl)
theorem dX6_other_45 : decode cX6_other 45 = .ok (.iconst 0, 1) := dk_3 (dk_at dksX6_other_1 23 rfl rfl)
theorem dX6_other_46 : decode cX6_other 46 = .ok (.iconst 1, 1) := dk_4 (dk_at dksX6_other_2 0 rfl rfl)
theorem dX6_other_47 : decode cX6_other 47 = .ok (.invokestatic 59, 3) := dk_184 0 59 (dk_at dksX6_other_2 1 rfl rfl)
theorem dX6_other_50 : decode cX6_other 50 = .ok (.ifCond .ne 38, 3) := dk_154 0 38 (dk_at dksX6_other_2 4 rfl rfl)
theorem dX6_other_53 : decode cX6_other 53 = .ok (.goto 31, 3) := dk_167 0 31 (dk_at dksX6_other_2 7 rfl rfl)
theorem dX6_other_56 : decode cX6_other 56 = .ok (.iload_n 1, 1) := dk_27 (dk_at dksX6_other_2 10 rfl rfl)
theorem dX6_other_57 : decode cX6_other 57 = .ok (.iconst 2, 1) := dk_5 (dk_at dksX6_other_2 11 rfl rfl)
theorem dX6_other_58 : decode cX6_other 58 = .ok (.if_icmp .ne 18, 3) := dk_160 0 18 (dk_at dksX6_other_2 12 rfl rfl)
theorem dX6_other_61 : decode cX6_other 61 = .ok (.iload 4, 2) := dk_21 4 (dk_at dksX6_other_2 15 rfl rfl)
theorem dX6_other_63 : decode cX6_other 63 = .ok (.iconst 1, 1) := dk_4 (dk_at dksX6_other_2 17 rfl rfl)
theorem dX6_other_64 : decode cX6_other 64 = .ok (.sipush 255, 3) := dk_17 0 255 (dk_at dksX6_other_2 18 rfl rfl)
theorem dX6_other_67 : decode cX6_other 67 = .ok (.invokestatic 59, 3) := dk_184 0 59 (dk_at dksX6_other_2 21 rfl rfl)
theorem dX6_other_70 : decode cX6_other 70 = .ok (.ifCond .ne 18, 3) := dk_154 0 18 (dk_at dksX6_other_3 0 rfl rfl)
theorem dX6_other_73 : decode cX6_other 73 = .ok (.goto 11, 3) := dk_167 0 11 (dk_at dksX6_other_3 3 rfl rfl)
theorem dX6_other_76 : decode cX6_other 76 = .ok (.iload 4, 2) := dk_21 4 (dk_at dksX6_other_3 6 rfl rfl)
theorem dX6_other_78 : decode cX6_other 78 = .ok (.invokestatic 100, 3) := dk_184 0 100 (dk_at dksX6_other_3 8 rfl rfl)
theorem dX6_other_81 : decode cX6_other 81 = .ok (.ifCond .eq 7, 3) := dk_153 0 7 (dk_at dksX6_other_3 11 rfl rfl)
theorem dX6_other_84 : decode cX6_other 84 = .ok (.iconst 1, 1) := dk_4 (dk_at dksX6_other_3 14 rfl rfl)
theorem dX6_other_85 : decode cX6_other 85 = .ok (.goto 4, 3) := dk_167 0 4 (dk_at dksX6_other_3 15 rfl rfl)
theorem dX6_other_88 : decode cX6_other 88 = .ok (.iconst 0, 1) := dk_3 (dk_at dksX6_other_3 18 rfl rfl)
theorem dX6_other_89 : decode cX6_other 89 = .ok (.istore 5, 2) := dk_54 5 (dk_at dksX6_other_3 19 rfl rfl)
theorem dX6_other_91 : decode cX6_other 91 = .ok (.aload_n 0, 1) := dk_42 (dk_at dksX6_other_3 21 rfl rfl)
theorem dX6_other_92 : decode cX6_other 92 = .ok (.iload 5, 2) := dk_21 5 (dk_at dksX6_other_3 22 rfl rfl)
theorem dX6_other_94 : decode cX6_other 94 = .ok (.iconst 2, 1) := dk_5 (dk_at dksX6_other_4 0 rfl rfl)
theorem dX6_other_95 : decode cX6_other 95 = .ok (.invokevirtual 80, 3) := dk_182 0 80 (dk_at dksX6_other_4 1 rfl rfl)
theorem dX6_other_98 : decode cX6_other 98 = .ok (.ifCond .ne 25, 3) := dk_154 0 25 (dk_at dksX6_other_4 4 rfl rfl)
theorem dX6_other_101 : decode cX6_other 101 = .ok (.aload_n 0, 1) := dk_42 (dk_at dksX6_other_4 7 rfl rfl)
theorem dX6_other_102 : decode cX6_other 102 = .ok (.aload_n 0, 1) := dk_42 (dk_at dksX6_other_4 8 rfl rfl)
theorem dX6_other_103 : decode cX6_other 103 = .ok (.invokevirtual 333, 3) := dk_182 1 77 (dk_at dksX6_other_4 9 rfl rfl)
theorem dX6_other_106 : decode cX6_other 106 = .ok (.bipush 120, 2) := dk_16 120 (dk_at dksX6_other_4 12 rfl rfl)
theorem dX6_other_108 : decode cX6_other 108 = .ok (.if_icmp .ne 7, 3) := dk_160 0 7 (dk_at dksX6_other_4 14 rfl rfl)
theorem dX6_other_111 : decode cX6_other 111 = .ok (.iconst 1, 1) := dk_4 (dk_at dksX6_other_4 17 rfl rfl)
theorem dX6_other_112 : decode cX6_other 112 = .ok (.goto 4, 3) := dk_167 0 4 (dk_at dksX6_other_4 18 rfl rfl)
theorem dX6_other_115 : decode cX6_other 115 = .ok (.iconst 0, 1) := dk_3 (dk_at dksX6_other_4 21 rfl rfl)
theorem dX6_other_116 : decode cX6_other 116 = .ok (.iconst 3, 1) := dk_6 (dk_at dksX6_other_4 22 rfl rfl)
theorem dX6_other_117 : decode cX6_other 117 = .ok (.invokevirtual 80, 3) := dk_182 0 80 (dk_at dksX6_other_5 0 rfl rfl)
theorem dX6_other_120 : decode cX6_other 120 = .ok (.ifCond .eq 5, 3) := dk_153 0 5 (dk_at dksX6_other_5 3 rfl rfl)
theorem dX6_other_123 : decode cX6_other 123 = .ok (.iconst 0, 1) := dk_3 (dk_at dksX6_other_5 6 rfl rfl)
theorem dX6_other_124 : decode cX6_other 124 = .ok (.ireturn, 1) := dk_172 (dk_at dksX6_other_5 7 rfl rfl)
theorem dX6_other_125 : decode cX6_other 125 = .ok (.aload_n 0, 1) := dk_42 (dk_at dksX6_other_5 8 rfl rfl)
theorem dX6_other_126 : decode cX6_other 126 = .ok (.iload_n 1, 1) := dk_27 (dk_at dksX6_other_5 9 rfl rfl)
theorem dX6_other_127 : decode cX6_other 127 = .ok (.iload_n 2, 1) := dk_28 (dk_at dksX6_other_5 10 rfl rfl)
theorem dX6_other_128 : decode cX6_other 128 = .ok (.iload_n 3, 1) := dk_29 (dk_at dksX6_other_5 11 rfl rfl)
theorem dX6_other_129 : decode cX6_other 129 = .ok (.iload 4, 2) := dk_21 4 (dk_at dksX6_other_5 12 rfl rfl)
theorem dX6_other_131 : decode cX6_other 131 = .ok (.invokevirtual 302, 3) := dk_182 1 46 (dk_at dksX6_other_5 14 rfl rfl)
theorem dX6_other_134 : decode cX6_other 134 = .ok (.aload_n 0, 1) := dk_42 (dk_at dksX6_other_5 17 rfl rfl)
theorem dX6_other_135 : decode cX6_other 135 = .ok (.invokevirtual 333, 3) := dk_182 1 77 (dk_at dksX6_other_5 18 rfl rfl)
theorem dX6_other_138 : decode cX6_other 138 = .ok (.iconst 1, 1) := dk_4 (dk_at dksX6_other_5 21 rfl rfl)
theorem dX6_other_139 : decode cX6_other 139 = .ok (.isub, 1) := dk_100 (dk_at dksX6_other_5 22 rfl rfl)
theorem dX6_other_140 : decode cX6_other 140 = .ok (.ireturn, 1) := dk_172 (dk_at dksX6_other_5 23 rfl rfl)
abbrev cX6_about : ByteArray := prog_30_method_75_code
def yX6_about : MethodName := ⟨RX6, "about", "(II)I"⟩
def dkwX6_about_4 : List UInt8 := [42, 27, 28, 5, 100, 182, 1, 67, 172]
abbrev dktX6_about_4 : List UInt8 := dkwX6_about_4 ++ []
def dkwX6_about_3 : List UInt8 := [153, 0, 7, 4, 167, 0, 28, 3, 167, 0, 24, 28, 8, 160, 0, 11, 42, 27, 182, 1, 83, 167, 0, 11]
abbrev dktX6_about_3 : List UInt8 := dkwX6_about_3 ++ dktX6_about_4
def dkwX6_about_2 : List UInt8 := [162, 0, 12, 42, 27, 28, 182, 1, 67, 167, 0, 45, 28, 7, 160, 0, 19, 42, 27, 182, 1, 80]
abbrev dktX6_about_2 : List UInt8 := dkwX6_about_2 ++ dktX6_about_3
def dkwX6_about_1 : List UInt8 := [184, 0, 59, 154, 0, 7, 4, 167, 0, 4, 3, 5, 182, 0, 80, 153, 0, 5, 3, 172, 28, 7]
abbrev dktX6_about_1 : List UInt8 := dkwX6_about_1 ++ dktX6_about_2
def dkwX6_about_0 : List UInt8 := [42, 3, 181, 0, 3, 42, 42, 27, 6, 182, 1, 20, 4, 182, 0, 80, 154, 0, 26, 42, 28, 3, 16, 7]
abbrev dktX6_about_0 : List UInt8 := dkwX6_about_0 ++ dktX6_about_1
theorem dksX6_about_0 : cX6_about.data.toList.drop 0 = dktX6_about_0 := by decide +kernel
theorem dksX6_about_1 : cX6_about.data.toList.drop 24 = dktX6_about_1 := dk_seg dksX6_about_0 24 rfl rfl
theorem dksX6_about_2 : cX6_about.data.toList.drop 46 = dktX6_about_2 := dk_seg dksX6_about_1 22 rfl rfl
theorem dksX6_about_3 : cX6_about.data.toList.drop 68 = dktX6_about_3 := dk_seg dksX6_about_2 22 rfl rfl
theorem dksX6_about_4 : cX6_about.data.toList.drop 92 = dktX6_about_4 := dk_seg dksX6_about_3 24 rfl rfl
theorem dX6_about_0 : decode cX6_about 0 = .ok (.aload_n 0, 1) := dk_42 (dk_at dksX6_about_0 0 rfl rfl)
theorem dX6_about_1 : decode cX6_about 1 = .ok (.iconst 0, 1) := dk_3 (dk_at dksX6_about_0 1 rfl rfl)
theorem dX6_about_2 : decode cX6_about 2 = .ok (.putfield 3, 3) := dk_181 0 3 (dk_at dksX6_about_0 2 rfl rfl)
theorem dX6_about_5 : decode cX6_about 5 = .ok (.aload_n 0, 1) := dk_42 (dk_at dksX6_about_0 5 rfl rfl)
theorem dX6_about_6 : decode cX6_about 6 = .ok (.aload_n 0, 1) := dk_42 (dk_at dksX6_about_0 6 rfl rfl)
theorem dX6_about_7 : decode cX6_about 7 = .ok (.iload_n 1, 1) := dk_27 (dk_at dksX6_about_0 7 rfl rfl)
theorem dX6_about_8 : decode cX6_about 8 = .ok (.iconst 3, 1) := dk_6 (dk_at dksX6_about_0 8 rfl rfl)
theorem dX6_about_9 : decode cX6_about 9 = .ok (.invokevirtual 276, 3) := dk_182 1 20 (dk_at dksX6_about_0 9 rfl rfl)
theorem dX6_about_12 : decode cX6_about 12 = .ok (.iconst 1, 1) := dk_4 (dk_at dksX6_about_0 12 rfl rfl)
theorem dX6_about_13 : decode cX6_about 13 = .ok (.invokevirtual 80, 3) := dk_182 0 80 (dk_at dksX6_about_0 13 rfl rfl)
theorem dX6_about_16 : decode cX6_about 16 = .ok (.ifCond .ne 26, 3) := dk_154 0 26 (dk_at dksX6_about_0 16 rfl rfl)
theorem dX6_about_19 : decode cX6_about 19 = .ok (.aload_n 0, 1) := dk_42 (dk_at dksX6_about_0 19 rfl rfl)
theorem dX6_about_20 : decode cX6_about 20 = .ok (.iload_n 2, 1) := dk_28 (dk_at dksX6_about_0 20 rfl rfl)
theorem dX6_about_21 : decode cX6_about 21 = .ok (.iconst 0, 1) := dk_3 (dk_at dksX6_about_0 21 rfl rfl)
theorem dX6_about_22 : decode cX6_about 22 = .ok (.bipush 7, 2) := dk_16 7 (dk_at dksX6_about_0 22 rfl rfl)
theorem dX6_about_24 : decode cX6_about 24 = .ok (.invokestatic 59, 3) := dk_184 0 59 (dk_at dksX6_about_1 0 rfl rfl)
theorem dX6_about_27 : decode cX6_about 27 = .ok (.ifCond .ne 7, 3) := dk_154 0 7 (dk_at dksX6_about_1 3 rfl rfl)
theorem dX6_about_30 : decode cX6_about 30 = .ok (.iconst 1, 1) := dk_4 (dk_at dksX6_about_1 6 rfl rfl)
theorem dX6_about_31 : decode cX6_about 31 = .ok (.goto 4, 3) := dk_167 0 4 (dk_at dksX6_about_1 7 rfl rfl)
theorem dX6_about_34 : decode cX6_about 34 = .ok (.iconst 0, 1) := dk_3 (dk_at dksX6_about_1 10 rfl rfl)
theorem dX6_about_35 : decode cX6_about 35 = .ok (.iconst 2, 1) := dk_5 (dk_at dksX6_about_1 11 rfl rfl)
theorem dX6_about_36 : decode cX6_about 36 = .ok (.invokevirtual 80, 3) := dk_182 0 80 (dk_at dksX6_about_1 12 rfl rfl)
theorem dX6_about_39 : decode cX6_about 39 = .ok (.ifCond .eq 5, 3) := dk_153 0 5 (dk_at dksX6_about_1 15 rfl rfl)
theorem dX6_about_42 : decode cX6_about 42 = .ok (.iconst 0, 1) := dk_3 (dk_at dksX6_about_1 18 rfl rfl)
theorem dX6_about_43 : decode cX6_about 43 = .ok (.ireturn, 1) := dk_172 (dk_at dksX6_about_1 19 rfl rfl)
theorem dX6_about_44 : decode cX6_about 44 = .ok (.iload_n 2, 1) := dk_28 (dk_at dksX6_about_1 20 rfl rfl)
theorem dX6_about_45 : decode cX6_about 45 = .ok (.iconst 4, 1) := dk_7 (dk_at dksX6_about_1 21 rfl rfl)
theorem dX6_about_46 : decode cX6_about 46 = .ok (.if_icmp .ge 12, 3) := dk_162 0 12 (dk_at dksX6_about_2 0 rfl rfl)
theorem dX6_about_49 : decode cX6_about 49 = .ok (.aload_n 0, 1) := dk_42 (dk_at dksX6_about_2 3 rfl rfl)
theorem dX6_about_50 : decode cX6_about 50 = .ok (.iload_n 1, 1) := dk_27 (dk_at dksX6_about_2 4 rfl rfl)
theorem dX6_about_51 : decode cX6_about 51 = .ok (.iload_n 2, 1) := dk_28 (dk_at dksX6_about_2 5 rfl rfl)
theorem dX6_about_52 : decode cX6_about 52 = .ok (.invokevirtual 323, 3) := dk_182 1 67 (dk_at dksX6_about_2 6 rfl rfl)
theorem dX6_about_55 : decode cX6_about 55 = .ok (.goto 45, 3) := dk_167 0 45 (dk_at dksX6_about_2 9 rfl rfl)
theorem dX6_about_58 : decode cX6_about 58 = .ok (.iload_n 2, 1) := dk_28 (dk_at dksX6_about_2 12 rfl rfl)
theorem dX6_about_59 : decode cX6_about 59 = .ok (.iconst 4, 1) := dk_7 (dk_at dksX6_about_2 13 rfl rfl)
theorem dX6_about_60 : decode cX6_about 60 = .ok (.if_icmp .ne 19, 3) := dk_160 0 19 (dk_at dksX6_about_2 14 rfl rfl)
theorem dX6_about_63 : decode cX6_about 63 = .ok (.aload_n 0, 1) := dk_42 (dk_at dksX6_about_2 17 rfl rfl)
theorem dX6_about_64 : decode cX6_about 64 = .ok (.iload_n 1, 1) := dk_27 (dk_at dksX6_about_2 18 rfl rfl)
theorem dX6_about_65 : decode cX6_about 65 = .ok (.invokevirtual 336, 3) := dk_182 1 80 (dk_at dksX6_about_2 19 rfl rfl)
theorem dX6_about_68 : decode cX6_about 68 = .ok (.ifCond .eq 7, 3) := dk_153 0 7 (dk_at dksX6_about_3 0 rfl rfl)
theorem dX6_about_71 : decode cX6_about 71 = .ok (.iconst 1, 1) := dk_4 (dk_at dksX6_about_3 3 rfl rfl)
theorem dX6_about_72 : decode cX6_about 72 = .ok (.goto 28, 3) := dk_167 0 28 (dk_at dksX6_about_3 4 rfl rfl)
theorem dX6_about_75 : decode cX6_about 75 = .ok (.iconst 0, 1) := dk_3 (dk_at dksX6_about_3 7 rfl rfl)
theorem dX6_about_76 : decode cX6_about 76 = .ok (.goto 24, 3) := dk_167 0 24 (dk_at dksX6_about_3 8 rfl rfl)
theorem dX6_about_79 : decode cX6_about 79 = .ok (.iload_n 2, 1) := dk_28 (dk_at dksX6_about_3 11 rfl rfl)
theorem dX6_about_80 : decode cX6_about 80 = .ok (.iconst 5, 1) := dk_8 (dk_at dksX6_about_3 12 rfl rfl)
theorem dX6_about_81 : decode cX6_about 81 = .ok (.if_icmp .ne 11, 3) := dk_160 0 11 (dk_at dksX6_about_3 13 rfl rfl)
theorem dX6_about_84 : decode cX6_about 84 = .ok (.aload_n 0, 1) := dk_42 (dk_at dksX6_about_3 16 rfl rfl)
theorem dX6_about_85 : decode cX6_about 85 = .ok (.iload_n 1, 1) := dk_27 (dk_at dksX6_about_3 17 rfl rfl)
theorem dX6_about_86 : decode cX6_about 86 = .ok (.invokevirtual 339, 3) := dk_182 1 83 (dk_at dksX6_about_3 18 rfl rfl)
theorem dX6_about_89 : decode cX6_about 89 = .ok (.goto 11, 3) := dk_167 0 11 (dk_at dksX6_about_3 21 rfl rfl)
theorem dX6_about_92 : decode cX6_about 92 = .ok (.aload_n 0, 1) := dk_42 (dk_at dksX6_about_4 0 rfl rfl)
theorem dX6_about_93 : decode cX6_about 93 = .ok (.iload_n 1, 1) := dk_27 (dk_at dksX6_about_4 1 rfl rfl)
theorem dX6_about_94 : decode cX6_about 94 = .ok (.iload_n 2, 1) := dk_28 (dk_at dksX6_about_4 2 rfl rfl)
theorem dX6_about_95 : decode cX6_about 95 = .ok (.iconst 2, 1) := dk_5 (dk_at dksX6_about_4 3 rfl rfl)
theorem dX6_about_96 : decode cX6_about 96 = .ok (.isub, 1) := dk_100 (dk_at dksX6_about_4 4 rfl rfl)
theorem dX6_about_97 : decode cX6_about 97 = .ok (.invokevirtual 323, 3) := dk_182 1 67 (dk_at dksX6_about_4 5 rfl rfl)
theorem dX6_about_100 : decode cX6_about 100 = .ok (.ireturn, 1) := dk_172 (dk_at dksX6_about_4 8 rfl rfl)
abbrev cX6_ofFind : ByteArray := prog_30_method_67_code
def yX6_ofFind : MethodName := ⟨RX6, "ofFind", "(II)I"⟩
def dkwX6_ofFind_0 : List UInt8 := [42, 180, 0, 13, 17, 1, 93, 16, 6, 27, 104, 96, 28, 96, 46, 172]
abbrev dktX6_ofFind_0 : List UInt8 := dkwX6_ofFind_0 ++ []
theorem dksX6_ofFind_0 : cX6_ofFind.data.toList.drop 0 = dktX6_ofFind_0 := by decide +kernel
theorem dX6_ofFind_0 : decode cX6_ofFind 0 = .ok (.aload_n 0, 1) := dk_42 (dk_at dksX6_ofFind_0 0 rfl rfl)
theorem dX6_ofFind_1 : decode cX6_ofFind 1 = .ok (.getfield 13, 3) := dk_180 0 13 (dk_at dksX6_ofFind_0 1 rfl rfl)
theorem dX6_ofFind_4 : decode cX6_ofFind 4 = .ok (.sipush 349, 3) := dk_17 1 93 (dk_at dksX6_ofFind_0 4 rfl rfl)
theorem dX6_ofFind_7 : decode cX6_ofFind 7 = .ok (.bipush 6, 2) := dk_16 6 (dk_at dksX6_ofFind_0 7 rfl rfl)
theorem dX6_ofFind_9 : decode cX6_ofFind 9 = .ok (.iload_n 1, 1) := dk_27 (dk_at dksX6_ofFind_0 9 rfl rfl)
theorem dX6_ofFind_10 : decode cX6_ofFind 10 = .ok (.imul, 1) := dk_104 (dk_at dksX6_ofFind_0 10 rfl rfl)
theorem dX6_ofFind_11 : decode cX6_ofFind 11 = .ok (.iadd, 1) := dk_96 (dk_at dksX6_ofFind_0 11 rfl rfl)
theorem dX6_ofFind_12 : decode cX6_ofFind 12 = .ok (.iload_n 2, 1) := dk_28 (dk_at dksX6_ofFind_0 12 rfl rfl)
theorem dX6_ofFind_13 : decode cX6_ofFind 13 = .ok (.iadd, 1) := dk_96 (dk_at dksX6_ofFind_0 13 rfl rfl)
theorem dX6_ofFind_14 : decode cX6_ofFind 14 = .ok (.iaload, 1) := dk_46 (dk_at dksX6_ofFind_0 14 rfl rfl)
theorem dX6_ofFind_15 : decode cX6_ofFind 15 = .ok (.ireturn, 1) := dk_172 (dk_at dksX6_ofFind_0 15 rfl rfl)
abbrev cX6_isSeen : ByteArray := prog_30_method_71_code
def yX6_isSeen : MethodName := ⟨RX6, "isSeen", "(I)Z"⟩
def dkwX6_isSeen_1 : List UInt8 := [16, 16, 108, 182, 1, 70, 153, 0, 7, 4, 167, 0, 4, 3, 172]
abbrev dktX6_isSeen_1 : List UInt8 := dkwX6_isSeen_1 ++ []
def dkwX6_isSeen_0 : List UInt8 := [42, 27, 5, 182, 1, 67, 42, 180, 0, 13, 16, 10, 46, 163, 0, 23, 42, 42, 27, 4, 182, 1, 67]
abbrev dktX6_isSeen_0 : List UInt8 := dkwX6_isSeen_0 ++ dktX6_isSeen_1
theorem dksX6_isSeen_0 : cX6_isSeen.data.toList.drop 0 = dktX6_isSeen_0 := by decide +kernel
theorem dksX6_isSeen_1 : cX6_isSeen.data.toList.drop 23 = dktX6_isSeen_1 := dk_seg dksX6_isSeen_0 23 rfl rfl
theorem dX6_isSeen_0 : decode cX6_isSeen 0 = .ok (.aload_n 0, 1) := dk_42 (dk_at dksX6_isSeen_0 0 rfl rfl)
theorem dX6_isSeen_1 : decode cX6_isSeen 1 = .ok (.iload_n 1, 1) := dk_27 (dk_at dksX6_isSeen_0 1 rfl rfl)
theorem dX6_isSeen_2 : decode cX6_isSeen 2 = .ok (.iconst 2, 1) := dk_5 (dk_at dksX6_isSeen_0 2 rfl rfl)
theorem dX6_isSeen_3 : decode cX6_isSeen 3 = .ok (.invokevirtual 323, 3) := dk_182 1 67 (dk_at dksX6_isSeen_0 3 rfl rfl)
theorem dX6_isSeen_6 : decode cX6_isSeen 6 = .ok (.aload_n 0, 1) := dk_42 (dk_at dksX6_isSeen_0 6 rfl rfl)
theorem dX6_isSeen_7 : decode cX6_isSeen 7 = .ok (.getfield 13, 3) := dk_180 0 13 (dk_at dksX6_isSeen_0 7 rfl rfl)
theorem dX6_isSeen_10 : decode cX6_isSeen 10 = .ok (.bipush 10, 2) := dk_16 10 (dk_at dksX6_isSeen_0 10 rfl rfl)
theorem dX6_isSeen_12 : decode cX6_isSeen 12 = .ok (.iaload, 1) := dk_46 (dk_at dksX6_isSeen_0 12 rfl rfl)
theorem dX6_isSeen_13 : decode cX6_isSeen 13 = .ok (.if_icmp .gt 23, 3) := dk_163 0 23 (dk_at dksX6_isSeen_0 13 rfl rfl)
theorem dX6_isSeen_16 : decode cX6_isSeen 16 = .ok (.aload_n 0, 1) := dk_42 (dk_at dksX6_isSeen_0 16 rfl rfl)
theorem dX6_isSeen_17 : decode cX6_isSeen 17 = .ok (.aload_n 0, 1) := dk_42 (dk_at dksX6_isSeen_0 17 rfl rfl)
theorem dX6_isSeen_18 : decode cX6_isSeen 18 = .ok (.iload_n 1, 1) := dk_27 (dk_at dksX6_isSeen_0 18 rfl rfl)
theorem dX6_isSeen_19 : decode cX6_isSeen 19 = .ok (.iconst 1, 1) := dk_4 (dk_at dksX6_isSeen_0 19 rfl rfl)
theorem dX6_isSeen_20 : decode cX6_isSeen 20 = .ok (.invokevirtual 323, 3) := dk_182 1 67 (dk_at dksX6_isSeen_0 20 rfl rfl)
theorem dX6_isSeen_23 : decode cX6_isSeen 23 = .ok (.bipush 16, 2) := dk_16 16 (dk_at dksX6_isSeen_1 0 rfl rfl)
theorem dX6_isSeen_25 : decode cX6_isSeen 25 = .ok (.idiv, 1) := dk_108 (dk_at dksX6_isSeen_1 2 rfl rfl)
theorem dX6_isSeen_26 : decode cX6_isSeen 26 = .ok (.invokevirtual 326, 3) := dk_182 1 70 (dk_at dksX6_isSeen_1 3 rfl rfl)
theorem dX6_isSeen_29 : decode cX6_isSeen 29 = .ok (.ifCond .eq 7, 3) := dk_153 0 7 (dk_at dksX6_isSeen_1 6 rfl rfl)
theorem dX6_isSeen_32 : decode cX6_isSeen 32 = .ok (.iconst 1, 1) := dk_4 (dk_at dksX6_isSeen_1 9 rfl rfl)
theorem dX6_isSeen_33 : decode cX6_isSeen 33 = .ok (.goto 4, 3) := dk_167 0 4 (dk_at dksX6_isSeen_1 10 rfl rfl)
theorem dX6_isSeen_36 : decode cX6_isSeen 36 = .ok (.iconst 0, 1) := dk_3 (dk_at dksX6_isSeen_1 13 rfl rfl)
theorem dX6_isSeen_37 : decode cX6_isSeen 37 = .ok (.ireturn, 1) := dk_172 (dk_at dksX6_isSeen_1 14 rfl rfl)
abbrev cX6_isCovered : ByteArray := prog_30_method_70_code
def yX6_isCovered : MethodName := ⟨RX6, "isCovered", "(I)Z"⟩
def dkwX6_isCovered_2 : List UInt8 := [167, 0, 4, 3, 61, 132, 3, 1, 167, 255, 206, 28, 172]
abbrev dktX6_isCovered_2 : List UInt8 := dkwX6_isCovered_2 ++ []
def dkwX6_isCovered_1 : List UInt8 := [126, 4, 160, 0, 23, 29, 27, 100, 184, 0, 63, 42, 180, 0, 13, 16, 11, 46, 163, 0, 7, 4]
abbrev dktX6_isCovered_1 : List UInt8 := dkwX6_isCovered_1 ++ dktX6_isCovered_2
def dkwX6_isCovered_0 : List UInt8 := [3, 61, 3, 62, 29, 16, 16, 162, 0, 50, 28, 154, 0, 34, 42, 180, 0, 13, 16, 12, 46, 29, 122, 4]
abbrev dktX6_isCovered_0 : List UInt8 := dkwX6_isCovered_0 ++ dktX6_isCovered_1
theorem dksX6_isCovered_0 : cX6_isCovered.data.toList.drop 0 = dktX6_isCovered_0 := by decide +kernel
theorem dksX6_isCovered_1 : cX6_isCovered.data.toList.drop 24 = dktX6_isCovered_1 := dk_seg dksX6_isCovered_0 24 rfl rfl
theorem dksX6_isCovered_2 : cX6_isCovered.data.toList.drop 46 = dktX6_isCovered_2 := dk_seg dksX6_isCovered_1 22 rfl rfl
theorem dX6_isCovered_0 : decode cX6_isCovered 0 = .ok (.iconst 0, 1) := dk_3 (dk_at dksX6_isCovered_0 0 rfl rfl)
theorem dX6_isCovered_1 : decode cX6_isCovered 1 = .ok (.istore_n 2, 1) := dk_61 (dk_at dksX6_isCovered_0 1 rfl rfl)
theorem dX6_isCovered_2 : decode cX6_isCovered 2 = .ok (.iconst 0, 1) := dk_3 (dk_at dksX6_isCovered_0 2 rfl rfl)
theorem dX6_isCovered_3 : decode cX6_isCovered 3 = .ok (.istore_n 3, 1) := dk_62 (dk_at dksX6_isCovered_0 3 rfl rfl)
theorem dX6_isCovered_4 : decode cX6_isCovered 4 = .ok (.iload_n 3, 1) := dk_29 (dk_at dksX6_isCovered_0 4 rfl rfl)
theorem dX6_isCovered_5 : decode cX6_isCovered 5 = .ok (.bipush 16, 2) := dk_16 16 (dk_at dksX6_isCovered_0 5 rfl rfl)
theorem dX6_isCovered_7 : decode cX6_isCovered 7 = .ok (.if_icmp .ge 50, 3) := dk_162 0 50 (dk_at dksX6_isCovered_0 7 rfl rfl)
theorem dX6_isCovered_10 : decode cX6_isCovered 10 = .ok (.iload_n 2, 1) := dk_28 (dk_at dksX6_isCovered_0 10 rfl rfl)
theorem dX6_isCovered_11 : decode cX6_isCovered 11 = .ok (.ifCond .ne 34, 3) := dk_154 0 34 (dk_at dksX6_isCovered_0 11 rfl rfl)
theorem dX6_isCovered_14 : decode cX6_isCovered 14 = .ok (.aload_n 0, 1) := dk_42 (dk_at dksX6_isCovered_0 14 rfl rfl)
theorem dX6_isCovered_15 : decode cX6_isCovered 15 = .ok (.getfield 13, 3) := dk_180 0 13 (dk_at dksX6_isCovered_0 15 rfl rfl)
theorem dX6_isCovered_18 : decode cX6_isCovered 18 = .ok (.bipush 12, 2) := dk_16 12 (dk_at dksX6_isCovered_0 18 rfl rfl)
theorem dX6_isCovered_20 : decode cX6_isCovered 20 = .ok (.iaload, 1) := dk_46 (dk_at dksX6_isCovered_0 20 rfl rfl)
theorem dX6_isCovered_21 : decode cX6_isCovered 21 = .ok (.iload_n 3, 1) := dk_29 (dk_at dksX6_isCovered_0 21 rfl rfl)
theorem dX6_isCovered_22 : decode cX6_isCovered 22 = .ok (.ishr, 1) := dk_122 (dk_at dksX6_isCovered_0 22 rfl rfl)
theorem dX6_isCovered_23 : decode cX6_isCovered 23 = .ok (.iconst 1, 1) := dk_4 (dk_at dksX6_isCovered_0 23 rfl rfl)
theorem dX6_isCovered_24 : decode cX6_isCovered 24 = .ok (.iand, 1) := dk_126 (dk_at dksX6_isCovered_1 0 rfl rfl)
theorem dX6_isCovered_25 : decode cX6_isCovered 25 = .ok (.iconst 1, 1) := dk_4 (dk_at dksX6_isCovered_1 1 rfl rfl)
theorem dX6_isCovered_26 : decode cX6_isCovered 26 = .ok (.if_icmp .ne 23, 3) := dk_160 0 23 (dk_at dksX6_isCovered_1 2 rfl rfl)
theorem dX6_isCovered_29 : decode cX6_isCovered 29 = .ok (.iload_n 3, 1) := dk_29 (dk_at dksX6_isCovered_1 5 rfl rfl)
theorem dX6_isCovered_30 : decode cX6_isCovered 30 = .ok (.iload_n 1, 1) := dk_27 (dk_at dksX6_isCovered_1 6 rfl rfl)
theorem dX6_isCovered_31 : decode cX6_isCovered 31 = .ok (.isub, 1) := dk_100 (dk_at dksX6_isCovered_1 7 rfl rfl)
theorem dX6_isCovered_32 : decode cX6_isCovered 32 = .ok (.invokestatic 63, 3) := dk_184 0 63 (dk_at dksX6_isCovered_1 8 rfl rfl)
theorem dX6_isCovered_35 : decode cX6_isCovered 35 = .ok (.aload_n 0, 1) := dk_42 (dk_at dksX6_isCovered_1 11 rfl rfl)
theorem dX6_isCovered_36 : decode cX6_isCovered 36 = .ok (.getfield 13, 3) := dk_180 0 13 (dk_at dksX6_isCovered_1 12 rfl rfl)
theorem dX6_isCovered_39 : decode cX6_isCovered 39 = .ok (.bipush 11, 2) := dk_16 11 (dk_at dksX6_isCovered_1 15 rfl rfl)
theorem dX6_isCovered_41 : decode cX6_isCovered 41 = .ok (.iaload, 1) := dk_46 (dk_at dksX6_isCovered_1 17 rfl rfl)
theorem dX6_isCovered_42 : decode cX6_isCovered 42 = .ok (.if_icmp .gt 7, 3) := dk_163 0 7 (dk_at dksX6_isCovered_1 18 rfl rfl)
theorem dX6_isCovered_45 : decode cX6_isCovered 45 = .ok (.iconst 1, 1) := dk_4 (dk_at dksX6_isCovered_1 21 rfl rfl)
theorem dX6_isCovered_46 : decode cX6_isCovered 46 = .ok (.goto 4, 3) := dk_167 0 4 (dk_at dksX6_isCovered_2 0 rfl rfl)
theorem dX6_isCovered_49 : decode cX6_isCovered 49 = .ok (.iconst 0, 1) := dk_3 (dk_at dksX6_isCovered_2 3 rfl rfl)
theorem dX6_isCovered_50 : decode cX6_isCovered 50 = .ok (.istore_n 2, 1) := dk_61 (dk_at dksX6_isCovered_2 4 rfl rfl)
theorem dX6_isCovered_51 : decode cX6_isCovered 51 = .ok (.iinc 3 1, 3) := dk_132 3 1 (dk_at dksX6_isCovered_2 5 rfl rfl)
theorem dX6_isCovered_54 : decode cX6_isCovered 54 = .ok (.goto (-50), 3) := dk_167 255 206 (dk_at dksX6_isCovered_2 8 rfl rfl)
theorem dX6_isCovered_57 : decode cX6_isCovered 57 = .ok (.iload_n 2, 1) := dk_28 (dk_at dksX6_isCovered_2 11 rfl rfl)
theorem dX6_isCovered_58 : decode cX6_isCovered 58 = .ok (.ireturn, 1) := dk_172 (dk_at dksX6_isCovered_2 12 rfl rfl)
abbrev cX6_mayBe : ByteArray := prog_30_method_72_code
def yX6_mayBe : MethodName := ⟨RX6, "mayBe", "(I)I"⟩
def dkwX6_mayBe_2 : List UInt8 := [120, 128, 61, 132, 3, 1, 167, 255, 206, 28, 172]
abbrev dktX6_mayBe_2 : List UInt8 := dkwX6_mayBe_2 ++ []
def dkwX6_mayBe_1 : List UInt8 := [42, 27, 6, 182, 1, 67, 42, 180, 0, 13, 17, 1, 13, 7, 29, 104, 96, 4, 96, 46, 122, 4, 126, 29]
abbrev dktX6_mayBe_1 : List UInt8 := dkwX6_mayBe_1 ++ dktX6_mayBe_2
def dkwX6_mayBe_0 : List UInt8 := [3, 61, 3, 62, 29, 42, 180, 0, 13, 3, 46, 162, 0, 46, 42, 27, 3, 182, 1, 73, 153, 0, 37, 28]
abbrev dktX6_mayBe_0 : List UInt8 := dkwX6_mayBe_0 ++ dktX6_mayBe_1
theorem dksX6_mayBe_0 : cX6_mayBe.data.toList.drop 0 = dktX6_mayBe_0 := by decide +kernel
theorem dksX6_mayBe_1 : cX6_mayBe.data.toList.drop 24 = dktX6_mayBe_1 := dk_seg dksX6_mayBe_0 24 rfl rfl
theorem dksX6_mayBe_2 : cX6_mayBe.data.toList.drop 48 = dktX6_mayBe_2 := dk_seg dksX6_mayBe_1 24 rfl rfl
theorem dX6_mayBe_0 : decode cX6_mayBe 0 = .ok (.iconst 0, 1) := dk_3 (dk_at dksX6_mayBe_0 0 rfl rfl)
theorem dX6_mayBe_1 : decode cX6_mayBe 1 = .ok (.istore_n 2, 1) := dk_61 (dk_at dksX6_mayBe_0 1 rfl rfl)
theorem dX6_mayBe_2 : decode cX6_mayBe 2 = .ok (.iconst 0, 1) := dk_3 (dk_at dksX6_mayBe_0 2 rfl rfl)
theorem dX6_mayBe_3 : decode cX6_mayBe 3 = .ok (.istore_n 3, 1) := dk_62 (dk_at dksX6_mayBe_0 3 rfl rfl)
theorem dX6_mayBe_4 : decode cX6_mayBe 4 = .ok (.iload_n 3, 1) := dk_29 (dk_at dksX6_mayBe_0 4 rfl rfl)
theorem dX6_mayBe_5 : decode cX6_mayBe 5 = .ok (.aload_n 0, 1) := dk_42 (dk_at dksX6_mayBe_0 5 rfl rfl)
theorem dX6_mayBe_6 : decode cX6_mayBe 6 = .ok (.getfield 13, 3) := dk_180 0 13 (dk_at dksX6_mayBe_0 6 rfl rfl)
theorem dX6_mayBe_9 : decode cX6_mayBe 9 = .ok (.iconst 0, 1) := dk_3 (dk_at dksX6_mayBe_0 9 rfl rfl)
theorem dX6_mayBe_10 : decode cX6_mayBe 10 = .ok (.iaload, 1) := dk_46 (dk_at dksX6_mayBe_0 10 rfl rfl)
theorem dX6_mayBe_11 : decode cX6_mayBe 11 = .ok (.if_icmp .ge 46, 3) := dk_162 0 46 (dk_at dksX6_mayBe_0 11 rfl rfl)
theorem dX6_mayBe_14 : decode cX6_mayBe 14 = .ok (.aload_n 0, 1) := dk_42 (dk_at dksX6_mayBe_0 14 rfl rfl)
theorem dX6_mayBe_15 : decode cX6_mayBe 15 = .ok (.iload_n 1, 1) := dk_27 (dk_at dksX6_mayBe_0 15 rfl rfl)
theorem dX6_mayBe_16 : decode cX6_mayBe 16 = .ok (.iconst 0, 1) := dk_3 (dk_at dksX6_mayBe_0 16 rfl rfl)
theorem dX6_mayBe_17 : decode cX6_mayBe 17 = .ok (.invokevirtual 329, 3) := dk_182 1 73 (dk_at dksX6_mayBe_0 17 rfl rfl)
theorem dX6_mayBe_20 : decode cX6_mayBe 20 = .ok (.ifCond .eq 37, 3) := dk_153 0 37 (dk_at dksX6_mayBe_0 20 rfl rfl)
theorem dX6_mayBe_23 : decode cX6_mayBe 23 = .ok (.iload_n 2, 1) := dk_28 (dk_at dksX6_mayBe_0 23 rfl rfl)
theorem dX6_mayBe_24 : decode cX6_mayBe 24 = .ok (.aload_n 0, 1) := dk_42 (dk_at dksX6_mayBe_1 0 rfl rfl)
theorem dX6_mayBe_25 : decode cX6_mayBe 25 = .ok (.iload_n 1, 1) := dk_27 (dk_at dksX6_mayBe_1 1 rfl rfl)
theorem dX6_mayBe_26 : decode cX6_mayBe 26 = .ok (.iconst 3, 1) := dk_6 (dk_at dksX6_mayBe_1 2 rfl rfl)
theorem dX6_mayBe_27 : decode cX6_mayBe 27 = .ok (.invokevirtual 323, 3) := dk_182 1 67 (dk_at dksX6_mayBe_1 3 rfl rfl)
theorem dX6_mayBe_30 : decode cX6_mayBe 30 = .ok (.aload_n 0, 1) := dk_42 (dk_at dksX6_mayBe_1 6 rfl rfl)
theorem dX6_mayBe_31 : decode cX6_mayBe 31 = .ok (.getfield 13, 3) := dk_180 0 13 (dk_at dksX6_mayBe_1 7 rfl rfl)
theorem dX6_mayBe_34 : decode cX6_mayBe 34 = .ok (.sipush 269, 3) := dk_17 1 13 (dk_at dksX6_mayBe_1 10 rfl rfl)
theorem dX6_mayBe_37 : decode cX6_mayBe 37 = .ok (.iconst 4, 1) := dk_7 (dk_at dksX6_mayBe_1 13 rfl rfl)
theorem dX6_mayBe_38 : decode cX6_mayBe 38 = .ok (.iload_n 3, 1) := dk_29 (dk_at dksX6_mayBe_1 14 rfl rfl)
theorem dX6_mayBe_39 : decode cX6_mayBe 39 = .ok (.imul, 1) := dk_104 (dk_at dksX6_mayBe_1 15 rfl rfl)
theorem dX6_mayBe_40 : decode cX6_mayBe 40 = .ok (.iadd, 1) := dk_96 (dk_at dksX6_mayBe_1 16 rfl rfl)
theorem dX6_mayBe_41 : decode cX6_mayBe 41 = .ok (.iconst 1, 1) := dk_4 (dk_at dksX6_mayBe_1 17 rfl rfl)
theorem dX6_mayBe_42 : decode cX6_mayBe 42 = .ok (.iadd, 1) := dk_96 (dk_at dksX6_mayBe_1 18 rfl rfl)
theorem dX6_mayBe_43 : decode cX6_mayBe 43 = .ok (.iaload, 1) := dk_46 (dk_at dksX6_mayBe_1 19 rfl rfl)
theorem dX6_mayBe_44 : decode cX6_mayBe 44 = .ok (.ishr, 1) := dk_122 (dk_at dksX6_mayBe_1 20 rfl rfl)
theorem dX6_mayBe_45 : decode cX6_mayBe 45 = .ok (.iconst 1, 1) := dk_4 (dk_at dksX6_mayBe_1 21 rfl rfl)
theorem dX6_mayBe_46 : decode cX6_mayBe 46 = .ok (.iand, 1) := dk_126 (dk_at dksX6_mayBe_1 22 rfl rfl)
theorem dX6_mayBe_47 : decode cX6_mayBe 47 = .ok (.iload_n 3, 1) := dk_29 (dk_at dksX6_mayBe_1 23 rfl rfl)
theorem dX6_mayBe_48 : decode cX6_mayBe 48 = .ok (.ishl, 1) := dk_120 (dk_at dksX6_mayBe_2 0 rfl rfl)
theorem dX6_mayBe_49 : decode cX6_mayBe 49 = .ok (.ior, 1) := dk_128 (dk_at dksX6_mayBe_2 1 rfl rfl)
theorem dX6_mayBe_50 : decode cX6_mayBe 50 = .ok (.istore_n 2, 1) := dk_61 (dk_at dksX6_mayBe_2 2 rfl rfl)
theorem dX6_mayBe_51 : decode cX6_mayBe 51 = .ok (.iinc 3 1, 3) := dk_132 3 1 (dk_at dksX6_mayBe_2 3 rfl rfl)
theorem dX6_mayBe_54 : decode cX6_mayBe 54 = .ok (.goto (-50), 3) := dk_167 255 206 (dk_at dksX6_mayBe_2 6 rfl rfl)
theorem dX6_mayBe_57 : decode cX6_mayBe 57 = .ok (.iload_n 2, 1) := dk_28 (dk_at dksX6_mayBe_2 9 rfl rfl)
theorem dX6_mayBe_58 : decode cX6_mayBe 58 = .ok (.ireturn, 1) := dk_172 (dk_at dksX6_mayBe_2 10 rfl rfl)
abbrev cX6_isKind : ByteArray := prog_30_method_69_code
def yX6_isKind : MethodName := ⟨RX6, "isKind", "(II)Z"⟩
def dkwX6_isKind_0 : List UInt8 := [42, 27, 3, 182, 1, 67, 28, 160, 0, 7, 4, 167, 0, 4, 3, 172]
abbrev dktX6_isKind_0 : List UInt8 := dkwX6_isKind_0 ++ []
theorem dksX6_isKind_0 : cX6_isKind.data.toList.drop 0 = dktX6_isKind_0 := by decide +kernel
theorem dX6_isKind_0 : decode cX6_isKind 0 = .ok (.aload_n 0, 1) := dk_42 (dk_at dksX6_isKind_0 0 rfl rfl)
theorem dX6_isKind_1 : decode cX6_isKind 1 = .ok (.iload_n 1, 1) := dk_27 (dk_at dksX6_isKind_0 1 rfl rfl)
theorem dX6_isKind_2 : decode cX6_isKind 2 = .ok (.iconst 0, 1) := dk_3 (dk_at dksX6_isKind_0 2 rfl rfl)
theorem dX6_isKind_3 : decode cX6_isKind 3 = .ok (.invokevirtual 323, 3) := dk_182 1 67 (dk_at dksX6_isKind_0 3 rfl rfl)
theorem dX6_isKind_6 : decode cX6_isKind 6 = .ok (.iload_n 2, 1) := dk_28 (dk_at dksX6_isKind_0 6 rfl rfl)
theorem dX6_isKind_7 : decode cX6_isKind 7 = .ok (.if_icmp .ne 7, 3) := dk_160 0 7 (dk_at dksX6_isKind_0 7 rfl rfl)
theorem dX6_isKind_10 : decode cX6_isKind 10 = .ok (.iconst 1, 1) := dk_4 (dk_at dksX6_isKind_0 10 rfl rfl)
theorem dX6_isKind_11 : decode cX6_isKind 11 = .ok (.goto 4, 3) := dk_167 0 4 (dk_at dksX6_isKind_0 11 rfl rfl)
theorem dX6_isKind_14 : decode cX6_isKind 14 = .ok (.iconst 0, 1) := dk_3 (dk_at dksX6_isKind_0 14 rfl rfl)
theorem dX6_isKind_15 : decode cX6_isKind 15 = .ok (.ireturn, 1) := dk_172 (dk_at dksX6_isKind_0 15 rfl rfl)
abbrev cX6_when : ByteArray := prog_30_method_76_code
def yX6_when : MethodName := ⟨RX6, "when", "(III)V"⟩
def dkwX6_when_3 : List UInt8 := [7, 96, 28, 79, 42, 180, 0, 13, 17, 1, 93, 16, 6, 27, 104, 96, 8, 96, 29, 79, 177]
abbrev dktX6_when_3 : List UInt8 := dkwX6_when_3 ++ []
def dkwX6_when_2 : List UInt8 := [167, 0, 4, 3, 5, 182, 0, 80, 153, 0, 4, 177, 42, 180, 0, 13, 17, 1, 93, 16, 6, 27, 104, 96]
abbrev dktX6_when_2 : List UInt8 := dkwX6_when_2 ++ dktX6_when_3
def dkwX6_when_1 : List UInt8 := [182, 1, 73, 153, 0, 19, 28, 3, 29, 184, 0, 59, 153, 0, 10, 29, 17, 0, 239, 164, 0, 7, 4]
abbrev dktX6_when_1 : List UInt8 := dkwX6_when_1 ++ dktX6_when_2
def dkwX6_when_0 : List UInt8 := [42, 3, 181, 0, 3, 42, 42, 27, 6, 182, 1, 20, 4, 182, 0, 80, 154, 0, 41, 42, 42, 27, 3]
abbrev dktX6_when_0 : List UInt8 := dkwX6_when_0 ++ dktX6_when_1
theorem dksX6_when_0 : cX6_when.data.toList.drop 0 = dktX6_when_0 := by decide +kernel
theorem dksX6_when_1 : cX6_when.data.toList.drop 23 = dktX6_when_1 := dk_seg dksX6_when_0 23 rfl rfl
theorem dksX6_when_2 : cX6_when.data.toList.drop 46 = dktX6_when_2 := dk_seg dksX6_when_1 23 rfl rfl
theorem dksX6_when_3 : cX6_when.data.toList.drop 70 = dktX6_when_3 := dk_seg dksX6_when_2 24 rfl rfl
theorem dX6_when_0 : decode cX6_when 0 = .ok (.aload_n 0, 1) := dk_42 (dk_at dksX6_when_0 0 rfl rfl)
theorem dX6_when_1 : decode cX6_when 1 = .ok (.iconst 0, 1) := dk_3 (dk_at dksX6_when_0 1 rfl rfl)
theorem dX6_when_2 : decode cX6_when 2 = .ok (.putfield 3, 3) := dk_181 0 3 (dk_at dksX6_when_0 2 rfl rfl)
theorem dX6_when_5 : decode cX6_when 5 = .ok (.aload_n 0, 1) := dk_42 (dk_at dksX6_when_0 5 rfl rfl)
theorem dX6_when_6 : decode cX6_when 6 = .ok (.aload_n 0, 1) := dk_42 (dk_at dksX6_when_0 6 rfl rfl)
theorem dX6_when_7 : decode cX6_when 7 = .ok (.iload_n 1, 1) := dk_27 (dk_at dksX6_when_0 7 rfl rfl)
theorem dX6_when_8 : decode cX6_when 8 = .ok (.iconst 3, 1) := dk_6 (dk_at dksX6_when_0 8 rfl rfl)
theorem dX6_when_9 : decode cX6_when 9 = .ok (.invokevirtual 276, 3) := dk_182 1 20 (dk_at dksX6_when_0 9 rfl rfl)
theorem dX6_when_12 : decode cX6_when 12 = .ok (.iconst 1, 1) := dk_4 (dk_at dksX6_when_0 12 rfl rfl)
theorem dX6_when_13 : decode cX6_when 13 = .ok (.invokevirtual 80, 3) := dk_182 0 80 (dk_at dksX6_when_0 13 rfl rfl)
theorem dX6_when_16 : decode cX6_when 16 = .ok (.ifCond .ne 41, 3) := dk_154 0 41 (dk_at dksX6_when_0 16 rfl rfl)
theorem dX6_when_19 : decode cX6_when 19 = .ok (.aload_n 0, 1) := dk_42 (dk_at dksX6_when_0 19 rfl rfl)
theorem dX6_when_20 : decode cX6_when 20 = .ok (.aload_n 0, 1) := dk_42 (dk_at dksX6_when_0 20 rfl rfl)
theorem dX6_when_21 : decode cX6_when 21 = .ok (.iload_n 1, 1) := dk_27 (dk_at dksX6_when_0 21 rfl rfl)
theorem dX6_when_22 : decode cX6_when 22 = .ok (.iconst 0, 1) := dk_3 (dk_at dksX6_when_0 22 rfl rfl)
theorem dX6_when_23 : decode cX6_when 23 = .ok (.invokevirtual 329, 3) := dk_182 1 73 (dk_at dksX6_when_1 0 rfl rfl)
theorem dX6_when_26 : decode cX6_when 26 = .ok (.ifCond .eq 19, 3) := dk_153 0 19 (dk_at dksX6_when_1 3 rfl rfl)
theorem dX6_when_29 : decode cX6_when 29 = .ok (.iload_n 2, 1) := dk_28 (dk_at dksX6_when_1 6 rfl rfl)
theorem dX6_when_30 : decode cX6_when 30 = .ok (.iconst 0, 1) := dk_3 (dk_at dksX6_when_1 7 rfl rfl)
theorem dX6_when_31 : decode cX6_when 31 = .ok (.iload_n 3, 1) := dk_29 (dk_at dksX6_when_1 8 rfl rfl)
theorem dX6_when_32 : decode cX6_when 32 = .ok (.invokestatic 59, 3) := dk_184 0 59 (dk_at dksX6_when_1 9 rfl rfl)
theorem dX6_when_35 : decode cX6_when 35 = .ok (.ifCond .eq 10, 3) := dk_153 0 10 (dk_at dksX6_when_1 12 rfl rfl)
theorem dX6_when_38 : decode cX6_when 38 = .ok (.iload_n 3, 1) := dk_29 (dk_at dksX6_when_1 15 rfl rfl)
theorem dX6_when_39 : decode cX6_when 39 = .ok (.sipush 239, 3) := dk_17 0 239 (dk_at dksX6_when_1 16 rfl rfl)
theorem dX6_when_42 : decode cX6_when 42 = .ok (.if_icmp .le 7, 3) := dk_164 0 7 (dk_at dksX6_when_1 19 rfl rfl)
theorem dX6_when_45 : decode cX6_when 45 = .ok (.iconst 1, 1) := dk_4 (dk_at dksX6_when_1 22 rfl rfl)
theorem dX6_when_46 : decode cX6_when 46 = .ok (.goto 4, 3) := dk_167 0 4 (dk_at dksX6_when_2 0 rfl rfl)
theorem dX6_when_49 : decode cX6_when 49 = .ok (.iconst 0, 1) := dk_3 (dk_at dksX6_when_2 3 rfl rfl)
theorem dX6_when_50 : decode cX6_when 50 = .ok (.iconst 2, 1) := dk_5 (dk_at dksX6_when_2 4 rfl rfl)
theorem dX6_when_51 : decode cX6_when 51 = .ok (.invokevirtual 80, 3) := dk_182 0 80 (dk_at dksX6_when_2 5 rfl rfl)
theorem dX6_when_54 : decode cX6_when 54 = .ok (.ifCond .eq 4, 3) := dk_153 0 4 (dk_at dksX6_when_2 8 rfl rfl)
theorem dX6_when_57 : decode cX6_when 57 = .ok (.return_, 1) := dk_177 (dk_at dksX6_when_2 11 rfl rfl)
theorem dX6_when_58 : decode cX6_when 58 = .ok (.aload_n 0, 1) := dk_42 (dk_at dksX6_when_2 12 rfl rfl)
theorem dX6_when_59 : decode cX6_when 59 = .ok (.getfield 13, 3) := dk_180 0 13 (dk_at dksX6_when_2 13 rfl rfl)
theorem dX6_when_62 : decode cX6_when 62 = .ok (.sipush 349, 3) := dk_17 1 93 (dk_at dksX6_when_2 16 rfl rfl)
theorem dX6_when_65 : decode cX6_when 65 = .ok (.bipush 6, 2) := dk_16 6 (dk_at dksX6_when_2 19 rfl rfl)
theorem dX6_when_67 : decode cX6_when 67 = .ok (.iload_n 1, 1) := dk_27 (dk_at dksX6_when_2 21 rfl rfl)
theorem dX6_when_68 : decode cX6_when 68 = .ok (.imul, 1) := dk_104 (dk_at dksX6_when_2 22 rfl rfl)
theorem dX6_when_69 : decode cX6_when 69 = .ok (.iadd, 1) := dk_96 (dk_at dksX6_when_2 23 rfl rfl)
theorem dX6_when_70 : decode cX6_when 70 = .ok (.iconst 4, 1) := dk_7 (dk_at dksX6_when_3 0 rfl rfl)
theorem dX6_when_71 : decode cX6_when 71 = .ok (.iadd, 1) := dk_96 (dk_at dksX6_when_3 1 rfl rfl)
theorem dX6_when_72 : decode cX6_when 72 = .ok (.iload_n 2, 1) := dk_28 (dk_at dksX6_when_3 2 rfl rfl)
theorem dX6_when_73 : decode cX6_when 73 = .ok (.iastore, 1) := dk_79 (dk_at dksX6_when_3 3 rfl rfl)
theorem dX6_when_74 : decode cX6_when 74 = .ok (.aload_n 0, 1) := dk_42 (dk_at dksX6_when_3 4 rfl rfl)
theorem dX6_when_75 : decode cX6_when 75 = .ok (.getfield 13, 3) := dk_180 0 13 (dk_at dksX6_when_3 5 rfl rfl)
theorem dX6_when_78 : decode cX6_when 78 = .ok (.sipush 349, 3) := dk_17 1 93 (dk_at dksX6_when_3 8 rfl rfl)
theorem dX6_when_81 : decode cX6_when 81 = .ok (.bipush 6, 2) := dk_16 6 (dk_at dksX6_when_3 11 rfl rfl)
theorem dX6_when_83 : decode cX6_when 83 = .ok (.iload_n 1, 1) := dk_27 (dk_at dksX6_when_3 13 rfl rfl)
theorem dX6_when_84 : decode cX6_when 84 = .ok (.imul, 1) := dk_104 (dk_at dksX6_when_3 14 rfl rfl)
theorem dX6_when_85 : decode cX6_when 85 = .ok (.iadd, 1) := dk_96 (dk_at dksX6_when_3 15 rfl rfl)
theorem dX6_when_86 : decode cX6_when 86 = .ok (.iconst 5, 1) := dk_8 (dk_at dksX6_when_3 16 rfl rfl)
theorem dX6_when_87 : decode cX6_when 87 = .ok (.iadd, 1) := dk_96 (dk_at dksX6_when_3 17 rfl rfl)
theorem dX6_when_88 : decode cX6_when 88 = .ok (.iload_n 3, 1) := dk_29 (dk_at dksX6_when_3 18 rfl rfl)
theorem dX6_when_89 : decode cX6_when 89 = .ok (.iastore, 1) := dk_79 (dk_at dksX6_when_3 19 rfl rfl)
theorem dX6_when_90 : decode cX6_when 90 = .ok (.return_, 1) := dk_177 (dk_at dksX6_when_3 20 rfl rfl)
abbrev cX6_machine : ByteArray := prog_30_method_77_code
def yX6_machine : MethodName := ⟨RX6, "machine", "(II)V"⟩
def dkwX6_machine_2 : List UInt8 := [42, 180, 0, 13, 16, 11, 28, 79, 177]
abbrev dktX6_machine_2 : List UInt8 := dkwX6_machine_2 ++ []
def dkwX6_machine_1 : List UInt8 := [154, 0, 7, 4, 167, 0, 4, 3, 4, 182, 0, 80, 153, 0, 4, 177, 42, 180, 0, 13, 16, 10, 27, 79]
abbrev dktX6_machine_1 : List UInt8 := dkwX6_machine_1 ++ dktX6_machine_2
def dkwX6_machine_0 : List UInt8 := [42, 3, 181, 0, 3, 42, 27, 3, 16, 9, 184, 0, 59, 153, 0, 12, 28, 3, 6, 184, 0, 59]
abbrev dktX6_machine_0 : List UInt8 := dkwX6_machine_0 ++ dktX6_machine_1
theorem dksX6_machine_0 : cX6_machine.data.toList.drop 0 = dktX6_machine_0 := by decide +kernel
theorem dksX6_machine_1 : cX6_machine.data.toList.drop 22 = dktX6_machine_1 := dk_seg dksX6_machine_0 22 rfl rfl
theorem dksX6_machine_2 : cX6_machine.data.toList.drop 46 = dktX6_machine_2 := dk_seg dksX6_machine_1 24 rfl rfl
theorem dX6_machine_0 : decode cX6_machine 0 = .ok (.aload_n 0, 1) := dk_42 (dk_at dksX6_machine_0 0 rfl rfl)
theorem dX6_machine_1 : decode cX6_machine 1 = .ok (.iconst 0, 1) := dk_3 (dk_at dksX6_machine_0 1 rfl rfl)
theorem dX6_machine_2 : decode cX6_machine 2 = .ok (.putfield 3, 3) := dk_181 0 3 (dk_at dksX6_machine_0 2 rfl rfl)
theorem dX6_machine_5 : decode cX6_machine 5 = .ok (.aload_n 0, 1) := dk_42 (dk_at dksX6_machine_0 5 rfl rfl)
theorem dX6_machine_6 : decode cX6_machine 6 = .ok (.iload_n 1, 1) := dk_27 (dk_at dksX6_machine_0 6 rfl rfl)
theorem dX6_machine_7 : decode cX6_machine 7 = .ok (.iconst 0, 1) := dk_3 (dk_at dksX6_machine_0 7 rfl rfl)
theorem dX6_machine_8 : decode cX6_machine 8 = .ok (.bipush 9, 2) := dk_16 9 (dk_at dksX6_machine_0 8 rfl rfl)
theorem dX6_machine_10 : decode cX6_machine 10 = .ok (.invokestatic 59, 3) := dk_184 0 59 (dk_at dksX6_machine_0 10 rfl rfl)
theorem dX6_machine_13 : decode cX6_machine 13 = .ok (.ifCond .eq 12, 3) := dk_153 0 12 (dk_at dksX6_machine_0 13 rfl rfl)
theorem dX6_machine_16 : decode cX6_machine 16 = .ok (.iload_n 2, 1) := dk_28 (dk_at dksX6_machine_0 16 rfl rfl)
theorem dX6_machine_17 : decode cX6_machine 17 = .ok (.iconst 0, 1) := dk_3 (dk_at dksX6_machine_0 17 rfl rfl)
theorem dX6_machine_18 : decode cX6_machine 18 = .ok (.iconst 3, 1) := dk_6 (dk_at dksX6_machine_0 18 rfl rfl)
theorem dX6_machine_19 : decode cX6_machine 19 = .ok (.invokestatic 59, 3) := dk_184 0 59 (dk_at dksX6_machine_0 19 rfl rfl)
theorem dX6_machine_22 : decode cX6_machine 22 = .ok (.ifCond .ne 7, 3) := dk_154 0 7 (dk_at dksX6_machine_1 0 rfl rfl)
theorem dX6_machine_25 : decode cX6_machine 25 = .ok (.iconst 1, 1) := dk_4 (dk_at dksX6_machine_1 3 rfl rfl)
theorem dX6_machine_26 : decode cX6_machine 26 = .ok (.goto 4, 3) := dk_167 0 4 (dk_at dksX6_machine_1 4 rfl rfl)
theorem dX6_machine_29 : decode cX6_machine 29 = .ok (.iconst 0, 1) := dk_3 (dk_at dksX6_machine_1 7 rfl rfl)
theorem dX6_machine_30 : decode cX6_machine 30 = .ok (.iconst 1, 1) := dk_4 (dk_at dksX6_machine_1 8 rfl rfl)
theorem dX6_machine_31 : decode cX6_machine 31 = .ok (.invokevirtual 80, 3) := dk_182 0 80 (dk_at dksX6_machine_1 9 rfl rfl)
theorem dX6_machine_34 : decode cX6_machine 34 = .ok (.ifCond .eq 4, 3) := dk_153 0 4 (dk_at dksX6_machine_1 12 rfl rfl)
theorem dX6_machine_37 : decode cX6_machine 37 = .ok (.return_, 1) := dk_177 (dk_at dksX6_machine_1 15 rfl rfl)
theorem dX6_machine_38 : decode cX6_machine 38 = .ok (.aload_n 0, 1) := dk_42 (dk_at dksX6_machine_1 16 rfl rfl)
theorem dX6_machine_39 : decode cX6_machine 39 = .ok (.getfield 13, 3) := dk_180 0 13 (dk_at dksX6_machine_1 17 rfl rfl)
theorem dX6_machine_42 : decode cX6_machine 42 = .ok (.bipush 10, 2) := dk_16 10 (dk_at dksX6_machine_1 20 rfl rfl)
theorem dX6_machine_44 : decode cX6_machine 44 = .ok (.iload_n 1, 1) := dk_27 (dk_at dksX6_machine_1 22 rfl rfl)
theorem dX6_machine_45 : decode cX6_machine 45 = .ok (.iastore, 1) := dk_79 (dk_at dksX6_machine_1 23 rfl rfl)
theorem dX6_machine_46 : decode cX6_machine 46 = .ok (.aload_n 0, 1) := dk_42 (dk_at dksX6_machine_2 0 rfl rfl)
theorem dX6_machine_47 : decode cX6_machine 47 = .ok (.getfield 13, 3) := dk_180 0 13 (dk_at dksX6_machine_2 1 rfl rfl)
theorem dX6_machine_50 : decode cX6_machine 50 = .ok (.bipush 11, 2) := dk_16 11 (dk_at dksX6_machine_2 4 rfl rfl)
theorem dX6_machine_52 : decode cX6_machine 52 = .ok (.iload_n 2, 1) := dk_28 (dk_at dksX6_machine_2 6 rfl rfl)
theorem dX6_machine_53 : decode cX6_machine 53 = .ok (.iastore, 1) := dk_79 (dk_at dksX6_machine_2 7 rfl rfl)
theorem dX6_machine_54 : decode cX6_machine 54 = .ok (.return_, 1) := dk_177 (dk_at dksX6_machine_2 8 rfl rfl)
abbrev cX6_walk : ByteArray := prog_30_method_80_code
def yX6_walk : MethodName := ⟨RX6, "walk", "(I)I"⟩
def dkwX6_walk_1 : List UInt8 := [42, 180, 0, 13, 16, 12, 92, 46, 4, 27, 120, 128, 79, 42, 182, 1, 89, 28, 100, 172]
abbrev dktX6_walk_1 : List UInt8 := dkwX6_walk_1 ++ []
def dkwX6_walk_0 : List UInt8 := [42, 3, 181, 0, 3, 42, 27, 184, 1, 86, 4, 182, 0, 80, 153, 0, 5, 3, 172, 42, 182, 1, 89, 61]
abbrev dktX6_walk_0 : List UInt8 := dkwX6_walk_0 ++ dktX6_walk_1
theorem dksX6_walk_0 : cX6_walk.data.toList.drop 0 = dktX6_walk_0 := by decide +kernel
theorem dksX6_walk_1 : cX6_walk.data.toList.drop 24 = dktX6_walk_1 := dk_seg dksX6_walk_0 24 rfl rfl
theorem dX6_walk_0 : decode cX6_walk 0 = .ok (.aload_n 0, 1) := dk_42 (dk_at dksX6_walk_0 0 rfl rfl)
theorem dX6_walk_1 : decode cX6_walk 1 = .ok (.iconst 0, 1) := dk_3 (dk_at dksX6_walk_0 1 rfl rfl)
theorem dX6_walk_2 : decode cX6_walk 2 = .ok (.putfield 3, 3) := dk_181 0 3 (dk_at dksX6_walk_0 2 rfl rfl)
theorem dX6_walk_5 : decode cX6_walk 5 = .ok (.aload_n 0, 1) := dk_42 (dk_at dksX6_walk_0 5 rfl rfl)
theorem dX6_walk_6 : decode cX6_walk 6 = .ok (.iload_n 1, 1) := dk_27 (dk_at dksX6_walk_0 6 rfl rfl)
theorem dX6_walk_7 : decode cX6_walk 7 = .ok (.invokestatic 342, 3) := dk_184 1 86 (dk_at dksX6_walk_0 7 rfl rfl)
theorem dX6_walk_10 : decode cX6_walk 10 = .ok (.iconst 1, 1) := dk_4 (dk_at dksX6_walk_0 10 rfl rfl)
theorem dX6_walk_11 : decode cX6_walk 11 = .ok (.invokevirtual 80, 3) := dk_182 0 80 (dk_at dksX6_walk_0 11 rfl rfl)
theorem dX6_walk_14 : decode cX6_walk 14 = .ok (.ifCond .eq 5, 3) := dk_153 0 5 (dk_at dksX6_walk_0 14 rfl rfl)
theorem dX6_walk_17 : decode cX6_walk 17 = .ok (.iconst 0, 1) := dk_3 (dk_at dksX6_walk_0 17 rfl rfl)
theorem dX6_walk_18 : decode cX6_walk 18 = .ok (.ireturn, 1) := dk_172 (dk_at dksX6_walk_0 18 rfl rfl)
theorem dX6_walk_19 : decode cX6_walk 19 = .ok (.aload_n 0, 1) := dk_42 (dk_at dksX6_walk_0 19 rfl rfl)
theorem dX6_walk_20 : decode cX6_walk 20 = .ok (.invokevirtual 345, 3) := dk_182 1 89 (dk_at dksX6_walk_0 20 rfl rfl)
theorem dX6_walk_23 : decode cX6_walk 23 = .ok (.istore_n 2, 1) := dk_61 (dk_at dksX6_walk_0 23 rfl rfl)
theorem dX6_walk_24 : decode cX6_walk 24 = .ok (.aload_n 0, 1) := dk_42 (dk_at dksX6_walk_1 0 rfl rfl)
theorem dX6_walk_25 : decode cX6_walk 25 = .ok (.getfield 13, 3) := dk_180 0 13 (dk_at dksX6_walk_1 1 rfl rfl)
theorem dX6_walk_28 : decode cX6_walk 28 = .ok (.bipush 12, 2) := dk_16 12 (dk_at dksX6_walk_1 4 rfl rfl)
theorem dX6_walk_30 : decode cX6_walk 30 = .ok (.dup2, 1) := dk_92 (dk_at dksX6_walk_1 6 rfl rfl)
theorem dX6_walk_31 : decode cX6_walk 31 = .ok (.iaload, 1) := dk_46 (dk_at dksX6_walk_1 7 rfl rfl)
theorem dX6_walk_32 : decode cX6_walk 32 = .ok (.iconst 1, 1) := dk_4 (dk_at dksX6_walk_1 8 rfl rfl)
theorem dX6_walk_33 : decode cX6_walk 33 = .ok (.iload_n 1, 1) := dk_27 (dk_at dksX6_walk_1 9 rfl rfl)
theorem dX6_walk_34 : decode cX6_walk 34 = .ok (.ishl, 1) := dk_120 (dk_at dksX6_walk_1 10 rfl rfl)
theorem dX6_walk_35 : decode cX6_walk 35 = .ok (.ior, 1) := dk_128 (dk_at dksX6_walk_1 11 rfl rfl)
theorem dX6_walk_36 : decode cX6_walk 36 = .ok (.iastore, 1) := dk_79 (dk_at dksX6_walk_1 12 rfl rfl)
theorem dX6_walk_37 : decode cX6_walk 37 = .ok (.aload_n 0, 1) := dk_42 (dk_at dksX6_walk_1 13 rfl rfl)
theorem dX6_walk_38 : decode cX6_walk 38 = .ok (.invokevirtual 345, 3) := dk_182 1 89 (dk_at dksX6_walk_1 14 rfl rfl)
theorem dX6_walk_41 : decode cX6_walk 41 = .ok (.iload_n 2, 1) := dk_28 (dk_at dksX6_walk_1 17 rfl rfl)
theorem dX6_walk_42 : decode cX6_walk 42 = .ok (.isub, 1) := dk_100 (dk_at dksX6_walk_1 18 rfl rfl)
theorem dX6_walk_43 : decode cX6_walk 43 = .ok (.ireturn, 1) := dk_172 (dk_at dksX6_walk_1 19 rfl rfl)
abbrev cX6_noRow : ByteArray := prog_30_method_79_code
def yX6_noRow : MethodName := ⟨RX6, "noRow", "(I)Z"⟩
def dkwX6_noRow_0 : List UInt8 := [26, 3, 16, 15, 184, 0, 59, 154, 0, 7, 4, 167, 0, 4, 3, 172]
abbrev dktX6_noRow_0 : List UInt8 := dkwX6_noRow_0 ++ []
theorem dksX6_noRow_0 : cX6_noRow.data.toList.drop 0 = dktX6_noRow_0 := by decide +kernel
theorem dX6_noRow_0 : decode cX6_noRow 0 = .ok (.iload_n 0, 1) := dk_26 (dk_at dksX6_noRow_0 0 rfl rfl)
theorem dX6_noRow_1 : decode cX6_noRow 1 = .ok (.iconst 0, 1) := dk_3 (dk_at dksX6_noRow_0 1 rfl rfl)
theorem dX6_noRow_2 : decode cX6_noRow 2 = .ok (.bipush 15, 2) := dk_16 15 (dk_at dksX6_noRow_0 2 rfl rfl)
theorem dX6_noRow_4 : decode cX6_noRow 4 = .ok (.invokestatic 59, 3) := dk_184 0 59 (dk_at dksX6_noRow_0 4 rfl rfl)
theorem dX6_noRow_7 : decode cX6_noRow 7 = .ok (.ifCond .ne 7, 3) := dk_154 0 7 (dk_at dksX6_noRow_0 7 rfl rfl)
theorem dX6_noRow_10 : decode cX6_noRow 10 = .ok (.iconst 1, 1) := dk_4 (dk_at dksX6_noRow_0 10 rfl rfl)
theorem dX6_noRow_11 : decode cX6_noRow 11 = .ok (.goto 4, 3) := dk_167 0 4 (dk_at dksX6_noRow_0 11 rfl rfl)
theorem dX6_noRow_14 : decode cX6_noRow 14 = .ok (.iconst 0, 1) := dk_3 (dk_at dksX6_noRow_0 14 rfl rfl)
theorem dX6_noRow_15 : decode cX6_noRow 15 = .ok (.ireturn, 1) := dk_172 (dk_at dksX6_noRow_0 15 rfl rfl)
abbrev cX6_seenMany : ByteArray := prog_30_method_78_code
def yX6_seenMany : MethodName := ⟨RX6, "seenMany", "()I"⟩
def dkwX6_seenMany_1 : List UInt8 := [167, 0, 4, 3, 96, 60, 132, 2, 1, 167, 255, 229, 27, 172]
abbrev dktX6_seenMany_1 : List UInt8 := dkwX6_seenMany_1 ++ []
def dkwX6_seenMany_0 : List UInt8 := [3, 60, 3, 61, 28, 42, 182, 1, 77, 162, 0, 25, 27, 42, 28, 182, 1, 80, 153, 0, 7, 4]
abbrev dktX6_seenMany_0 : List UInt8 := dkwX6_seenMany_0 ++ dktX6_seenMany_1
theorem dksX6_seenMany_0 : cX6_seenMany.data.toList.drop 0 = dktX6_seenMany_0 := by decide +kernel
theorem dksX6_seenMany_1 : cX6_seenMany.data.toList.drop 22 = dktX6_seenMany_1 := dk_seg dksX6_seenMany_0 22 rfl rfl
theorem dX6_seenMany_0 : decode cX6_seenMany 0 = .ok (.iconst 0, 1) := dk_3 (dk_at dksX6_seenMany_0 0 rfl rfl)
theorem dX6_seenMany_1 : decode cX6_seenMany 1 = .ok (.istore_n 1, 1) := dk_60 (dk_at dksX6_seenMany_0 1 rfl rfl)
theorem dX6_seenMany_2 : decode cX6_seenMany 2 = .ok (.iconst 0, 1) := dk_3 (dk_at dksX6_seenMany_0 2 rfl rfl)
theorem dX6_seenMany_3 : decode cX6_seenMany 3 = .ok (.istore_n 2, 1) := dk_61 (dk_at dksX6_seenMany_0 3 rfl rfl)
theorem dX6_seenMany_4 : decode cX6_seenMany 4 = .ok (.iload_n 2, 1) := dk_28 (dk_at dksX6_seenMany_0 4 rfl rfl)
theorem dX6_seenMany_5 : decode cX6_seenMany 5 = .ok (.aload_n 0, 1) := dk_42 (dk_at dksX6_seenMany_0 5 rfl rfl)
theorem dX6_seenMany_6 : decode cX6_seenMany 6 = .ok (.invokevirtual 333, 3) := dk_182 1 77 (dk_at dksX6_seenMany_0 6 rfl rfl)
theorem dX6_seenMany_9 : decode cX6_seenMany 9 = .ok (.if_icmp .ge 25, 3) := dk_162 0 25 (dk_at dksX6_seenMany_0 9 rfl rfl)
theorem dX6_seenMany_12 : decode cX6_seenMany 12 = .ok (.iload_n 1, 1) := dk_27 (dk_at dksX6_seenMany_0 12 rfl rfl)
theorem dX6_seenMany_13 : decode cX6_seenMany 13 = .ok (.aload_n 0, 1) := dk_42 (dk_at dksX6_seenMany_0 13 rfl rfl)
theorem dX6_seenMany_14 : decode cX6_seenMany 14 = .ok (.iload_n 2, 1) := dk_28 (dk_at dksX6_seenMany_0 14 rfl rfl)
theorem dX6_seenMany_15 : decode cX6_seenMany 15 = .ok (.invokevirtual 336, 3) := dk_182 1 80 (dk_at dksX6_seenMany_0 15 rfl rfl)
theorem dX6_seenMany_18 : decode cX6_seenMany 18 = .ok (.ifCond .eq 7, 3) := dk_153 0 7 (dk_at dksX6_seenMany_0 18 rfl rfl)
theorem dX6_seenMany_21 : decode cX6_seenMany 21 = .ok (.iconst 1, 1) := dk_4 (dk_at dksX6_seenMany_0 21 rfl rfl)
theorem dX6_seenMany_22 : decode cX6_seenMany 22 = .ok (.goto 4, 3) := dk_167 0 4 (dk_at dksX6_seenMany_1 0 rfl rfl)
theorem dX6_seenMany_25 : decode cX6_seenMany 25 = .ok (.iconst 0, 1) := dk_3 (dk_at dksX6_seenMany_1 3 rfl rfl)
theorem dX6_seenMany_26 : decode cX6_seenMany 26 = .ok (.iadd, 1) := dk_96 (dk_at dksX6_seenMany_1 4 rfl rfl)
theorem dX6_seenMany_27 : decode cX6_seenMany 27 = .ok (.istore_n 1, 1) := dk_60 (dk_at dksX6_seenMany_1 5 rfl rfl)
theorem dX6_seenMany_28 : decode cX6_seenMany 28 = .ok (.iinc 2 1, 3) := dk_132 2 1 (dk_at dksX6_seenMany_1 6 rfl rfl)
theorem dX6_seenMany_31 : decode cX6_seenMany 31 = .ok (.goto (-27), 3) := dk_167 255 229 (dk_at dksX6_seenMany_1 9 rfl rfl)
theorem dX6_seenMany_34 : decode cX6_seenMany 34 = .ok (.iload_n 1, 1) := dk_27 (dk_at dksX6_seenMany_1 12 rfl rfl)
theorem dX6_seenMany_35 : decode cX6_seenMany 35 = .ok (.ireturn, 1) := dk_172 (dk_at dksX6_seenMany_1 13 rfl rfl)
abbrev cX6_next : ByteArray := prog_30_method_81_code
def yX6_next : MethodName := ⟨RX6, "next", "()I"⟩
def dkwX6_next_4 : List UInt8 := [180, 0, 13, 16, 12, 28, 79, 29, 172]
abbrev dktX6_next_4 : List UInt8 := dkwX6_next_4 ++ []
def dkwX6_next_3 : List UInt8 := [21, 6, 21, 4, 163, 0, 6, 167, 0, 10, 21, 5, 62, 21, 6, 54, 4, 132, 5, 1, 167, 255, 191, 42]
abbrev dktX6_next_3 : List UInt8 := dkwX6_next_3 ++ dktX6_next_4
def dkwX6_next_2 : List UInt8 := [180, 0, 13, 16, 12, 28, 4, 21, 5, 120, 128, 79, 42, 182, 1, 89, 27, 100, 54, 6, 29, 155, 0, 13]
abbrev dktX6_next_2 : List UInt8 := dkwX6_next_2 ++ dktX6_next_3
def dkwX6_next_1 : List UInt8 := [54, 5, 21, 5, 16, 16, 162, 0, 64, 28, 21, 5, 122, 4, 126, 4, 160, 0, 6, 167, 0, 45, 42]
abbrev dktX6_next_1 : List UInt8 := dkwX6_next_1 ++ dktX6_next_2
def dkwX6_next_0 : List UInt8 := [42, 3, 181, 0, 3, 42, 182, 1, 89, 60, 42, 180, 0, 13, 16, 12, 46, 61, 2, 62, 3, 54, 4, 3]
abbrev dktX6_next_0 : List UInt8 := dkwX6_next_0 ++ dktX6_next_1
theorem dksX6_next_0 : cX6_next.data.toList.drop 0 = dktX6_next_0 := by decide +kernel
theorem dksX6_next_1 : cX6_next.data.toList.drop 24 = dktX6_next_1 := dk_seg dksX6_next_0 24 rfl rfl
theorem dksX6_next_2 : cX6_next.data.toList.drop 47 = dktX6_next_2 := dk_seg dksX6_next_1 23 rfl rfl
theorem dksX6_next_3 : cX6_next.data.toList.drop 71 = dktX6_next_3 := dk_seg dksX6_next_2 24 rfl rfl
theorem dksX6_next_4 : cX6_next.data.toList.drop 95 = dktX6_next_4 := dk_seg dksX6_next_3 24 rfl rfl
theorem dX6_next_0 : decode cX6_next 0 = .ok (.aload_n 0, 1) := dk_42 (dk_at dksX6_next_0 0 rfl rfl)
theorem dX6_next_1 : decode cX6_next 1 = .ok (.iconst 0, 1) := dk_3 (dk_at dksX6_next_0 1 rfl rfl)
theorem dX6_next_2 : decode cX6_next 2 = .ok (.putfield 3, 3) := dk_181 0 3 (dk_at dksX6_next_0 2 rfl rfl)
theorem dX6_next_5 : decode cX6_next 5 = .ok (.aload_n 0, 1) := dk_42 (dk_at dksX6_next_0 5 rfl rfl)
theorem dX6_next_6 : decode cX6_next 6 = .ok (.invokevirtual 345, 3) := dk_182 1 89 (dk_at dksX6_next_0 6 rfl rfl)
theorem dX6_next_9 : decode cX6_next 9 = .ok (.istore_n 1, 1) := dk_60 (dk_at dksX6_next_0 9 rfl rfl)
theorem dX6_next_10 : decode cX6_next 10 = .ok (.aload_n 0, 1) := dk_42 (dk_at dksX6_next_0 10 rfl rfl)
theorem dX6_next_11 : decode cX6_next 11 = .ok (.getfield 13, 3) := dk_180 0 13 (dk_at dksX6_next_0 11 rfl rfl)
theorem dX6_next_14 : decode cX6_next 14 = .ok (.bipush 12, 2) := dk_16 12 (dk_at dksX6_next_0 14 rfl rfl)
theorem dX6_next_16 : decode cX6_next 16 = .ok (.iaload, 1) := dk_46 (dk_at dksX6_next_0 16 rfl rfl)
theorem dX6_next_17 : decode cX6_next 17 = .ok (.istore_n 2, 1) := dk_61 (dk_at dksX6_next_0 17 rfl rfl)
theorem dX6_next_18 : decode cX6_next 18 = .ok (.iconst (-1), 1) := dk_2 (dk_at dksX6_next_0 18 rfl rfl)
theorem dX6_next_19 : decode cX6_next 19 = .ok (.istore_n 3, 1) := dk_62 (dk_at dksX6_next_0 19 rfl rfl)
theorem dX6_next_20 : decode cX6_next 20 = .ok (.iconst 0, 1) := dk_3 (dk_at dksX6_next_0 20 rfl rfl)
theorem dX6_next_21 : decode cX6_next 21 = .ok (.istore 4, 2) := dk_54 4 (dk_at dksX6_next_0 21 rfl rfl)
theorem dX6_next_23 : decode cX6_next 23 = .ok (.iconst 0, 1) := dk_3 (dk_at dksX6_next_0 23 rfl rfl)
theorem dX6_next_24 : decode cX6_next 24 = .ok (.istore 5, 2) := dk_54 5 (dk_at dksX6_next_1 0 rfl rfl)
theorem dX6_next_26 : decode cX6_next 26 = .ok (.iload 5, 2) := dk_21 5 (dk_at dksX6_next_1 2 rfl rfl)
theorem dX6_next_28 : decode cX6_next 28 = .ok (.bipush 16, 2) := dk_16 16 (dk_at dksX6_next_1 4 rfl rfl)
theorem dX6_next_30 : decode cX6_next 30 = .ok (.if_icmp .ge 64, 3) := dk_162 0 64 (dk_at dksX6_next_1 6 rfl rfl)
theorem dX6_next_33 : decode cX6_next 33 = .ok (.iload_n 2, 1) := dk_28 (dk_at dksX6_next_1 9 rfl rfl)
theorem dX6_next_34 : decode cX6_next 34 = .ok (.iload 5, 2) := dk_21 5 (dk_at dksX6_next_1 10 rfl rfl)
theorem dX6_next_36 : decode cX6_next 36 = .ok (.ishr, 1) := dk_122 (dk_at dksX6_next_1 12 rfl rfl)
theorem dX6_next_37 : decode cX6_next 37 = .ok (.iconst 1, 1) := dk_4 (dk_at dksX6_next_1 13 rfl rfl)
theorem dX6_next_38 : decode cX6_next 38 = .ok (.iand, 1) := dk_126 (dk_at dksX6_next_1 14 rfl rfl)
theorem dX6_next_39 : decode cX6_next 39 = .ok (.iconst 1, 1) := dk_4 (dk_at dksX6_next_1 15 rfl rfl)
theorem dX6_next_40 : decode cX6_next 40 = .ok (.if_icmp .ne 6, 3) := dk_160 0 6 (dk_at dksX6_next_1 16 rfl rfl)
theorem dX6_next_43 : decode cX6_next 43 = .ok (.goto 45, 3) := dk_167 0 45 (dk_at dksX6_next_1 19 rfl rfl)
theorem dX6_next_46 : decode cX6_next 46 = .ok (.aload_n 0, 1) := dk_42 (dk_at dksX6_next_1 22 rfl rfl)
theorem dX6_next_47 : decode cX6_next 47 = .ok (.getfield 13, 3) := dk_180 0 13 (dk_at dksX6_next_2 0 rfl rfl)
theorem dX6_next_50 : decode cX6_next 50 = .ok (.bipush 12, 2) := dk_16 12 (dk_at dksX6_next_2 3 rfl rfl)
theorem dX6_next_52 : decode cX6_next 52 = .ok (.iload_n 2, 1) := dk_28 (dk_at dksX6_next_2 5 rfl rfl)
theorem dX6_next_53 : decode cX6_next 53 = .ok (.iconst 1, 1) := dk_4 (dk_at dksX6_next_2 6 rfl rfl)
theorem dX6_next_54 : decode cX6_next 54 = .ok (.iload 5, 2) := dk_21 5 (dk_at dksX6_next_2 7 rfl rfl)
theorem dX6_next_56 : decode cX6_next 56 = .ok (.ishl, 1) := dk_120 (dk_at dksX6_next_2 9 rfl rfl)
theorem dX6_next_57 : decode cX6_next 57 = .ok (.ior, 1) := dk_128 (dk_at dksX6_next_2 10 rfl rfl)
theorem dX6_next_58 : decode cX6_next 58 = .ok (.iastore, 1) := dk_79 (dk_at dksX6_next_2 11 rfl rfl)
theorem dX6_next_59 : decode cX6_next 59 = .ok (.aload_n 0, 1) := dk_42 (dk_at dksX6_next_2 12 rfl rfl)
theorem dX6_next_60 : decode cX6_next 60 = .ok (.invokevirtual 345, 3) := dk_182 1 89 (dk_at dksX6_next_2 13 rfl rfl)
theorem dX6_next_63 : decode cX6_next 63 = .ok (.iload_n 1, 1) := dk_27 (dk_at dksX6_next_2 16 rfl rfl)
theorem dX6_next_64 : decode cX6_next 64 = .ok (.isub, 1) := dk_100 (dk_at dksX6_next_2 17 rfl rfl)
theorem dX6_next_65 : decode cX6_next 65 = .ok (.istore 6, 2) := dk_54 6 (dk_at dksX6_next_2 18 rfl rfl)
theorem dX6_next_67 : decode cX6_next 67 = .ok (.iload_n 3, 1) := dk_29 (dk_at dksX6_next_2 20 rfl rfl)
theorem dX6_next_68 : decode cX6_next 68 = .ok (.ifCond .lt 13, 3) := dk_155 0 13 (dk_at dksX6_next_2 21 rfl rfl)
theorem dX6_next_71 : decode cX6_next 71 = .ok (.iload 6, 2) := dk_21 6 (dk_at dksX6_next_3 0 rfl rfl)
theorem dX6_next_73 : decode cX6_next 73 = .ok (.iload 4, 2) := dk_21 4 (dk_at dksX6_next_3 2 rfl rfl)
theorem dX6_next_75 : decode cX6_next 75 = .ok (.if_icmp .gt 6, 3) := dk_163 0 6 (dk_at dksX6_next_3 4 rfl rfl)
theorem dX6_next_78 : decode cX6_next 78 = .ok (.goto 10, 3) := dk_167 0 10 (dk_at dksX6_next_3 7 rfl rfl)
theorem dX6_next_81 : decode cX6_next 81 = .ok (.iload 5, 2) := dk_21 5 (dk_at dksX6_next_3 10 rfl rfl)
theorem dX6_next_83 : decode cX6_next 83 = .ok (.istore_n 3, 1) := dk_62 (dk_at dksX6_next_3 12 rfl rfl)
theorem dX6_next_84 : decode cX6_next 84 = .ok (.iload 6, 2) := dk_21 6 (dk_at dksX6_next_3 13 rfl rfl)
theorem dX6_next_86 : decode cX6_next 86 = .ok (.istore 4, 2) := dk_54 4 (dk_at dksX6_next_3 15 rfl rfl)
theorem dX6_next_88 : decode cX6_next 88 = .ok (.iinc 5 1, 3) := dk_132 5 1 (dk_at dksX6_next_3 17 rfl rfl)
theorem dX6_next_91 : decode cX6_next 91 = .ok (.goto (-65), 3) := dk_167 255 191 (dk_at dksX6_next_3 20 rfl rfl)
theorem dX6_next_94 : decode cX6_next 94 = .ok (.aload_n 0, 1) := dk_42 (dk_at dksX6_next_3 23 rfl rfl)
theorem dX6_next_95 : decode cX6_next 95 = .ok (.getfield 13, 3) := dk_180 0 13 (dk_at dksX6_next_4 0 rfl rfl)
theorem dX6_next_98 : decode cX6_next 98 = .ok (.bipush 12, 2) := dk_16 12 (dk_at dksX6_next_4 3 rfl rfl)
theorem dX6_next_100 : decode cX6_next 100 = .ok (.iload_n 2, 1) := dk_28 (dk_at dksX6_next_4 5 rfl rfl)
theorem dX6_next_101 : decode cX6_next 101 = .ok (.iastore, 1) := dk_79 (dk_at dksX6_next_4 6 rfl rfl)
theorem dX6_next_102 : decode cX6_next 102 = .ok (.iload_n 3, 1) := dk_29 (dk_at dksX6_next_4 7 rfl rfl)
theorem dX6_next_103 : decode cX6_next 103 = .ok (.ireturn, 1) := dk_172 (dk_at dksX6_next_4 8 rfl rfl)
abbrev cX6_needed : ByteArray := prog_30_method_85_code
def yX6_needed : MethodName := ⟨RX6, "needed", "(II)I"⟩
def dkwX6_needed_1 : List UInt8 := [3, 4, 182, 0, 80, 153, 0, 7, 3, 167, 0, 9, 42, 27, 28, 182, 1, 103, 172]
abbrev dktX6_needed_1 : List UInt8 := dkwX6_needed_1 ++ []
def dkwX6_needed_0 : List UInt8 := [42, 3, 181, 0, 3, 42, 27, 184, 0, 76, 154, 0, 10, 28, 184, 0, 76, 153, 0, 7, 4, 167, 0, 4]
abbrev dktX6_needed_0 : List UInt8 := dkwX6_needed_0 ++ dktX6_needed_1
theorem dksX6_needed_0 : cX6_needed.data.toList.drop 0 = dktX6_needed_0 := by decide +kernel
theorem dksX6_needed_1 : cX6_needed.data.toList.drop 24 = dktX6_needed_1 := dk_seg dksX6_needed_0 24 rfl rfl
theorem dX6_needed_0 : decode cX6_needed 0 = .ok (.aload_n 0, 1) := dk_42 (dk_at dksX6_needed_0 0 rfl rfl)
theorem dX6_needed_1 : decode cX6_needed 1 = .ok (.iconst 0, 1) := dk_3 (dk_at dksX6_needed_0 1 rfl rfl)
theorem dX6_needed_2 : decode cX6_needed 2 = .ok (.putfield 3, 3) := dk_181 0 3 (dk_at dksX6_needed_0 2 rfl rfl)
theorem dX6_needed_5 : decode cX6_needed 5 = .ok (.aload_n 0, 1) := dk_42 (dk_at dksX6_needed_0 5 rfl rfl)
theorem dX6_needed_6 : decode cX6_needed 6 = .ok (.iload_n 1, 1) := dk_27 (dk_at dksX6_needed_0 6 rfl rfl)
theorem dX6_needed_7 : decode cX6_needed 7 = .ok (.invokestatic 76, 3) := dk_184 0 76 (dk_at dksX6_needed_0 7 rfl rfl)
theorem dX6_needed_10 : decode cX6_needed 10 = .ok (.ifCond .ne 10, 3) := dk_154 0 10 (dk_at dksX6_needed_0 10 rfl rfl)
theorem dX6_needed_13 : decode cX6_needed 13 = .ok (.iload_n 2, 1) := dk_28 (dk_at dksX6_needed_0 13 rfl rfl)
theorem dX6_needed_14 : decode cX6_needed 14 = .ok (.invokestatic 76, 3) := dk_184 0 76 (dk_at dksX6_needed_0 14 rfl rfl)
theorem dX6_needed_17 : decode cX6_needed 17 = .ok (.ifCond .eq 7, 3) := dk_153 0 7 (dk_at dksX6_needed_0 17 rfl rfl)
theorem dX6_needed_20 : decode cX6_needed 20 = .ok (.iconst 1, 1) := dk_4 (dk_at dksX6_needed_0 20 rfl rfl)
theorem dX6_needed_21 : decode cX6_needed 21 = .ok (.goto 4, 3) := dk_167 0 4 (dk_at dksX6_needed_0 21 rfl rfl)
theorem dX6_needed_24 : decode cX6_needed 24 = .ok (.iconst 0, 1) := dk_3 (dk_at dksX6_needed_1 0 rfl rfl)
theorem dX6_needed_25 : decode cX6_needed 25 = .ok (.iconst 1, 1) := dk_4 (dk_at dksX6_needed_1 1 rfl rfl)
theorem dX6_needed_26 : decode cX6_needed 26 = .ok (.invokevirtual 80, 3) := dk_182 0 80 (dk_at dksX6_needed_1 2 rfl rfl)
theorem dX6_needed_29 : decode cX6_needed 29 = .ok (.ifCond .eq 7, 3) := dk_153 0 7 (dk_at dksX6_needed_1 5 rfl rfl)
theorem dX6_needed_32 : decode cX6_needed 32 = .ok (.iconst 0, 1) := dk_3 (dk_at dksX6_needed_1 8 rfl rfl)
theorem dX6_needed_33 : decode cX6_needed 33 = .ok (.goto 9, 3) := dk_167 0 9 (dk_at dksX6_needed_1 9 rfl rfl)
theorem dX6_needed_36 : decode cX6_needed 36 = .ok (.aload_n 0, 1) := dk_42 (dk_at dksX6_needed_1 12 rfl rfl)
theorem dX6_needed_37 : decode cX6_needed 37 = .ok (.iload_n 1, 1) := dk_27 (dk_at dksX6_needed_1 13 rfl rfl)
theorem dX6_needed_38 : decode cX6_needed 38 = .ok (.iload_n 2, 1) := dk_28 (dk_at dksX6_needed_1 14 rfl rfl)
theorem dX6_needed_39 : decode cX6_needed 39 = .ok (.invokevirtual 359, 3) := dk_182 1 103 (dk_at dksX6_needed_1 15 rfl rfl)
theorem dX6_needed_42 : decode cX6_needed 42 = .ok (.ireturn, 1) := dk_172 (dk_at dksX6_needed_1 18 rfl rfl)
abbrev cX6_neededIn : ByteArray := prog_30_method_84_code
def yX6_neededIn : MethodName := ⟨RX6, "neededIn", "(II)I"⟩
def dkwX6_neededIn_5 : List UInt8 := [167, 255, 183, 21, 5, 153, 0, 6, 21, 4, 62, 132, 4, 1, 167, 255, 131, 29, 172]
abbrev dktX6_neededIn_5 : List UInt8 := dkwX6_neededIn_5 ++ []
def dkwX6_neededIn_4 : List UInt8 := [21, 7, 153, 0, 11, 21, 7, 21, 4, 126, 153, 0, 7, 4, 167, 0, 4, 3, 54, 5, 132, 6, 1]
abbrev dktX6_neededIn_4 : List UInt8 := dkwX6_neededIn_4 ++ dktX6_neededIn_5
def dkwX6_neededIn_3 : List UInt8 := [182, 1, 67, 27, 28, 184, 0, 84, 153, 0, 12, 42, 21, 6, 182, 1, 83, 167, 0, 4, 3, 54, 7]
abbrev dktX6_neededIn_3 : List UInt8 := dkwX6_neededIn_3 ++ dktX6_neededIn_4
def dkwX6_neededIn_2 : List UInt8 := [182, 1, 77, 162, 0, 70, 21, 5, 153, 0, 65, 42, 21, 6, 182, 1, 92, 153, 0, 27, 42, 21, 6, 4]
abbrev dktX6_neededIn_2 : List UInt8 := dkwX6_neededIn_2 ++ dktX6_neededIn_3
def dkwX6_neededIn_1 : List UInt8 := [184, 1, 95, 29, 184, 1, 95, 161, 0, 6, 167, 0, 93, 4, 54, 5, 3, 54, 6, 21, 6, 42]
abbrev dktX6_neededIn_1 : List UInt8 := dkwX6_neededIn_1 ++ dktX6_neededIn_2
def dkwX6_neededIn_0 : List UInt8 := [2, 62, 3, 54, 4, 21, 4, 4, 42, 180, 0, 13, 3, 46, 120, 162, 0, 118, 29, 155, 0, 18, 21, 4]
abbrev dktX6_neededIn_0 : List UInt8 := dkwX6_neededIn_0 ++ dktX6_neededIn_1
theorem dksX6_neededIn_0 : cX6_neededIn.data.toList.drop 0 = dktX6_neededIn_0 := by decide +kernel
theorem dksX6_neededIn_1 : cX6_neededIn.data.toList.drop 24 = dktX6_neededIn_1 := dk_seg dksX6_neededIn_0 24 rfl rfl
theorem dksX6_neededIn_2 : cX6_neededIn.data.toList.drop 46 = dktX6_neededIn_2 := dk_seg dksX6_neededIn_1 22 rfl rfl
theorem dksX6_neededIn_3 : cX6_neededIn.data.toList.drop 70 = dktX6_neededIn_3 := dk_seg dksX6_neededIn_2 24 rfl rfl
theorem dksX6_neededIn_4 : cX6_neededIn.data.toList.drop 93 = dktX6_neededIn_4 := dk_seg dksX6_neededIn_3 23 rfl rfl
theorem dksX6_neededIn_5 : cX6_neededIn.data.toList.drop 116 = dktX6_neededIn_5 := dk_seg dksX6_neededIn_4 23 rfl rfl
theorem dX6_neededIn_0 : decode cX6_neededIn 0 = .ok (.iconst (-1), 1) := dk_2 (dk_at dksX6_neededIn_0 0 rfl rfl)
theorem dX6_neededIn_1 : decode cX6_neededIn 1 = .ok (.istore_n 3, 1) := dk_62 (dk_at dksX6_neededIn_0 1 rfl rfl)
theorem dX6_neededIn_2 : decode cX6_neededIn 2 = .ok (.iconst 0, 1) := dk_3 (dk_at dksX6_neededIn_0 2 rfl rfl)
theorem dX6_neededIn_3 : decode cX6_neededIn 3 = .ok (.istore 4, 2) := dk_54 4 (dk_at dksX6_neededIn_0 3 rfl rfl)
theorem dX6_neededIn_5 : decode cX6_neededIn 5 = .ok (.iload 4, 2) := dk_21 4 (dk_at dksX6_neededIn_0 5 rfl rfl)
theorem dX6_neededIn_7 : decode cX6_neededIn 7 = .ok (.iconst 1, 1) := dk_4 (dk_at dksX6_neededIn_0 7 rfl rfl)
theorem dX6_neededIn_8 : decode cX6_neededIn 8 = .ok (.aload_n 0, 1) := dk_42 (dk_at dksX6_neededIn_0 8 rfl rfl)
theorem dX6_neededIn_9 : decode cX6_neededIn 9 = .ok (.getfield 13, 3) := dk_180 0 13 (dk_at dksX6_neededIn_0 9 rfl rfl)
theorem dX6_neededIn_12 : decode cX6_neededIn 12 = .ok (.iconst 0, 1) := dk_3 (dk_at dksX6_neededIn_0 12 rfl rfl)
theorem dX6_neededIn_13 : decode cX6_neededIn 13 = .ok (.iaload, 1) := dk_46 (dk_at dksX6_neededIn_0 13 rfl rfl)
theorem dX6_neededIn_14 : decode cX6_neededIn 14 = .ok (.ishl, 1) := dk_120 (dk_at dksX6_neededIn_0 14 rfl rfl)
theorem dX6_neededIn_15 : decode cX6_neededIn 15 = .ok (.if_icmp .ge 118, 3) := dk_162 0 118 (dk_at dksX6_neededIn_0 15 rfl rfl)
theorem dX6_neededIn_18 : decode cX6_neededIn 18 = .ok (.iload_n 3, 1) := dk_29 (dk_at dksX6_neededIn_0 18 rfl rfl)
theorem dX6_neededIn_19 : decode cX6_neededIn 19 = .ok (.ifCond .lt 18, 3) := dk_155 0 18 (dk_at dksX6_neededIn_0 19 rfl rfl)
theorem dX6_neededIn_22 : decode cX6_neededIn 22 = .ok (.iload 4, 2) := dk_21 4 (dk_at dksX6_neededIn_0 22 rfl rfl)
theorem dX6_neededIn_24 : decode cX6_neededIn 24 = .ok (.invokestatic 351, 3) := dk_184 1 95 (dk_at dksX6_neededIn_1 0 rfl rfl)
theorem dX6_neededIn_27 : decode cX6_neededIn 27 = .ok (.iload_n 3, 1) := dk_29 (dk_at dksX6_neededIn_1 3 rfl rfl)
theorem dX6_neededIn_28 : decode cX6_neededIn 28 = .ok (.invokestatic 351, 3) := dk_184 1 95 (dk_at dksX6_neededIn_1 4 rfl rfl)
theorem dX6_neededIn_31 : decode cX6_neededIn 31 = .ok (.if_icmp .lt 6, 3) := dk_161 0 6 (dk_at dksX6_neededIn_1 7 rfl rfl)
theorem dX6_neededIn_34 : decode cX6_neededIn 34 = .ok (.goto 93, 3) := dk_167 0 93 (dk_at dksX6_neededIn_1 10 rfl rfl)
theorem dX6_neededIn_37 : decode cX6_neededIn 37 = .ok (.iconst 1, 1) := dk_4 (dk_at dksX6_neededIn_1 13 rfl rfl)
theorem dX6_neededIn_38 : decode cX6_neededIn 38 = .ok (.istore 5, 2) := dk_54 5 (dk_at dksX6_neededIn_1 14 rfl rfl)
theorem dX6_neededIn_40 : decode cX6_neededIn 40 = .ok (.iconst 0, 1) := dk_3 (dk_at dksX6_neededIn_1 16 rfl rfl)
theorem dX6_neededIn_41 : decode cX6_neededIn 41 = .ok (.istore 6, 2) := dk_54 6 (dk_at dksX6_neededIn_1 17 rfl rfl)
theorem dX6_neededIn_43 : decode cX6_neededIn 43 = .ok (.iload 6, 2) := dk_21 6 (dk_at dksX6_neededIn_1 19 rfl rfl)
theorem dX6_neededIn_45 : decode cX6_neededIn 45 = .ok (.aload_n 0, 1) := dk_42 (dk_at dksX6_neededIn_1 21 rfl rfl)
theorem dX6_neededIn_46 : decode cX6_neededIn 46 = .ok (.invokevirtual 333, 3) := dk_182 1 77 (dk_at dksX6_neededIn_2 0 rfl rfl)
theorem dX6_neededIn_49 : decode cX6_neededIn 49 = .ok (.if_icmp .ge 70, 3) := dk_162 0 70 (dk_at dksX6_neededIn_2 3 rfl rfl)
theorem dX6_neededIn_52 : decode cX6_neededIn 52 = .ok (.iload 5, 2) := dk_21 5 (dk_at dksX6_neededIn_2 6 rfl rfl)
theorem dX6_neededIn_54 : decode cX6_neededIn 54 = .ok (.ifCond .eq 65, 3) := dk_153 0 65 (dk_at dksX6_neededIn_2 8 rfl rfl)
theorem dX6_neededIn_57 : decode cX6_neededIn 57 = .ok (.aload_n 0, 1) := dk_42 (dk_at dksX6_neededIn_2 11 rfl rfl)
theorem dX6_neededIn_58 : decode cX6_neededIn 58 = .ok (.iload 6, 2) := dk_21 6 (dk_at dksX6_neededIn_2 12 rfl rfl)
theorem dX6_neededIn_60 : decode cX6_neededIn 60 = .ok (.invokevirtual 348, 3) := dk_182 1 92 (dk_at dksX6_neededIn_2 14 rfl rfl)
theorem dX6_neededIn_63 : decode cX6_neededIn 63 = .ok (.ifCond .eq 27, 3) := dk_153 0 27 (dk_at dksX6_neededIn_2 17 rfl rfl)
theorem dX6_neededIn_66 : decode cX6_neededIn 66 = .ok (.aload_n 0, 1) := dk_42 (dk_at dksX6_neededIn_2 20 rfl rfl)
theorem dX6_neededIn_67 : decode cX6_neededIn 67 = .ok (.iload 6, 2) := dk_21 6 (dk_at dksX6_neededIn_2 21 rfl rfl)
theorem dX6_neededIn_69 : decode cX6_neededIn 69 = .ok (.iconst 1, 1) := dk_4 (dk_at dksX6_neededIn_2 23 rfl rfl)
theorem dX6_neededIn_70 : decode cX6_neededIn 70 = .ok (.invokevirtual 323, 3) := dk_182 1 67 (dk_at dksX6_neededIn_3 0 rfl rfl)
theorem dX6_neededIn_73 : decode cX6_neededIn 73 = .ok (.iload_n 1, 1) := dk_27 (dk_at dksX6_neededIn_3 3 rfl rfl)
theorem dX6_neededIn_74 : decode cX6_neededIn 74 = .ok (.iload_n 2, 1) := dk_28 (dk_at dksX6_neededIn_3 4 rfl rfl)
theorem dX6_neededIn_75 : decode cX6_neededIn 75 = .ok (.invokestatic 84, 3) := dk_184 0 84 (dk_at dksX6_neededIn_3 5 rfl rfl)
theorem dX6_neededIn_78 : decode cX6_neededIn 78 = .ok (.ifCond .eq 12, 3) := dk_153 0 12 (dk_at dksX6_neededIn_3 8 rfl rfl)
theorem dX6_neededIn_81 : decode cX6_neededIn 81 = .ok (.aload_n 0, 1) := dk_42 (dk_at dksX6_neededIn_3 11 rfl rfl)
theorem dX6_neededIn_82 : decode cX6_neededIn 82 = .ok (.iload 6, 2) := dk_21 6 (dk_at dksX6_neededIn_3 12 rfl rfl)
theorem dX6_neededIn_84 : decode cX6_neededIn 84 = .ok (.invokevirtual 339, 3) := dk_182 1 83 (dk_at dksX6_neededIn_3 14 rfl rfl)
theorem dX6_neededIn_87 : decode cX6_neededIn 87 = .ok (.goto 4, 3) := dk_167 0 4 (dk_at dksX6_neededIn_3 17 rfl rfl)
theorem dX6_neededIn_90 : decode cX6_neededIn 90 = .ok (.iconst 0, 1) := dk_3 (dk_at dksX6_neededIn_3 20 rfl rfl)
theorem dX6_neededIn_91 : decode cX6_neededIn 91 = .ok (.istore 7, 2) := dk_54 7 (dk_at dksX6_neededIn_3 21 rfl rfl)
theorem dX6_neededIn_93 : decode cX6_neededIn 93 = .ok (.iload 7, 2) := dk_21 7 (dk_at dksX6_neededIn_4 0 rfl rfl)
theorem dX6_neededIn_95 : decode cX6_neededIn 95 = .ok (.ifCond .eq 11, 3) := dk_153 0 11 (dk_at dksX6_neededIn_4 2 rfl rfl)
theorem dX6_neededIn_98 : decode cX6_neededIn 98 = .ok (.iload 7, 2) := dk_21 7 (dk_at dksX6_neededIn_4 5 rfl rfl)
theorem dX6_neededIn_100 : decode cX6_neededIn 100 = .ok (.iload 4, 2) := dk_21 4 (dk_at dksX6_neededIn_4 7 rfl rfl)
theorem dX6_neededIn_102 : decode cX6_neededIn 102 = .ok (.iand, 1) := dk_126 (dk_at dksX6_neededIn_4 9 rfl rfl)
theorem dX6_neededIn_103 : decode cX6_neededIn 103 = .ok (.ifCond .eq 7, 3) := dk_153 0 7 (dk_at dksX6_neededIn_4 10 rfl rfl)
theorem dX6_neededIn_106 : decode cX6_neededIn 106 = .ok (.iconst 1, 1) := dk_4 (dk_at dksX6_neededIn_4 13 rfl rfl)
theorem dX6_neededIn_107 : decode cX6_neededIn 107 = .ok (.goto 4, 3) := dk_167 0 4 (dk_at dksX6_neededIn_4 14 rfl rfl)
theorem dX6_neededIn_110 : decode cX6_neededIn 110 = .ok (.iconst 0, 1) := dk_3 (dk_at dksX6_neededIn_4 17 rfl rfl)
theorem dX6_neededIn_111 : decode cX6_neededIn 111 = .ok (.istore 5, 2) := dk_54 5 (dk_at dksX6_neededIn_4 18 rfl rfl)
theorem dX6_neededIn_113 : decode cX6_neededIn 113 = .ok (.iinc 6 1, 3) := dk_132 6 1 (dk_at dksX6_neededIn_4 20 rfl rfl)
theorem dX6_neededIn_116 : decode cX6_neededIn 116 = .ok (.goto (-73), 3) := dk_167 255 183 (dk_at dksX6_neededIn_5 0 rfl rfl)
theorem dX6_neededIn_119 : decode cX6_neededIn 119 = .ok (.iload 5, 2) := dk_21 5 (dk_at dksX6_neededIn_5 3 rfl rfl)
theorem dX6_neededIn_121 : decode cX6_neededIn 121 = .ok (.ifCond .eq 6, 3) := dk_153 0 6 (dk_at dksX6_neededIn_5 5 rfl rfl)
theorem dX6_neededIn_124 : decode cX6_neededIn 124 = .ok (.iload 4, 2) := dk_21 4 (dk_at dksX6_neededIn_5 8 rfl rfl)
theorem dX6_neededIn_126 : decode cX6_neededIn 126 = .ok (.istore_n 3, 1) := dk_62 (dk_at dksX6_neededIn_5 10 rfl rfl)
theorem dX6_neededIn_127 : decode cX6_neededIn 127 = .ok (.iinc 4 1, 3) := dk_132 4 1 (dk_at dksX6_neededIn_5 11 rfl rfl)
theorem dX6_neededIn_130 : decode cX6_neededIn 130 = .ok (.goto (-125), 3) := dk_167 255 131 (dk_at dksX6_neededIn_5 14 rfl rfl)
theorem dX6_neededIn_133 : decode cX6_neededIn 133 = .ok (.iload_n 3, 1) := dk_29 (dk_at dksX6_neededIn_5 17 rfl rfl)
theorem dX6_neededIn_134 : decode cX6_neededIn 134 = .ok (.ireturn, 1) := dk_172 (dk_at dksX6_neededIn_5 18 rfl rfl)
abbrev cX6_isSeenCase : ByteArray := prog_30_method_82_code
def yX6_isSeenCase : MethodName := ⟨RX6, "isSeenCase", "(I)Z"⟩
def dkwX6_isSeenCase_0 : List UInt8 := [42, 27, 3, 182, 1, 73, 153, 0, 15, 42, 27, 182, 1, 80, 153, 0, 7, 4, 167, 0, 4, 3, 172]
abbrev dktX6_isSeenCase_0 : List UInt8 := dkwX6_isSeenCase_0 ++ []
theorem dksX6_isSeenCase_0 : cX6_isSeenCase.data.toList.drop 0 = dktX6_isSeenCase_0 := by decide +kernel
theorem dX6_isSeenCase_0 : decode cX6_isSeenCase 0 = .ok (.aload_n 0, 1) := dk_42 (dk_at dksX6_isSeenCase_0 0 rfl rfl)
theorem dX6_isSeenCase_1 : decode cX6_isSeenCase 1 = .ok (.iload_n 1, 1) := dk_27 (dk_at dksX6_isSeenCase_0 1 rfl rfl)
theorem dX6_isSeenCase_2 : decode cX6_isSeenCase 2 = .ok (.iconst 0, 1) := dk_3 (dk_at dksX6_isSeenCase_0 2 rfl rfl)
theorem dX6_isSeenCase_3 : decode cX6_isSeenCase 3 = .ok (.invokevirtual 329, 3) := dk_182 1 73 (dk_at dksX6_isSeenCase_0 3 rfl rfl)
theorem dX6_isSeenCase_6 : decode cX6_isSeenCase 6 = .ok (.ifCond .eq 15, 3) := dk_153 0 15 (dk_at dksX6_isSeenCase_0 6 rfl rfl)
theorem dX6_isSeenCase_9 : decode cX6_isSeenCase 9 = .ok (.aload_n 0, 1) := dk_42 (dk_at dksX6_isSeenCase_0 9 rfl rfl)
theorem dX6_isSeenCase_10 : decode cX6_isSeenCase 10 = .ok (.iload_n 1, 1) := dk_27 (dk_at dksX6_isSeenCase_0 10 rfl rfl)
theorem dX6_isSeenCase_11 : decode cX6_isSeenCase 11 = .ok (.invokevirtual 336, 3) := dk_182 1 80 (dk_at dksX6_isSeenCase_0 11 rfl rfl)
theorem dX6_isSeenCase_14 : decode cX6_isSeenCase 14 = .ok (.ifCond .eq 7, 3) := dk_153 0 7 (dk_at dksX6_isSeenCase_0 14 rfl rfl)
theorem dX6_isSeenCase_17 : decode cX6_isSeenCase 17 = .ok (.iconst 1, 1) := dk_4 (dk_at dksX6_isSeenCase_0 17 rfl rfl)
theorem dX6_isSeenCase_18 : decode cX6_isSeenCase 18 = .ok (.goto 4, 3) := dk_167 0 4 (dk_at dksX6_isSeenCase_0 18 rfl rfl)
theorem dX6_isSeenCase_21 : decode cX6_isSeenCase 21 = .ok (.iconst 0, 1) := dk_3 (dk_at dksX6_isSeenCase_0 21 rfl rfl)
theorem dX6_isSeenCase_22 : decode cX6_isSeenCase 22 = .ok (.ireturn, 1) := dk_172 (dk_at dksX6_isSeenCase_0 22 rfl rfl)
abbrev cX6_same : ByteArray := prog_30_method_86_code
def yX6_same : MethodName := ⟨RX6, "same", "(III)I"⟩
def dkwX6_same_5 : List UInt8 := [184, 1, 95, 42, 28, 182, 1, 83, 184, 1, 95, 104, 172]
abbrev dktX6_same_5 : List UInt8 := dkwX6_same_5 ++ []
def dkwX6_same_4 : List UInt8 := [42, 27, 182, 1, 83, 42, 28, 182, 1, 83, 126, 184, 1, 95, 167, 0, 20, 42, 27, 182, 1, 83]
abbrev dktX6_same_4 : List UInt8 := dkwX6_same_4 ++ dktX6_same_5
def dkwX6_same_3 : List UInt8 := [184, 0, 59, 154, 0, 7, 4, 167, 0, 4, 3, 6, 182, 0, 80, 153, 0, 5, 3, 172, 29, 154, 0, 20]
abbrev dktX6_same_3 : List UInt8 := dkwX6_same_3 ++ dktX6_same_4
def dkwX6_same_2 : List UInt8 := [182, 1, 92, 154, 0, 7, 4, 167, 0, 4, 3, 5, 182, 0, 80, 154, 0, 25, 42, 29, 3, 4]
abbrev dktX6_same_2 : List UInt8 := dkwX6_same_2 ++ dktX6_same_3
def dkwX6_same_1 : List UInt8 := [4, 167, 0, 4, 3, 4, 182, 0, 80, 154, 0, 54, 42, 42, 27, 182, 1, 92, 153, 0, 11, 42, 28]
abbrev dktX6_same_1 : List UInt8 := dkwX6_same_1 ++ dktX6_same_2
def dkwX6_same_0 : List UInt8 := [42, 3, 181, 0, 3, 42, 42, 27, 6, 182, 1, 20, 154, 0, 12, 42, 28, 6, 182, 1, 20, 153, 0, 7]
abbrev dktX6_same_0 : List UInt8 := dkwX6_same_0 ++ dktX6_same_1
theorem dksX6_same_0 : cX6_same.data.toList.drop 0 = dktX6_same_0 := by decide +kernel
theorem dksX6_same_1 : cX6_same.data.toList.drop 24 = dktX6_same_1 := dk_seg dksX6_same_0 24 rfl rfl
theorem dksX6_same_2 : cX6_same.data.toList.drop 47 = dktX6_same_2 := dk_seg dksX6_same_1 23 rfl rfl
theorem dksX6_same_3 : cX6_same.data.toList.drop 69 = dktX6_same_3 := dk_seg dksX6_same_2 22 rfl rfl
theorem dksX6_same_4 : cX6_same.data.toList.drop 93 = dktX6_same_4 := dk_seg dksX6_same_3 24 rfl rfl
theorem dksX6_same_5 : cX6_same.data.toList.drop 115 = dktX6_same_5 := dk_seg dksX6_same_4 22 rfl rfl
theorem dX6_same_0 : decode cX6_same 0 = .ok (.aload_n 0, 1) := dk_42 (dk_at dksX6_same_0 0 rfl rfl)
theorem dX6_same_1 : decode cX6_same 1 = .ok (.iconst 0, 1) := dk_3 (dk_at dksX6_same_0 1 rfl rfl)
theorem dX6_same_2 : decode cX6_same 2 = .ok (.putfield 3, 3) := dk_181 0 3 (dk_at dksX6_same_0 2 rfl rfl)
theorem dX6_same_5 : decode cX6_same 5 = .ok (.aload_n 0, 1) := dk_42 (dk_at dksX6_same_0 5 rfl rfl)
theorem dX6_same_6 : decode cX6_same 6 = .ok (.aload_n 0, 1) := dk_42 (dk_at dksX6_same_0 6 rfl rfl)
theorem dX6_same_7 : decode cX6_same 7 = .ok (.iload_n 1, 1) := dk_27 (dk_at dksX6_same_0 7 rfl rfl)
theorem dX6_same_8 : decode cX6_same 8 = .ok (.iconst 3, 1) := dk_6 (dk_at dksX6_same_0 8 rfl rfl)
theorem dX6_same_9 : decode cX6_same 9 = .ok (.invokevirtual 276, 3) := dk_182 1 20 (dk_at dksX6_same_0 9 rfl rfl)
theorem dX6_same_12 : decode cX6_same 12 = .ok (.ifCond .ne 12, 3) := dk_154 0 12 (dk_at dksX6_same_0 12 rfl rfl)
theorem dX6_same_15 : decode cX6_same 15 = .ok (.aload_n 0, 1) := dk_42 (dk_at dksX6_same_0 15 rfl rfl)
theorem dX6_same_16 : decode cX6_same 16 = .ok (.iload_n 2, 1) := dk_28 (dk_at dksX6_same_0 16 rfl rfl)
theorem dX6_same_17 : decode cX6_same 17 = .ok (.iconst 3, 1) := dk_6 (dk_at dksX6_same_0 17 rfl rfl)
theorem dX6_same_18 : decode cX6_same 18 = .ok (.invokevirtual 276, 3) := dk_182 1 20 (dk_at dksX6_same_0 18 rfl rfl)
theorem dX6_same_21 : decode cX6_same 21 = .ok (.ifCond .eq 7, 3) := dk_153 0 7 (dk_at dksX6_same_0 21 rfl rfl)
theorem dX6_same_24 : decode cX6_same 24 = .ok (.iconst 1, 1) := dk_4 (dk_at dksX6_same_1 0 rfl rfl)
theorem dX6_same_25 : decode cX6_same 25 = .ok (.goto 4, 3) := dk_167 0 4 (dk_at dksX6_same_1 1 rfl rfl)
theorem dX6_same_28 : decode cX6_same 28 = .ok (.iconst 0, 1) := dk_3 (dk_at dksX6_same_1 4 rfl rfl)
theorem dX6_same_29 : decode cX6_same 29 = .ok (.iconst 1, 1) := dk_4 (dk_at dksX6_same_1 5 rfl rfl)
theorem dX6_same_30 : decode cX6_same 30 = .ok (.invokevirtual 80, 3) := dk_182 0 80 (dk_at dksX6_same_1 6 rfl rfl)
theorem dX6_same_33 : decode cX6_same 33 = .ok (.ifCond .ne 54, 3) := dk_154 0 54 (dk_at dksX6_same_1 9 rfl rfl)
theorem dX6_same_36 : decode cX6_same 36 = .ok (.aload_n 0, 1) := dk_42 (dk_at dksX6_same_1 12 rfl rfl)
theorem dX6_same_37 : decode cX6_same 37 = .ok (.aload_n 0, 1) := dk_42 (dk_at dksX6_same_1 13 rfl rfl)
theorem dX6_same_38 : decode cX6_same 38 = .ok (.iload_n 1, 1) := dk_27 (dk_at dksX6_same_1 14 rfl rfl)
theorem dX6_same_39 : decode cX6_same 39 = .ok (.invokevirtual 348, 3) := dk_182 1 92 (dk_at dksX6_same_1 15 rfl rfl)
theorem dX6_same_42 : decode cX6_same 42 = .ok (.ifCond .eq 11, 3) := dk_153 0 11 (dk_at dksX6_same_1 18 rfl rfl)
theorem dX6_same_45 : decode cX6_same 45 = .ok (.aload_n 0, 1) := dk_42 (dk_at dksX6_same_1 21 rfl rfl)
theorem dX6_same_46 : decode cX6_same 46 = .ok (.iload_n 2, 1) := dk_28 (dk_at dksX6_same_1 22 rfl rfl)
theorem dX6_same_47 : decode cX6_same 47 = .ok (.invokevirtual 348, 3) := dk_182 1 92 (dk_at dksX6_same_2 0 rfl rfl)
theorem dX6_same_50 : decode cX6_same 50 = .ok (.ifCond .ne 7, 3) := dk_154 0 7 (dk_at dksX6_same_2 3 rfl rfl)
theorem dX6_same_53 : decode cX6_same 53 = .ok (.iconst 1, 1) := dk_4 (dk_at dksX6_same_2 6 rfl rfl)
theorem dX6_same_54 : decode cX6_same 54 = .ok (.goto 4, 3) := dk_167 0 4 (dk_at dksX6_same_2 7 rfl rfl)
theorem dX6_same_57 : decode cX6_same 57 = .ok (.iconst 0, 1) := dk_3 (dk_at dksX6_same_2 10 rfl rfl)
theorem dX6_same_58 : decode cX6_same 58 = .ok (.iconst 2, 1) := dk_5 (dk_at dksX6_same_2 11 rfl rfl)
theorem dX6_same_59 : decode cX6_same 59 = .ok (.invokevirtual 80, 3) := dk_182 0 80 (dk_at dksX6_same_2 12 rfl rfl)
theorem dX6_same_62 : decode cX6_same 62 = .ok (.ifCond .ne 25, 3) := dk_154 0 25 (dk_at dksX6_same_2 15 rfl rfl)
theorem dX6_same_65 : decode cX6_same 65 = .ok (.aload_n 0, 1) := dk_42 (dk_at dksX6_same_2 18 rfl rfl)
theorem dX6_same_66 : decode cX6_same 66 = .ok (.iload_n 3, 1) := dk_29 (dk_at dksX6_same_2 19 rfl rfl)
theorem dX6_same_67 : decode cX6_same 67 = .ok (.iconst 0, 1) := dk_3 (dk_at dksX6_same_2 20 rfl rfl)
theorem dX6_same_68 : decode cX6_same 68 = .ok (.iconst 1, 1) := dk_4 (dk_at dksX6_same_2 21 rfl rfl)
theorem dX6_same_69 : decode cX6_same 69 = .ok (.invokestatic 59, 3) := dk_184 0 59 (dk_at dksX6_same_3 0 rfl rfl)
theorem dX6_same_72 : decode cX6_same 72 = .ok (.ifCond .ne 7, 3) := dk_154 0 7 (dk_at dksX6_same_3 3 rfl rfl)
theorem dX6_same_75 : decode cX6_same 75 = .ok (.iconst 1, 1) := dk_4 (dk_at dksX6_same_3 6 rfl rfl)
theorem dX6_same_76 : decode cX6_same 76 = .ok (.goto 4, 3) := dk_167 0 4 (dk_at dksX6_same_3 7 rfl rfl)
theorem dX6_same_79 : decode cX6_same 79 = .ok (.iconst 0, 1) := dk_3 (dk_at dksX6_same_3 10 rfl rfl)
theorem dX6_same_80 : decode cX6_same 80 = .ok (.iconst 3, 1) := dk_6 (dk_at dksX6_same_3 11 rfl rfl)
theorem dX6_same_81 : decode cX6_same 81 = .ok (.invokevirtual 80, 3) := dk_182 0 80 (dk_at dksX6_same_3 12 rfl rfl)
theorem dX6_same_84 : decode cX6_same 84 = .ok (.ifCond .eq 5, 3) := dk_153 0 5 (dk_at dksX6_same_3 15 rfl rfl)
theorem dX6_same_87 : decode cX6_same 87 = .ok (.iconst 0, 1) := dk_3 (dk_at dksX6_same_3 18 rfl rfl)
theorem dX6_same_88 : decode cX6_same 88 = .ok (.ireturn, 1) := dk_172 (dk_at dksX6_same_3 19 rfl rfl)
theorem dX6_same_89 : decode cX6_same 89 = .ok (.iload_n 3, 1) := dk_29 (dk_at dksX6_same_3 20 rfl rfl)
theorem dX6_same_90 : decode cX6_same 90 = .ok (.ifCond .ne 20, 3) := dk_154 0 20 (dk_at dksX6_same_3 21 rfl rfl)
theorem dX6_same_93 : decode cX6_same 93 = .ok (.aload_n 0, 1) := dk_42 (dk_at dksX6_same_4 0 rfl rfl)
theorem dX6_same_94 : decode cX6_same 94 = .ok (.iload_n 1, 1) := dk_27 (dk_at dksX6_same_4 1 rfl rfl)
theorem dX6_same_95 : decode cX6_same 95 = .ok (.invokevirtual 339, 3) := dk_182 1 83 (dk_at dksX6_same_4 2 rfl rfl)
theorem dX6_same_98 : decode cX6_same 98 = .ok (.aload_n 0, 1) := dk_42 (dk_at dksX6_same_4 5 rfl rfl)
theorem dX6_same_99 : decode cX6_same 99 = .ok (.iload_n 2, 1) := dk_28 (dk_at dksX6_same_4 6 rfl rfl)
theorem dX6_same_100 : decode cX6_same 100 = .ok (.invokevirtual 339, 3) := dk_182 1 83 (dk_at dksX6_same_4 7 rfl rfl)
theorem dX6_same_103 : decode cX6_same 103 = .ok (.iand, 1) := dk_126 (dk_at dksX6_same_4 10 rfl rfl)
theorem dX6_same_104 : decode cX6_same 104 = .ok (.invokestatic 351, 3) := dk_184 1 95 (dk_at dksX6_same_4 11 rfl rfl)
theorem dX6_same_107 : decode cX6_same 107 = .ok (.goto 20, 3) := dk_167 0 20 (dk_at dksX6_same_4 14 rfl rfl)
theorem dX6_same_110 : decode cX6_same 110 = .ok (.aload_n 0, 1) := dk_42 (dk_at dksX6_same_4 17 rfl rfl)
theorem dX6_same_111 : decode cX6_same 111 = .ok (.iload_n 1, 1) := dk_27 (dk_at dksX6_same_4 18 rfl rfl)
theorem dX6_same_112 : decode cX6_same 112 = .ok (.invokevirtual 339, 3) := dk_182 1 83 (dk_at dksX6_same_4 19 rfl rfl)
theorem dX6_same_115 : decode cX6_same 115 = .ok (.invokestatic 351, 3) := dk_184 1 95 (dk_at dksX6_same_5 0 rfl rfl)
theorem dX6_same_118 : decode cX6_same 118 = .ok (.aload_n 0, 1) := dk_42 (dk_at dksX6_same_5 3 rfl rfl)
theorem dX6_same_119 : decode cX6_same 119 = .ok (.iload_n 2, 1) := dk_28 (dk_at dksX6_same_5 4 rfl rfl)
theorem dX6_same_120 : decode cX6_same 120 = .ok (.invokevirtual 339, 3) := dk_182 1 83 (dk_at dksX6_same_5 5 rfl rfl)
theorem dX6_same_123 : decode cX6_same 123 = .ok (.invokestatic 351, 3) := dk_184 1 95 (dk_at dksX6_same_5 8 rfl rfl)
theorem dX6_same_126 : decode cX6_same 126 = .ok (.imul, 1) := dk_104 (dk_at dksX6_same_5 11 rfl rfl)
theorem dX6_same_127 : decode cX6_same 127 = .ok (.ireturn, 1) := dk_172 (dk_at dksX6_same_5 12 rfl rfl)
abbrev cX6_later : ByteArray := prog_30_method_88_code
def yX6_later : MethodName := ⟨RX6, "later", "(I)I"⟩
def dkwX6_later_7 : List UInt8 := [167, 255, 126, 28, 172]
abbrev dktX6_later_7 : List UInt8 := dkwX6_later_7 ++ []
def dkwX6_later_6 : List UInt8 := [4, 167, 0, 4, 3, 54, 5, 28, 21, 5, 153, 0, 7, 4, 167, 0, 4, 3, 96, 61, 132, 3, 1]
abbrev dktX6_later_6 : List UInt8 := dkwX6_later_6 ++ dktX6_later_7
def dkwX6_later_5 : List UInt8 := [29, 6, 182, 1, 73, 153, 0, 23, 42, 29, 6, 182, 1, 67, 42, 180, 0, 13, 16, 8, 46, 164, 0, 7]
abbrev dktX6_later_5 : List UInt8 := dkwX6_later_5 ++ dktX6_later_6
def dkwX6_later_4 : List UInt8 := [182, 1, 83, 154, 0, 7, 4, 167, 0, 46, 3, 167, 0, 42, 21, 4, 154, 0, 32, 27, 154, 0, 32, 42]
abbrev dktX6_later_4 : List UInt8 := dkwX6_later_4 ++ dktX6_later_5
def dkwX6_later_3 : List UInt8 := [167, 0, 4, 3, 54, 4, 27, 5, 160, 0, 28, 42, 29, 3, 182, 1, 73, 153, 0, 15, 42, 29]
abbrev dktX6_later_3 : List UInt8 := dkwX6_later_3 ++ dktX6_later_4
def dkwX6_later_2 : List UInt8 := [154, 0, 6, 167, 0, 111, 42, 29, 3, 182, 1, 73, 153, 0, 15, 42, 29, 182, 1, 106, 153, 0, 7, 4]
abbrev dktX6_later_2 : List UInt8 := dkwX6_later_2 ++ dktX6_later_3
def dkwX6_later_1 : List UInt8 := [153, 0, 5, 3, 172, 3, 61, 3, 62, 29, 42, 182, 1, 77, 162, 0, 128, 42, 29, 182, 1, 80]
abbrev dktX6_later_1 : List UInt8 := dkwX6_later_1 ++ dktX6_later_2
def dkwX6_later_0 : List UInt8 := [42, 3, 181, 0, 3, 42, 27, 3, 5, 184, 0, 59, 154, 0, 7, 4, 167, 0, 4, 3, 4, 182, 0, 80]
abbrev dktX6_later_0 : List UInt8 := dkwX6_later_0 ++ dktX6_later_1
theorem dksX6_later_0 : cX6_later.data.toList.drop 0 = dktX6_later_0 := by decide +kernel
theorem dksX6_later_1 : cX6_later.data.toList.drop 24 = dktX6_later_1 := dk_seg dksX6_later_0 24 rfl rfl
theorem dksX6_later_2 : cX6_later.data.toList.drop 46 = dktX6_later_2 := dk_seg dksX6_later_1 22 rfl rfl
theorem dksX6_later_3 : cX6_later.data.toList.drop 70 = dktX6_later_3 := dk_seg dksX6_later_2 24 rfl rfl
theorem dksX6_later_4 : cX6_later.data.toList.drop 92 = dktX6_later_4 := dk_seg dksX6_later_3 22 rfl rfl
theorem dksX6_later_5 : cX6_later.data.toList.drop 116 = dktX6_later_5 := dk_seg dksX6_later_4 24 rfl rfl
theorem dksX6_later_6 : cX6_later.data.toList.drop 140 = dktX6_later_6 := dk_seg dksX6_later_5 24 rfl rfl
theorem dksX6_later_7 : cX6_later.data.toList.drop 163 = dktX6_later_7 := dk_seg dksX6_later_6 23 rfl rfl
theorem dX6_later_0 : decode cX6_later 0 = .ok (.aload_n 0, 1) := dk_42 (dk_at dksX6_later_0 0 rfl rfl)
theorem dX6_later_1 : decode cX6_later 1 = .ok (.iconst 0, 1) := dk_3 (dk_at dksX6_later_0 1 rfl rfl)
theorem dX6_later_2 : decode cX6_later 2 = .ok (.putfield 3, 3) := dk_181 0 3 (dk_at dksX6_later_0 2 rfl rfl)
theorem dX6_later_5 : decode cX6_later 5 = .ok (.aload_n 0, 1) := dk_42 (dk_at dksX6_later_0 5 rfl rfl)
theorem dX6_later_6 : decode cX6_later 6 = .ok (.iload_n 1, 1) := dk_27 (dk_at dksX6_later_0 6 rfl rfl)
theorem dX6_later_7 : decode cX6_later 7 = .ok (.iconst 0, 1) := dk_3 (dk_at dksX6_later_0 7 rfl rfl)
theorem dX6_later_8 : decode cX6_later 8 = .ok (.iconst 2, 1) := dk_5 (dk_at dksX6_later_0 8 rfl rfl)
theorem dX6_later_9 : decode cX6_later 9 = .ok (.invokestatic 59, 3) := dk_184 0 59 (dk_at dksX6_later_0 9 rfl rfl)
theorem dX6_later_12 : decode cX6_later 12 = .ok (.ifCond .ne 7, 3) := dk_154 0 7 (dk_at dksX6_later_0 12 rfl rfl)
theorem dX6_later_15 : decode cX6_later 15 = .ok (.iconst 1, 1) := dk_4 (dk_at dksX6_later_0 15 rfl rfl)
theorem dX6_later_16 : decode cX6_later 16 = .ok (.goto 4, 3) := dk_167 0 4 (dk_at dksX6_later_0 16 rfl rfl)
theorem dX6_later_19 : decode cX6_later 19 = .ok (.iconst 0, 1) := dk_3 (dk_at dksX6_later_0 19 rfl rfl)
theorem dX6_later_20 : decode cX6_later 20 = .ok (.iconst 1, 1) := dk_4 (dk_at dksX6_later_0 20 rfl rfl)
theorem dX6_later_21 : decode cX6_later 21 = .ok (.invokevirtual 80, 3) := dk_182 0 80 (dk_at dksX6_later_0 21 rfl rfl)
theorem dX6_later_24 : decode cX6_later 24 = .ok (.ifCond .eq 5, 3) := dk_153 0 5 (dk_at dksX6_later_1 0 rfl rfl)
theorem dX6_later_27 : decode cX6_later 27 = .ok (.iconst 0, 1) := dk_3 (dk_at dksX6_later_1 3 rfl rfl)
theorem dX6_later_28 : decode cX6_later 28 = .ok (.ireturn, 1) := dk_172 (dk_at dksX6_later_1 4 rfl rfl)
theorem dX6_later_29 : decode cX6_later 29 = .ok (.iconst 0, 1) := dk_3 (dk_at dksX6_later_1 5 rfl rfl)
theorem dX6_later_30 : decode cX6_later 30 = .ok (.istore_n 2, 1) := dk_61 (dk_at dksX6_later_1 6 rfl rfl)
theorem dX6_later_31 : decode cX6_later 31 = .ok (.iconst 0, 1) := dk_3 (dk_at dksX6_later_1 7 rfl rfl)
theorem dX6_later_32 : decode cX6_later 32 = .ok (.istore_n 3, 1) := dk_62 (dk_at dksX6_later_1 8 rfl rfl)
theorem dX6_later_33 : decode cX6_later 33 = .ok (.iload_n 3, 1) := dk_29 (dk_at dksX6_later_1 9 rfl rfl)
theorem dX6_later_34 : decode cX6_later 34 = .ok (.aload_n 0, 1) := dk_42 (dk_at dksX6_later_1 10 rfl rfl)
theorem dX6_later_35 : decode cX6_later 35 = .ok (.invokevirtual 333, 3) := dk_182 1 77 (dk_at dksX6_later_1 11 rfl rfl)
theorem dX6_later_38 : decode cX6_later 38 = .ok (.if_icmp .ge 128, 3) := dk_162 0 128 (dk_at dksX6_later_1 14 rfl rfl)
theorem dX6_later_41 : decode cX6_later 41 = .ok (.aload_n 0, 1) := dk_42 (dk_at dksX6_later_1 17 rfl rfl)
theorem dX6_later_42 : decode cX6_later 42 = .ok (.iload_n 3, 1) := dk_29 (dk_at dksX6_later_1 18 rfl rfl)
theorem dX6_later_43 : decode cX6_later 43 = .ok (.invokevirtual 336, 3) := dk_182 1 80 (dk_at dksX6_later_1 19 rfl rfl)
theorem dX6_later_46 : decode cX6_later 46 = .ok (.ifCond .ne 6, 3) := dk_154 0 6 (dk_at dksX6_later_2 0 rfl rfl)
theorem dX6_later_49 : decode cX6_later 49 = .ok (.goto 111, 3) := dk_167 0 111 (dk_at dksX6_later_2 3 rfl rfl)
theorem dX6_later_52 : decode cX6_later 52 = .ok (.aload_n 0, 1) := dk_42 (dk_at dksX6_later_2 6 rfl rfl)
theorem dX6_later_53 : decode cX6_later 53 = .ok (.iload_n 3, 1) := dk_29 (dk_at dksX6_later_2 7 rfl rfl)
theorem dX6_later_54 : decode cX6_later 54 = .ok (.iconst 0, 1) := dk_3 (dk_at dksX6_later_2 8 rfl rfl)
theorem dX6_later_55 : decode cX6_later 55 = .ok (.invokevirtual 329, 3) := dk_182 1 73 (dk_at dksX6_later_2 9 rfl rfl)
theorem dX6_later_58 : decode cX6_later 58 = .ok (.ifCond .eq 15, 3) := dk_153 0 15 (dk_at dksX6_later_2 12 rfl rfl)
theorem dX6_later_61 : decode cX6_later 61 = .ok (.aload_n 0, 1) := dk_42 (dk_at dksX6_later_2 15 rfl rfl)
theorem dX6_later_62 : decode cX6_later 62 = .ok (.iload_n 3, 1) := dk_29 (dk_at dksX6_later_2 16 rfl rfl)
theorem dX6_later_63 : decode cX6_later 63 = .ok (.invokevirtual 362, 3) := dk_182 1 106 (dk_at dksX6_later_2 17 rfl rfl)
theorem dX6_later_66 : decode cX6_later 66 = .ok (.ifCond .eq 7, 3) := dk_153 0 7 (dk_at dksX6_later_2 20 rfl rfl)
theorem dX6_later_69 : decode cX6_later 69 = .ok (.iconst 1, 1) := dk_4 (dk_at dksX6_later_2 23 rfl rfl)
theorem dX6_later_70 : decode cX6_later 70 = .ok (.goto 4, 3) := dk_167 0 4 (dk_at dksX6_later_3 0 rfl rfl)
theorem dX6_later_73 : decode cX6_later 73 = .ok (.iconst 0, 1) := dk_3 (dk_at dksX6_later_3 3 rfl rfl)
theorem dX6_later_74 : decode cX6_later 74 = .ok (.istore 4, 2) := dk_54 4 (dk_at dksX6_later_3 4 rfl rfl)
theorem dX6_later_76 : decode cX6_later 76 = .ok (.iload_n 1, 1) := dk_27 (dk_at dksX6_later_3 6 rfl rfl)
theorem dX6_later_77 : decode cX6_later 77 = .ok (.iconst 2, 1) := dk_5 (dk_at dksX6_later_3 7 rfl rfl)
theorem dX6_later_78 : decode cX6_later 78 = .ok (.if_icmp .ne 28, 3) := dk_160 0 28 (dk_at dksX6_later_3 8 rfl rfl)
theorem dX6_later_81 : decode cX6_later 81 = .ok (.aload_n 0, 1) := dk_42 (dk_at dksX6_later_3 11 rfl rfl)
theorem dX6_later_82 : decode cX6_later 82 = .ok (.iload_n 3, 1) := dk_29 (dk_at dksX6_later_3 12 rfl rfl)
theorem dX6_later_83 : decode cX6_later 83 = .ok (.iconst 0, 1) := dk_3 (dk_at dksX6_later_3 13 rfl rfl)
theorem dX6_later_84 : decode cX6_later 84 = .ok (.invokevirtual 329, 3) := dk_182 1 73 (dk_at dksX6_later_3 14 rfl rfl)
theorem dX6_later_87 : decode cX6_later 87 = .ok (.ifCond .eq 15, 3) := dk_153 0 15 (dk_at dksX6_later_3 17 rfl rfl)
theorem dX6_later_90 : decode cX6_later 90 = .ok (.aload_n 0, 1) := dk_42 (dk_at dksX6_later_3 20 rfl rfl)
theorem dX6_later_91 : decode cX6_later 91 = .ok (.iload_n 3, 1) := dk_29 (dk_at dksX6_later_3 21 rfl rfl)
theorem dX6_later_92 : decode cX6_later 92 = .ok (.invokevirtual 339, 3) := dk_182 1 83 (dk_at dksX6_later_4 0 rfl rfl)
theorem dX6_later_95 : decode cX6_later 95 = .ok (.ifCond .ne 7, 3) := dk_154 0 7 (dk_at dksX6_later_4 3 rfl rfl)
theorem dX6_later_98 : decode cX6_later 98 = .ok (.iconst 1, 1) := dk_4 (dk_at dksX6_later_4 6 rfl rfl)
theorem dX6_later_99 : decode cX6_later 99 = .ok (.goto 46, 3) := dk_167 0 46 (dk_at dksX6_later_4 7 rfl rfl)
theorem dX6_later_102 : decode cX6_later 102 = .ok (.iconst 0, 1) := dk_3 (dk_at dksX6_later_4 10 rfl rfl)
theorem dX6_later_103 : decode cX6_later 103 = .ok (.goto 42, 3) := dk_167 0 42 (dk_at dksX6_later_4 11 rfl rfl)
theorem dX6_later_106 : decode cX6_later 106 = .ok (.iload 4, 2) := dk_21 4 (dk_at dksX6_later_4 14 rfl rfl)
theorem dX6_later_108 : decode cX6_later 108 = .ok (.ifCond .ne 32, 3) := dk_154 0 32 (dk_at dksX6_later_4 16 rfl rfl)
theorem dX6_later_111 : decode cX6_later 111 = .ok (.iload_n 1, 1) := dk_27 (dk_at dksX6_later_4 19 rfl rfl)
theorem dX6_later_112 : decode cX6_later 112 = .ok (.ifCond .ne 32, 3) := dk_154 0 32 (dk_at dksX6_later_4 20 rfl rfl)
theorem dX6_later_115 : decode cX6_later 115 = .ok (.aload_n 0, 1) := dk_42 (dk_at dksX6_later_4 23 rfl rfl)
theorem dX6_later_116 : decode cX6_later 116 = .ok (.iload_n 3, 1) := dk_29 (dk_at dksX6_later_5 0 rfl rfl)
theorem dX6_later_117 : decode cX6_later 117 = .ok (.iconst 3, 1) := dk_6 (dk_at dksX6_later_5 1 rfl rfl)
theorem dX6_later_118 : decode cX6_later 118 = .ok (.invokevirtual 329, 3) := dk_182 1 73 (dk_at dksX6_later_5 2 rfl rfl)
theorem dX6_later_121 : decode cX6_later 121 = .ok (.ifCond .eq 23, 3) := dk_153 0 23 (dk_at dksX6_later_5 5 rfl rfl)
theorem dX6_later_124 : decode cX6_later 124 = .ok (.aload_n 0, 1) := dk_42 (dk_at dksX6_later_5 8 rfl rfl)
theorem dX6_later_125 : decode cX6_later 125 = .ok (.iload_n 3, 1) := dk_29 (dk_at dksX6_later_5 9 rfl rfl)
theorem dX6_later_126 : decode cX6_later 126 = .ok (.iconst 3, 1) := dk_6 (dk_at dksX6_later_5 10 rfl rfl)
theorem dX6_later_127 : decode cX6_later 127 = .ok (.invokevirtual 323, 3) := dk_182 1 67 (dk_at dksX6_later_5 11 rfl rfl)
theorem dX6_later_130 : decode cX6_later 130 = .ok (.aload_n 0, 1) := dk_42 (dk_at dksX6_later_5 14 rfl rfl)
theorem dX6_later_131 : decode cX6_later 131 = .ok (.getfield 13, 3) := dk_180 0 13 (dk_at dksX6_later_5 15 rfl rfl)
theorem dX6_later_134 : decode cX6_later 134 = .ok (.bipush 8, 2) := dk_16 8 (dk_at dksX6_later_5 18 rfl rfl)
theorem dX6_later_136 : decode cX6_later 136 = .ok (.iaload, 1) := dk_46 (dk_at dksX6_later_5 20 rfl rfl)
theorem dX6_later_137 : decode cX6_later 137 = .ok (.if_icmp .le 7, 3) := dk_164 0 7 (dk_at dksX6_later_5 21 rfl rfl)
theorem dX6_later_140 : decode cX6_later 140 = .ok (.iconst 1, 1) := dk_4 (dk_at dksX6_later_6 0 rfl rfl)
theorem dX6_later_141 : decode cX6_later 141 = .ok (.goto 4, 3) := dk_167 0 4 (dk_at dksX6_later_6 1 rfl rfl)
theorem dX6_later_144 : decode cX6_later 144 = .ok (.iconst 0, 1) := dk_3 (dk_at dksX6_later_6 4 rfl rfl)
theorem dX6_later_145 : decode cX6_later 145 = .ok (.istore 5, 2) := dk_54 5 (dk_at dksX6_later_6 5 rfl rfl)
theorem dX6_later_147 : decode cX6_later 147 = .ok (.iload_n 2, 1) := dk_28 (dk_at dksX6_later_6 7 rfl rfl)
theorem dX6_later_148 : decode cX6_later 148 = .ok (.iload 5, 2) := dk_21 5 (dk_at dksX6_later_6 8 rfl rfl)
theorem dX6_later_150 : decode cX6_later 150 = .ok (.ifCond .eq 7, 3) := dk_153 0 7 (dk_at dksX6_later_6 10 rfl rfl)
theorem dX6_later_153 : decode cX6_later 153 = .ok (.iconst 1, 1) := dk_4 (dk_at dksX6_later_6 13 rfl rfl)
theorem dX6_later_154 : decode cX6_later 154 = .ok (.goto 4, 3) := dk_167 0 4 (dk_at dksX6_later_6 14 rfl rfl)
theorem dX6_later_157 : decode cX6_later 157 = .ok (.iconst 0, 1) := dk_3 (dk_at dksX6_later_6 17 rfl rfl)
theorem dX6_later_158 : decode cX6_later 158 = .ok (.iadd, 1) := dk_96 (dk_at dksX6_later_6 18 rfl rfl)
theorem dX6_later_159 : decode cX6_later 159 = .ok (.istore_n 2, 1) := dk_61 (dk_at dksX6_later_6 19 rfl rfl)
theorem dX6_later_160 : decode cX6_later 160 = .ok (.iinc 3 1, 3) := dk_132 3 1 (dk_at dksX6_later_6 20 rfl rfl)
theorem dX6_later_163 : decode cX6_later 163 = .ok (.goto (-130), 3) := dk_167 255 126 (dk_at dksX6_later_7 0 rfl rfl)
theorem dX6_later_166 : decode cX6_later 166 = .ok (.iload_n 2, 1) := dk_28 (dk_at dksX6_later_7 3 rfl rfl)
theorem dX6_later_167 : decode cX6_later 167 = .ok (.ireturn, 1) := dk_172 (dk_at dksX6_later_7 4 rfl rfl)
abbrev cX6_isModern : ByteArray := prog_30_method_87_code
def yX6_isModern : MethodName := ⟨RX6, "isModern", "(I)Z"⟩
def dkwX6_isModern_3 : List UInt8 := [4, 167, 0, 4, 3, 62, 132, 4, 1, 167, 255, 198, 29, 172]
abbrev dktX6_isModern_3 : List UInt8 := dkwX6_isModern_3 ++ []
def dkwX6_isModern_2 : List UInt8 := [180, 0, 13, 17, 1, 13, 7, 21, 4, 104, 96, 5, 96, 46, 42, 180, 0, 13, 16, 8, 46, 164, 0, 7]
abbrev dktX6_isModern_2 : List UInt8 := dkwX6_isModern_2 ++ dktX6_isModern_3
def dkwX6_isModern_1 : List UInt8 := [180, 0, 13, 3, 46, 162, 0, 53, 29, 153, 0, 41, 28, 21, 4, 122, 4, 126, 153, 0, 28, 42]
abbrev dktX6_isModern_1 : List UInt8 := dkwX6_isModern_1 ++ dktX6_isModern_2
def dkwX6_isModern_0 : List UInt8 := [42, 27, 182, 1, 83, 61, 28, 153, 0, 7, 4, 167, 0, 4, 3, 62, 3, 54, 4, 21, 4, 42]
abbrev dktX6_isModern_0 : List UInt8 := dkwX6_isModern_0 ++ dktX6_isModern_1
theorem dksX6_isModern_0 : cX6_isModern.data.toList.drop 0 = dktX6_isModern_0 := by decide +kernel
theorem dksX6_isModern_1 : cX6_isModern.data.toList.drop 22 = dktX6_isModern_1 := dk_seg dksX6_isModern_0 22 rfl rfl
theorem dksX6_isModern_2 : cX6_isModern.data.toList.drop 44 = dktX6_isModern_2 := dk_seg dksX6_isModern_1 22 rfl rfl
theorem dksX6_isModern_3 : cX6_isModern.data.toList.drop 68 = dktX6_isModern_3 := dk_seg dksX6_isModern_2 24 rfl rfl
theorem dX6_isModern_0 : decode cX6_isModern 0 = .ok (.aload_n 0, 1) := dk_42 (dk_at dksX6_isModern_0 0 rfl rfl)
theorem dX6_isModern_1 : decode cX6_isModern 1 = .ok (.iload_n 1, 1) := dk_27 (dk_at dksX6_isModern_0 1 rfl rfl)
theorem dX6_isModern_2 : decode cX6_isModern 2 = .ok (.invokevirtual 339, 3) := dk_182 1 83 (dk_at dksX6_isModern_0 2 rfl rfl)
theorem dX6_isModern_5 : decode cX6_isModern 5 = .ok (.istore_n 2, 1) := dk_61 (dk_at dksX6_isModern_0 5 rfl rfl)
theorem dX6_isModern_6 : decode cX6_isModern 6 = .ok (.iload_n 2, 1) := dk_28 (dk_at dksX6_isModern_0 6 rfl rfl)
theorem dX6_isModern_7 : decode cX6_isModern 7 = .ok (.ifCond .eq 7, 3) := dk_153 0 7 (dk_at dksX6_isModern_0 7 rfl rfl)
theorem dX6_isModern_10 : decode cX6_isModern 10 = .ok (.iconst 1, 1) := dk_4 (dk_at dksX6_isModern_0 10 rfl rfl)
theorem dX6_isModern_11 : decode cX6_isModern 11 = .ok (.goto 4, 3) := dk_167 0 4 (dk_at dksX6_isModern_0 11 rfl rfl)
theorem dX6_isModern_14 : decode cX6_isModern 14 = .ok (.iconst 0, 1) := dk_3 (dk_at dksX6_isModern_0 14 rfl rfl)
theorem dX6_isModern_15 : decode cX6_isModern 15 = .ok (.istore_n 3, 1) := dk_62 (dk_at dksX6_isModern_0 15 rfl rfl)
theorem dX6_isModern_16 : decode cX6_isModern 16 = .ok (.iconst 0, 1) := dk_3 (dk_at dksX6_isModern_0 16 rfl rfl)
theorem dX6_isModern_17 : decode cX6_isModern 17 = .ok (.istore 4, 2) := dk_54 4 (dk_at dksX6_isModern_0 17 rfl rfl)
theorem dX6_isModern_19 : decode cX6_isModern 19 = .ok (.iload 4, 2) := dk_21 4 (dk_at dksX6_isModern_0 19 rfl rfl)
theorem dX6_isModern_21 : decode cX6_isModern 21 = .ok (.aload_n 0, 1) := dk_42 (dk_at dksX6_isModern_0 21 rfl rfl)
theorem dX6_isModern_22 : decode cX6_isModern 22 = .ok (.getfield 13, 3) := dk_180 0 13 (dk_at dksX6_isModern_1 0 rfl rfl)
theorem dX6_isModern_25 : decode cX6_isModern 25 = .ok (.iconst 0, 1) := dk_3 (dk_at dksX6_isModern_1 3 rfl rfl)
theorem dX6_isModern_26 : decode cX6_isModern 26 = .ok (.iaload, 1) := dk_46 (dk_at dksX6_isModern_1 4 rfl rfl)
theorem dX6_isModern_27 : decode cX6_isModern 27 = .ok (.if_icmp .ge 53, 3) := dk_162 0 53 (dk_at dksX6_isModern_1 5 rfl rfl)
theorem dX6_isModern_30 : decode cX6_isModern 30 = .ok (.iload_n 3, 1) := dk_29 (dk_at dksX6_isModern_1 8 rfl rfl)
theorem dX6_isModern_31 : decode cX6_isModern 31 = .ok (.ifCond .eq 41, 3) := dk_153 0 41 (dk_at dksX6_isModern_1 9 rfl rfl)
theorem dX6_isModern_34 : decode cX6_isModern 34 = .ok (.iload_n 2, 1) := dk_28 (dk_at dksX6_isModern_1 12 rfl rfl)
theorem dX6_isModern_35 : decode cX6_isModern 35 = .ok (.iload 4, 2) := dk_21 4 (dk_at dksX6_isModern_1 13 rfl rfl)
theorem dX6_isModern_37 : decode cX6_isModern 37 = .ok (.ishr, 1) := dk_122 (dk_at dksX6_isModern_1 15 rfl rfl)
theorem dX6_isModern_38 : decode cX6_isModern 38 = .ok (.iconst 1, 1) := dk_4 (dk_at dksX6_isModern_1 16 rfl rfl)
theorem dX6_isModern_39 : decode cX6_isModern 39 = .ok (.iand, 1) := dk_126 (dk_at dksX6_isModern_1 17 rfl rfl)
theorem dX6_isModern_40 : decode cX6_isModern 40 = .ok (.ifCond .eq 28, 3) := dk_153 0 28 (dk_at dksX6_isModern_1 18 rfl rfl)
theorem dX6_isModern_43 : decode cX6_isModern 43 = .ok (.aload_n 0, 1) := dk_42 (dk_at dksX6_isModern_1 21 rfl rfl)
theorem dX6_isModern_44 : decode cX6_isModern 44 = .ok (.getfield 13, 3) := dk_180 0 13 (dk_at dksX6_isModern_2 0 rfl rfl)
theorem dX6_isModern_47 : decode cX6_isModern 47 = .ok (.sipush 269, 3) := dk_17 1 13 (dk_at dksX6_isModern_2 3 rfl rfl)
theorem dX6_isModern_50 : decode cX6_isModern 50 = .ok (.iconst 4, 1) := dk_7 (dk_at dksX6_isModern_2 6 rfl rfl)
theorem dX6_isModern_51 : decode cX6_isModern 51 = .ok (.iload 4, 2) := dk_21 4 (dk_at dksX6_isModern_2 7 rfl rfl)
theorem dX6_isModern_53 : decode cX6_isModern 53 = .ok (.imul, 1) := dk_104 (dk_at dksX6_isModern_2 9 rfl rfl)
theorem dX6_isModern_54 : decode cX6_isModern 54 = .ok (.iadd, 1) := dk_96 (dk_at dksX6_isModern_2 10 rfl rfl)
theorem dX6_isModern_55 : decode cX6_isModern 55 = .ok (.iconst 2, 1) := dk_5 (dk_at dksX6_isModern_2 11 rfl rfl)
theorem dX6_isModern_56 : decode cX6_isModern 56 = .ok (.iadd, 1) := dk_96 (dk_at dksX6_isModern_2 12 rfl rfl)
theorem dX6_isModern_57 : decode cX6_isModern 57 = .ok (.iaload, 1) := dk_46 (dk_at dksX6_isModern_2 13 rfl rfl)
theorem dX6_isModern_58 : decode cX6_isModern 58 = .ok (.aload_n 0, 1) := dk_42 (dk_at dksX6_isModern_2 14 rfl rfl)
theorem dX6_isModern_59 : decode cX6_isModern 59 = .ok (.getfield 13, 3) := dk_180 0 13 (dk_at dksX6_isModern_2 15 rfl rfl)
theorem dX6_isModern_62 : decode cX6_isModern 62 = .ok (.bipush 8, 2) := dk_16 8 (dk_at dksX6_isModern_2 18 rfl rfl)
theorem dX6_isModern_64 : decode cX6_isModern 64 = .ok (.iaload, 1) := dk_46 (dk_at dksX6_isModern_2 20 rfl rfl)
theorem dX6_isModern_65 : decode cX6_isModern 65 = .ok (.if_icmp .le 7, 3) := dk_164 0 7 (dk_at dksX6_isModern_2 21 rfl rfl)
theorem dX6_isModern_68 : decode cX6_isModern 68 = .ok (.iconst 1, 1) := dk_4 (dk_at dksX6_isModern_3 0 rfl rfl)
theorem dX6_isModern_69 : decode cX6_isModern 69 = .ok (.goto 4, 3) := dk_167 0 4 (dk_at dksX6_isModern_3 1 rfl rfl)
theorem dX6_isModern_72 : decode cX6_isModern 72 = .ok (.iconst 0, 1) := dk_3 (dk_at dksX6_isModern_3 4 rfl rfl)
theorem dX6_isModern_73 : decode cX6_isModern 73 = .ok (.istore_n 3, 1) := dk_62 (dk_at dksX6_isModern_3 5 rfl rfl)
theorem dX6_isModern_74 : decode cX6_isModern 74 = .ok (.iinc 4 1, 3) := dk_132 4 1 (dk_at dksX6_isModern_3 6 rfl rfl)
theorem dX6_isModern_77 : decode cX6_isModern 77 = .ok (.goto (-58), 3) := dk_167 255 198 (dk_at dksX6_isModern_3 9 rfl rfl)
theorem dX6_isModern_80 : decode cX6_isModern 80 = .ok (.iload_n 3, 1) := dk_29 (dk_at dksX6_isModern_3 12 rfl rfl)
theorem dX6_isModern_81 : decode cX6_isModern 81 = .ok (.ireturn, 1) := dk_172 (dk_at dksX6_isModern_3 13 rfl rfl)
abbrev cX6_way : ByteArray := prog_30_method_94_code
def yX6_way : MethodName := ⟨RX6, "way", "(II)I"⟩
def dkwX6_way_6 : List UInt8 := [132, 5, 1, 167, 255, 220, 2, 172]
abbrev dktX6_way_6 : List UInt8 := dkwX6_way_6 ++ []
def dkwX6_way_5 : List UInt8 := [21, 5, 182, 1, 125, 42, 29, 182, 1, 119, 21, 4, 160, 0, 11, 42, 180, 0, 36, 21, 5, 46, 172]
abbrev dktX6_way_5 : List UInt8 := dkwX6_way_5 ++ dktX6_way_6
def dkwX6_way_4 : List UInt8 := [2, 172, 28, 4, 160, 0, 6, 21, 4, 172, 3, 54, 5, 21, 5, 42, 180, 1, 109, 162, 0, 33, 42]
abbrev dktX6_way_4 : List UInt8 := dkwX6_way_4 ++ dktX6_way_5
def dkwX6_way_3 : List UInt8 := [100, 62, 42, 29, 182, 1, 119, 54, 4, 42, 180, 1, 109, 153, 0, 11, 21, 4, 19, 1, 115, 160, 0, 5]
abbrev dktX6_way_3 : List UInt8 := dkwX6_way_3 ++ dktX6_way_4
def dkwX6_way_2 : List UInt8 := [182, 1, 122, 42, 2, 182, 1, 125, 28, 154, 0, 8, 42, 182, 1, 128, 172, 4, 42, 180, 1, 109, 120, 4]
abbrev dktX6_way_2 : List UInt8 := dkwX6_way_2 ++ dktX6_way_3
def dkwX6_way_1 : List UInt8 := [184, 0, 59, 154, 0, 7, 4, 167, 0, 4, 3, 5, 182, 0, 80, 153, 0, 5, 3, 172, 42, 27]
abbrev dktX6_way_1 : List UInt8 := dkwX6_way_1 ++ dktX6_way_2
def dkwX6_way_0 : List UInt8 := [42, 3, 181, 0, 3, 42, 42, 27, 3, 182, 1, 20, 4, 182, 0, 80, 154, 0, 25, 42, 28, 3, 5]
abbrev dktX6_way_0 : List UInt8 := dkwX6_way_0 ++ dktX6_way_1
theorem dksX6_way_0 : cX6_way.data.toList.drop 0 = dktX6_way_0 := by decide +kernel
theorem dksX6_way_1 : cX6_way.data.toList.drop 23 = dktX6_way_1 := dk_seg dksX6_way_0 23 rfl rfl
theorem dksX6_way_2 : cX6_way.data.toList.drop 45 = dktX6_way_2 := dk_seg dksX6_way_1 22 rfl rfl
theorem dksX6_way_3 : cX6_way.data.toList.drop 69 = dktX6_way_3 := dk_seg dksX6_way_2 24 rfl rfl
theorem dksX6_way_4 : cX6_way.data.toList.drop 93 = dktX6_way_4 := dk_seg dksX6_way_3 24 rfl rfl
theorem dksX6_way_5 : cX6_way.data.toList.drop 116 = dktX6_way_5 := dk_seg dksX6_way_4 23 rfl rfl
theorem dksX6_way_6 : cX6_way.data.toList.drop 139 = dktX6_way_6 := dk_seg dksX6_way_5 23 rfl rfl
theorem dX6_way_0 : decode cX6_way 0 = .ok (.aload_n 0, 1) := dk_42 (dk_at dksX6_way_0 0 rfl rfl)
theorem dX6_way_1 : decode cX6_way 1 = .ok (.iconst 0, 1) := dk_3 (dk_at dksX6_way_0 1 rfl rfl)
theorem dX6_way_2 : decode cX6_way 2 = .ok (.putfield 3, 3) := dk_181 0 3 (dk_at dksX6_way_0 2 rfl rfl)
theorem dX6_way_5 : decode cX6_way 5 = .ok (.aload_n 0, 1) := dk_42 (dk_at dksX6_way_0 5 rfl rfl)
theorem dX6_way_6 : decode cX6_way 6 = .ok (.aload_n 0, 1) := dk_42 (dk_at dksX6_way_0 6 rfl rfl)
theorem dX6_way_7 : decode cX6_way 7 = .ok (.iload_n 1, 1) := dk_27 (dk_at dksX6_way_0 7 rfl rfl)
theorem dX6_way_8 : decode cX6_way 8 = .ok (.iconst 0, 1) := dk_3 (dk_at dksX6_way_0 8 rfl rfl)
theorem dX6_way_9 : decode cX6_way 9 = .ok (.invokevirtual 276, 3) := dk_182 1 20 (dk_at dksX6_way_0 9 rfl rfl)
theorem dX6_way_12 : decode cX6_way 12 = .ok (.iconst 1, 1) := dk_4 (dk_at dksX6_way_0 12 rfl rfl)
theorem dX6_way_13 : decode cX6_way 13 = .ok (.invokevirtual 80, 3) := dk_182 0 80 (dk_at dksX6_way_0 13 rfl rfl)
theorem dX6_way_16 : decode cX6_way 16 = .ok (.ifCond .ne 25, 3) := dk_154 0 25 (dk_at dksX6_way_0 16 rfl rfl)
theorem dX6_way_19 : decode cX6_way 19 = .ok (.aload_n 0, 1) := dk_42 (dk_at dksX6_way_0 19 rfl rfl)
theorem dX6_way_20 : decode cX6_way 20 = .ok (.iload_n 2, 1) := dk_28 (dk_at dksX6_way_0 20 rfl rfl)
theorem dX6_way_21 : decode cX6_way 21 = .ok (.iconst 0, 1) := dk_3 (dk_at dksX6_way_0 21 rfl rfl)
theorem dX6_way_22 : decode cX6_way 22 = .ok (.iconst 2, 1) := dk_5 (dk_at dksX6_way_0 22 rfl rfl)
theorem dX6_way_23 : decode cX6_way 23 = .ok (.invokestatic 59, 3) := dk_184 0 59 (dk_at dksX6_way_1 0 rfl rfl)
theorem dX6_way_26 : decode cX6_way 26 = .ok (.ifCond .ne 7, 3) := dk_154 0 7 (dk_at dksX6_way_1 3 rfl rfl)
theorem dX6_way_29 : decode cX6_way 29 = .ok (.iconst 1, 1) := dk_4 (dk_at dksX6_way_1 6 rfl rfl)
theorem dX6_way_30 : decode cX6_way 30 = .ok (.goto 4, 3) := dk_167 0 4 (dk_at dksX6_way_1 7 rfl rfl)
theorem dX6_way_33 : decode cX6_way 33 = .ok (.iconst 0, 1) := dk_3 (dk_at dksX6_way_1 10 rfl rfl)
theorem dX6_way_34 : decode cX6_way 34 = .ok (.iconst 2, 1) := dk_5 (dk_at dksX6_way_1 11 rfl rfl)
theorem dX6_way_35 : decode cX6_way 35 = .ok (.invokevirtual 80, 3) := dk_182 0 80 (dk_at dksX6_way_1 12 rfl rfl)
theorem dX6_way_38 : decode cX6_way 38 = .ok (.ifCond .eq 5, 3) := dk_153 0 5 (dk_at dksX6_way_1 15 rfl rfl)
theorem dX6_way_41 : decode cX6_way 41 = .ok (.iconst 0, 1) := dk_3 (dk_at dksX6_way_1 18 rfl rfl)
theorem dX6_way_42 : decode cX6_way 42 = .ok (.ireturn, 1) := dk_172 (dk_at dksX6_way_1 19 rfl rfl)
theorem dX6_way_43 : decode cX6_way 43 = .ok (.aload_n 0, 1) := dk_42 (dk_at dksX6_way_1 20 rfl rfl)
theorem dX6_way_44 : decode cX6_way 44 = .ok (.iload_n 1, 1) := dk_27 (dk_at dksX6_way_1 21 rfl rfl)
theorem dX6_way_45 : decode cX6_way 45 = .ok (.invokevirtual 378, 3) := dk_182 1 122 (dk_at dksX6_way_2 0 rfl rfl)
theorem dX6_way_48 : decode cX6_way 48 = .ok (.aload_n 0, 1) := dk_42 (dk_at dksX6_way_2 3 rfl rfl)
theorem dX6_way_49 : decode cX6_way 49 = .ok (.iconst (-1), 1) := dk_2 (dk_at dksX6_way_2 4 rfl rfl)
theorem dX6_way_50 : decode cX6_way 50 = .ok (.invokevirtual 381, 3) := dk_182 1 125 (dk_at dksX6_way_2 5 rfl rfl)
theorem dX6_way_53 : decode cX6_way 53 = .ok (.iload_n 2, 1) := dk_28 (dk_at dksX6_way_2 8 rfl rfl)
theorem dX6_way_54 : decode cX6_way 54 = .ok (.ifCond .ne 8, 3) := dk_154 0 8 (dk_at dksX6_way_2 9 rfl rfl)
theorem dX6_way_57 : decode cX6_way 57 = .ok (.aload_n 0, 1) := dk_42 (dk_at dksX6_way_2 12 rfl rfl)
theorem dX6_way_58 : decode cX6_way 58 = .ok (.invokevirtual 384, 3) := dk_182 1 128 (dk_at dksX6_way_2 13 rfl rfl)
theorem dX6_way_61 : decode cX6_way 61 = .ok (.ireturn, 1) := dk_172 (dk_at dksX6_way_2 16 rfl rfl)
theorem dX6_way_62 : decode cX6_way 62 = .ok (.iconst 1, 1) := dk_4 (dk_at dksX6_way_2 17 rfl rfl)
theorem dX6_way_63 : decode cX6_way 63 = .ok (.aload_n 0, 1) := dk_42 (dk_at dksX6_way_2 18 rfl rfl)
theorem dX6_way_64 : decode cX6_way 64 = .ok (.getfield 365, 3) := dk_180 1 109 (dk_at dksX6_way_2 19 rfl rfl)
theorem dX6_way_67 : decode cX6_way 67 = .ok (.ishl, 1) := dk_120 (dk_at dksX6_way_2 22 rfl rfl)
theorem dX6_way_68 : decode cX6_way 68 = .ok (.iconst 1, 1) := dk_4 (dk_at dksX6_way_2 23 rfl rfl)
theorem dX6_way_69 : decode cX6_way 69 = .ok (.isub, 1) := dk_100 (dk_at dksX6_way_3 0 rfl rfl)
theorem dX6_way_70 : decode cX6_way 70 = .ok (.istore_n 3, 1) := dk_62 (dk_at dksX6_way_3 1 rfl rfl)
theorem dX6_way_71 : decode cX6_way 71 = .ok (.aload_n 0, 1) := dk_42 (dk_at dksX6_way_3 2 rfl rfl)
theorem dX6_way_72 : decode cX6_way 72 = .ok (.iload_n 3, 1) := dk_29 (dk_at dksX6_way_3 3 rfl rfl)
theorem dX6_way_73 : decode cX6_way 73 = .ok (.invokevirtual 375, 3) := dk_182 1 119 (dk_at dksX6_way_3 4 rfl rfl)
theorem dX6_way_76 : decode cX6_way 76 = .ok (.istore 4, 2) := dk_54 4 (dk_at dksX6_way_3 7 rfl rfl)
theorem dX6_way_78 : decode cX6_way 78 = .ok (.aload_n 0, 1) := dk_42 (dk_at dksX6_way_3 9 rfl rfl)
theorem dX6_way_79 : decode cX6_way 79 = .ok (.getfield 365, 3) := dk_180 1 109 (dk_at dksX6_way_3 10 rfl rfl)
theorem dX6_way_82 : decode cX6_way 82 = .ok (.ifCond .eq 11, 3) := dk_153 0 11 (dk_at dksX6_way_3 13 rfl rfl)
theorem dX6_way_85 : decode cX6_way 85 = .ok (.iload 4, 2) := dk_21 4 (dk_at dksX6_way_3 16 rfl rfl)
theorem dX6_way_87 : decode cX6_way 87 = .ok (.ldc_w 371, 3) := dk_19 1 115 (dk_at dksX6_way_3 18 rfl rfl)
theorem dX6_way_90 : decode cX6_way 90 = .ok (.if_icmp .ne 5, 3) := dk_160 0 5 (dk_at dksX6_way_3 21 rfl rfl)
theorem dX6_way_93 : decode cX6_way 93 = .ok (.iconst (-1), 1) := dk_2 (dk_at dksX6_way_4 0 rfl rfl)
theorem dX6_way_94 : decode cX6_way 94 = .ok (.ireturn, 1) := dk_172 (dk_at dksX6_way_4 1 rfl rfl)
theorem dX6_way_95 : decode cX6_way 95 = .ok (.iload_n 2, 1) := dk_28 (dk_at dksX6_way_4 2 rfl rfl)
theorem dX6_way_96 : decode cX6_way 96 = .ok (.iconst 1, 1) := dk_4 (dk_at dksX6_way_4 3 rfl rfl)
theorem dX6_way_97 : decode cX6_way 97 = .ok (.if_icmp .ne 6, 3) := dk_160 0 6 (dk_at dksX6_way_4 4 rfl rfl)
theorem dX6_way_100 : decode cX6_way 100 = .ok (.iload 4, 2) := dk_21 4 (dk_at dksX6_way_4 7 rfl rfl)
theorem dX6_way_102 : decode cX6_way 102 = .ok (.ireturn, 1) := dk_172 (dk_at dksX6_way_4 9 rfl rfl)
theorem dX6_way_103 : decode cX6_way 103 = .ok (.iconst 0, 1) := dk_3 (dk_at dksX6_way_4 10 rfl rfl)
theorem dX6_way_104 : decode cX6_way 104 = .ok (.istore 5, 2) := dk_54 5 (dk_at dksX6_way_4 11 rfl rfl)
theorem dX6_way_106 : decode cX6_way 106 = .ok (.iload 5, 2) := dk_21 5 (dk_at dksX6_way_4 13 rfl rfl)
theorem dX6_way_108 : decode cX6_way 108 = .ok (.aload_n 0, 1) := dk_42 (dk_at dksX6_way_4 15 rfl rfl)
theorem dX6_way_109 : decode cX6_way 109 = .ok (.getfield 365, 3) := dk_180 1 109 (dk_at dksX6_way_4 16 rfl rfl)
theorem dX6_way_112 : decode cX6_way 112 = .ok (.if_icmp .ge 33, 3) := dk_162 0 33 (dk_at dksX6_way_4 19 rfl rfl)
theorem dX6_way_115 : decode cX6_way 115 = .ok (.aload_n 0, 1) := dk_42 (dk_at dksX6_way_4 22 rfl rfl)
theorem dX6_way_116 : decode cX6_way 116 = .ok (.iload 5, 2) := dk_21 5 (dk_at dksX6_way_5 0 rfl rfl)
theorem dX6_way_118 : decode cX6_way 118 = .ok (.invokevirtual 381, 3) := dk_182 1 125 (dk_at dksX6_way_5 2 rfl rfl)
theorem dX6_way_121 : decode cX6_way 121 = .ok (.aload_n 0, 1) := dk_42 (dk_at dksX6_way_5 5 rfl rfl)
theorem dX6_way_122 : decode cX6_way 122 = .ok (.iload_n 3, 1) := dk_29 (dk_at dksX6_way_5 6 rfl rfl)
theorem dX6_way_123 : decode cX6_way 123 = .ok (.invokevirtual 375, 3) := dk_182 1 119 (dk_at dksX6_way_5 7 rfl rfl)
theorem dX6_way_126 : decode cX6_way 126 = .ok (.iload 4, 2) := dk_21 4 (dk_at dksX6_way_5 10 rfl rfl)
theorem dX6_way_128 : decode cX6_way 128 = .ok (.if_icmp .ne 11, 3) := dk_160 0 11 (dk_at dksX6_way_5 12 rfl rfl)
theorem dX6_way_131 : decode cX6_way 131 = .ok (.aload_n 0, 1) := dk_42 (dk_at dksX6_way_5 15 rfl rfl)
theorem dX6_way_132 : decode cX6_way 132 = .ok (.getfield 36, 3) := dk_180 0 36 (dk_at dksX6_way_5 16 rfl rfl)
theorem dX6_way_135 : decode cX6_way 135 = .ok (.iload 5, 2) := dk_21 5 (dk_at dksX6_way_5 19 rfl rfl)
theorem dX6_way_137 : decode cX6_way 137 = .ok (.iaload, 1) := dk_46 (dk_at dksX6_way_5 21 rfl rfl)
theorem dX6_way_138 : decode cX6_way 138 = .ok (.ireturn, 1) := dk_172 (dk_at dksX6_way_5 22 rfl rfl)
theorem dX6_way_139 : decode cX6_way 139 = .ok (.iinc 5 1, 3) := dk_132 5 1 (dk_at dksX6_way_6 0 rfl rfl)
theorem dX6_way_142 : decode cX6_way 142 = .ok (.goto (-36), 3) := dk_167 255 220 (dk_at dksX6_way_6 3 rfl rfl)
theorem dX6_way_145 : decode cX6_way 145 = .ok (.iconst (-1), 1) := dk_2 (dk_at dksX6_way_6 6 rfl rfl)
theorem dX6_way_146 : decode cX6_way 146 = .ok (.ireturn, 1) := dk_172 (dk_at dksX6_way_6 7 rfl rfl)
abbrev cX6_gathers : ByteArray := prog_30_method_89_code
def yX6_gathers : MethodName := ⟨RX6, "gathers", "(I)V"⟩
def dkwX6_gathers_2 : List UInt8 := [180, 1, 109, 4, 96, 181, 1, 109, 132, 2, 1, 167, 255, 204, 177]
abbrev dktX6_gathers_2 : List UInt8 := dkwX6_gathers_2 ++ []
def dkwX6_gathers_1 : List UInt8 := [42, 28, 182, 1, 112, 27, 159, 0, 6, 167, 0, 23, 42, 180, 0, 36, 42, 180, 1, 109, 28, 79, 42, 89]
abbrev dktX6_gathers_1 : List UInt8 := dkwX6_gathers_1 ++ dktX6_gathers_2
def dkwX6_gathers_0 : List UInt8 := [42, 3, 181, 1, 109, 3, 61, 28, 42, 182, 1, 77, 162, 0, 50, 42, 180, 1, 109, 16, 8, 162, 0, 41]
abbrev dktX6_gathers_0 : List UInt8 := dkwX6_gathers_0 ++ dktX6_gathers_1
theorem dksX6_gathers_0 : cX6_gathers.data.toList.drop 0 = dktX6_gathers_0 := by decide +kernel
theorem dksX6_gathers_1 : cX6_gathers.data.toList.drop 24 = dktX6_gathers_1 := dk_seg dksX6_gathers_0 24 rfl rfl
theorem dksX6_gathers_2 : cX6_gathers.data.toList.drop 48 = dktX6_gathers_2 := dk_seg dksX6_gathers_1 24 rfl rfl
theorem dX6_gathers_0 : decode cX6_gathers 0 = .ok (.aload_n 0, 1) := dk_42 (dk_at dksX6_gathers_0 0 rfl rfl)
theorem dX6_gathers_1 : decode cX6_gathers 1 = .ok (.iconst 0, 1) := dk_3 (dk_at dksX6_gathers_0 1 rfl rfl)
theorem dX6_gathers_2 : decode cX6_gathers 2 = .ok (.putfield 365, 3) := dk_181 1 109 (dk_at dksX6_gathers_0 2 rfl rfl)
theorem dX6_gathers_5 : decode cX6_gathers 5 = .ok (.iconst 0, 1) := dk_3 (dk_at dksX6_gathers_0 5 rfl rfl)
theorem dX6_gathers_6 : decode cX6_gathers 6 = .ok (.istore_n 2, 1) := dk_61 (dk_at dksX6_gathers_0 6 rfl rfl)
theorem dX6_gathers_7 : decode cX6_gathers 7 = .ok (.iload_n 2, 1) := dk_28 (dk_at dksX6_gathers_0 7 rfl rfl)
theorem dX6_gathers_8 : decode cX6_gathers 8 = .ok (.aload_n 0, 1) := dk_42 (dk_at dksX6_gathers_0 8 rfl rfl)
theorem dX6_gathers_9 : decode cX6_gathers 9 = .ok (.invokevirtual 333, 3) := dk_182 1 77 (dk_at dksX6_gathers_0 9 rfl rfl)
theorem dX6_gathers_12 : decode cX6_gathers 12 = .ok (.if_icmp .ge 50, 3) := dk_162 0 50 (dk_at dksX6_gathers_0 12 rfl rfl)
theorem dX6_gathers_15 : decode cX6_gathers 15 = .ok (.aload_n 0, 1) := dk_42 (dk_at dksX6_gathers_0 15 rfl rfl)
theorem dX6_gathers_16 : decode cX6_gathers 16 = .ok (.getfield 365, 3) := dk_180 1 109 (dk_at dksX6_gathers_0 16 rfl rfl)
theorem dX6_gathers_19 : decode cX6_gathers 19 = .ok (.bipush 8, 2) := dk_16 8 (dk_at dksX6_gathers_0 19 rfl rfl)
theorem dX6_gathers_21 : decode cX6_gathers 21 = .ok (.if_icmp .ge 41, 3) := dk_162 0 41 (dk_at dksX6_gathers_0 21 rfl rfl)
theorem dX6_gathers_24 : decode cX6_gathers 24 = .ok (.aload_n 0, 1) := dk_42 (dk_at dksX6_gathers_1 0 rfl rfl)
theorem dX6_gathers_25 : decode cX6_gathers 25 = .ok (.iload_n 2, 1) := dk_28 (dk_at dksX6_gathers_1 1 rfl rfl)
theorem dX6_gathers_26 : decode cX6_gathers 26 = .ok (.invokevirtual 368, 3) := dk_182 1 112 (dk_at dksX6_gathers_1 2 rfl rfl)
theorem dX6_gathers_29 : decode cX6_gathers 29 = .ok (.iload_n 1, 1) := dk_27 (dk_at dksX6_gathers_1 5 rfl rfl)
theorem dX6_gathers_30 : decode cX6_gathers 30 = .ok (.if_icmp .eq 6, 3) := dk_159 0 6 (dk_at dksX6_gathers_1 6 rfl rfl)
theorem dX6_gathers_33 : decode cX6_gathers 33 = .ok (.goto 23, 3) := dk_167 0 23 (dk_at dksX6_gathers_1 9 rfl rfl)
theorem dX6_gathers_36 : decode cX6_gathers 36 = .ok (.aload_n 0, 1) := dk_42 (dk_at dksX6_gathers_1 12 rfl rfl)
theorem dX6_gathers_37 : decode cX6_gathers 37 = .ok (.getfield 36, 3) := dk_180 0 36 (dk_at dksX6_gathers_1 13 rfl rfl)
theorem dX6_gathers_40 : decode cX6_gathers 40 = .ok (.aload_n 0, 1) := dk_42 (dk_at dksX6_gathers_1 16 rfl rfl)
theorem dX6_gathers_41 : decode cX6_gathers 41 = .ok (.getfield 365, 3) := dk_180 1 109 (dk_at dksX6_gathers_1 17 rfl rfl)
theorem dX6_gathers_44 : decode cX6_gathers 44 = .ok (.iload_n 2, 1) := dk_28 (dk_at dksX6_gathers_1 20 rfl rfl)
theorem dX6_gathers_45 : decode cX6_gathers 45 = .ok (.iastore, 1) := dk_79 (dk_at dksX6_gathers_1 21 rfl rfl)
theorem dX6_gathers_46 : decode cX6_gathers 46 = .ok (.aload_n 0, 1) := dk_42 (dk_at dksX6_gathers_1 22 rfl rfl)
theorem dX6_gathers_47 : decode cX6_gathers 47 = .ok (.dup, 1) := dk_89 (dk_at dksX6_gathers_1 23 rfl rfl)
theorem dX6_gathers_48 : decode cX6_gathers 48 = .ok (.getfield 365, 3) := dk_180 1 109 (dk_at dksX6_gathers_2 0 rfl rfl)
theorem dX6_gathers_51 : decode cX6_gathers 51 = .ok (.iconst 1, 1) := dk_4 (dk_at dksX6_gathers_2 3 rfl rfl)
theorem dX6_gathers_52 : decode cX6_gathers 52 = .ok (.iadd, 1) := dk_96 (dk_at dksX6_gathers_2 4 rfl rfl)
theorem dX6_gathers_53 : decode cX6_gathers 53 = .ok (.putfield 365, 3) := dk_181 1 109 (dk_at dksX6_gathers_2 5 rfl rfl)
theorem dX6_gathers_56 : decode cX6_gathers 56 = .ok (.iinc 2 1, 3) := dk_132 2 1 (dk_at dksX6_gathers_2 8 rfl rfl)
theorem dX6_gathers_59 : decode cX6_gathers 59 = .ok (.goto (-52), 3) := dk_167 255 204 (dk_at dksX6_gathers_2 11 rfl rfl)
theorem dX6_gathers_62 : decode cX6_gathers 62 = .ok (.return_, 1) := dk_177 (dk_at dksX6_gathers_2 14 rfl rfl)
abbrev cX6_sureOf : ByteArray := prog_30_method_83_code
def yX6_sureOf : MethodName := ⟨RX6, "sureOf", "(I)I"⟩
def dkwX6_sureOf_1 : List UInt8 := [160, 0, 10, 28, 184, 1, 100, 167, 0, 4, 2, 172]
abbrev dktX6_sureOf_1 : List UInt8 := dkwX6_sureOf_1 ++ []
def dkwX6_sureOf_0 : List UInt8 := [42, 27, 182, 1, 92, 153, 0, 11, 42, 27, 182, 1, 83, 167, 0, 4, 3, 61, 28, 184, 1, 95, 4]
abbrev dktX6_sureOf_0 : List UInt8 := dkwX6_sureOf_0 ++ dktX6_sureOf_1
theorem dksX6_sureOf_0 : cX6_sureOf.data.toList.drop 0 = dktX6_sureOf_0 := by decide +kernel
theorem dksX6_sureOf_1 : cX6_sureOf.data.toList.drop 23 = dktX6_sureOf_1 := dk_seg dksX6_sureOf_0 23 rfl rfl
theorem dX6_sureOf_0 : decode cX6_sureOf 0 = .ok (.aload_n 0, 1) := dk_42 (dk_at dksX6_sureOf_0 0 rfl rfl)
theorem dX6_sureOf_1 : decode cX6_sureOf 1 = .ok (.iload_n 1, 1) := dk_27 (dk_at dksX6_sureOf_0 1 rfl rfl)
theorem dX6_sureOf_2 : decode cX6_sureOf 2 = .ok (.invokevirtual 348, 3) := dk_182 1 92 (dk_at dksX6_sureOf_0 2 rfl rfl)
theorem dX6_sureOf_5 : decode cX6_sureOf 5 = .ok (.ifCond .eq 11, 3) := dk_153 0 11 (dk_at dksX6_sureOf_0 5 rfl rfl)
theorem dX6_sureOf_8 : decode cX6_sureOf 8 = .ok (.aload_n 0, 1) := dk_42 (dk_at dksX6_sureOf_0 8 rfl rfl)
theorem dX6_sureOf_9 : decode cX6_sureOf 9 = .ok (.iload_n 1, 1) := dk_27 (dk_at dksX6_sureOf_0 9 rfl rfl)
theorem dX6_sureOf_10 : decode cX6_sureOf 10 = .ok (.invokevirtual 339, 3) := dk_182 1 83 (dk_at dksX6_sureOf_0 10 rfl rfl)
theorem dX6_sureOf_13 : decode cX6_sureOf 13 = .ok (.goto 4, 3) := dk_167 0 4 (dk_at dksX6_sureOf_0 13 rfl rfl)
theorem dX6_sureOf_16 : decode cX6_sureOf 16 = .ok (.iconst 0, 1) := dk_3 (dk_at dksX6_sureOf_0 16 rfl rfl)
theorem dX6_sureOf_17 : decode cX6_sureOf 17 = .ok (.istore_n 2, 1) := dk_61 (dk_at dksX6_sureOf_0 17 rfl rfl)
theorem dX6_sureOf_18 : decode cX6_sureOf 18 = .ok (.iload_n 2, 1) := dk_28 (dk_at dksX6_sureOf_0 18 rfl rfl)
theorem dX6_sureOf_19 : decode cX6_sureOf 19 = .ok (.invokestatic 351, 3) := dk_184 1 95 (dk_at dksX6_sureOf_0 19 rfl rfl)
theorem dX6_sureOf_22 : decode cX6_sureOf 22 = .ok (.iconst 1, 1) := dk_4 (dk_at dksX6_sureOf_0 22 rfl rfl)
theorem dX6_sureOf_23 : decode cX6_sureOf 23 = .ok (.if_icmp .ne 10, 3) := dk_160 0 10 (dk_at dksX6_sureOf_1 0 rfl rfl)
theorem dX6_sureOf_26 : decode cX6_sureOf 26 = .ok (.iload_n 2, 1) := dk_28 (dk_at dksX6_sureOf_1 3 rfl rfl)
theorem dX6_sureOf_27 : decode cX6_sureOf 27 = .ok (.invokestatic 356, 3) := dk_184 1 100 (dk_at dksX6_sureOf_1 4 rfl rfl)
theorem dX6_sureOf_30 : decode cX6_sureOf 30 = .ok (.goto 4, 3) := dk_167 0 4 (dk_at dksX6_sureOf_1 7 rfl rfl)
theorem dX6_sureOf_33 : decode cX6_sureOf 33 = .ok (.iconst (-1), 1) := dk_2 (dk_at dksX6_sureOf_1 10 rfl rfl)
theorem dX6_sureOf_34 : decode cX6_sureOf 34 = .ok (.ireturn, 1) := dk_172 (dk_at dksX6_sureOf_1 11 rfl rfl)
abbrev cX6_leads : ByteArray := prog_30_method_91_code
def yX6_leads : MethodName := ⟨RX6, "leads", "(I)V"⟩
def dkwX6_leads_11 : List UInt8 := [132, 2, 1, 167, 255, 75, 177]
abbrev dktX6_leads_11 : List UInt8 := dkwX6_leads_11 ++ []
def dkwX6_leads_10 : List UInt8 := [180, 0, 39, 21, 7, 46, 21, 6, 184, 0, 73, 79, 132, 5, 1, 167, 255, 134, 132, 3, 1, 167, 255, 93]
abbrev dktX6_leads_10 : List UInt8 := dkwX6_leads_10 ++ dktX6_leads_11
def dkwX6_leads_9 : List UInt8 := [21, 6, 42, 42, 180, 0, 36, 21, 5, 46, 8, 182, 1, 67, 163, 0, 22, 42, 180, 0, 39, 21, 7, 42]
abbrev dktX6_leads_9 : List UInt8 := dkwX6_leads_9 ++ dktX6_leads_10
def dkwX6_leads_8 : List UInt8 := [7, 182, 1, 67, 184, 0, 69, 54, 6, 16, 8, 28, 4, 21, 5, 120, 128, 104, 21, 5, 96, 54, 7]
abbrev dktX6_leads_8 : List UInt8 := dkwX6_leads_8 ++ dktX6_leads_9
def dkwX6_leads_7 : List UInt8 := [42, 42, 180, 0, 36, 21, 5, 46, 4, 182, 1, 67, 182, 1, 116, 96, 42, 42, 180, 0, 36, 21, 5, 46]
abbrev dktX6_leads_7 : List UInt8 := dkwX6_leads_7 ++ dktX6_leads_8
def dkwX6_leads_6 : List UInt8 := [122, 4, 126, 4, 160, 0, 6, 167, 0, 100, 21, 4, 42, 42, 42, 180, 0, 36, 29, 46, 4, 182, 1, 67]
abbrev dktX6_leads_6 : List UInt8 := dkwX6_leads_6 ++ dktX6_leads_7
def dkwX6_leads_5 : List UInt8 := [19, 1, 115, 160, 0, 6, 167, 0, 131, 3, 54, 5, 21, 5, 42, 180, 1, 109, 162, 0, 119, 28, 21, 5]
abbrev dktX6_leads_5 : List UInt8 := dkwX6_leads_5 ++ dktX6_leads_6
def dkwX6_leads_4 : List UInt8 := [29, 42, 180, 1, 109, 162, 0, 161, 42, 180, 0, 39, 16, 8, 28, 104, 29, 96, 46, 54, 4, 21, 4]
abbrev dktX6_leads_4 : List UInt8 := dkwX6_leads_4 ++ dktX6_leads_5
def dkwX6_leads_3 : List UInt8 := [182, 1, 67, 79, 132, 2, 1, 167, 255, 212, 4, 61, 28, 4, 42, 180, 1, 109, 120, 162, 0, 177, 3, 62]
abbrev dktX6_leads_3 : List UInt8 := dkwX6_leads_3 ++ dktX6_leads_4
def dkwX6_leads_2 : List UInt8 := [160, 0, 27, 42, 180, 0, 39, 16, 8, 4, 28, 120, 104, 28, 96, 42, 42, 180, 0, 36, 28, 46, 7]
abbrev dktX6_leads_2 : List UInt8 := dkwX6_leads_2 ++ dktX6_leads_3
def dkwX6_leads_1 : List UInt8 := [132, 2, 1, 167, 255, 233, 3, 61, 28, 42, 180, 1, 109, 162, 0, 42, 27, 155, 0, 8, 28, 27]
abbrev dktX6_leads_1 : List UInt8 := dkwX6_leads_1 ++ dktX6_leads_2
def dkwX6_leads_0 : List UInt8 := [3, 61, 28, 16, 8, 42, 180, 1, 109, 120, 162, 0, 18, 42, 180, 0, 39, 28, 19, 1, 115, 79]
abbrev dktX6_leads_0 : List UInt8 := dkwX6_leads_0 ++ dktX6_leads_1
theorem dksX6_leads_0 : cX6_leads.data.toList.drop 0 = dktX6_leads_0 := by decide +kernel
theorem dksX6_leads_1 : cX6_leads.data.toList.drop 22 = dktX6_leads_1 := dk_seg dksX6_leads_0 22 rfl rfl
theorem dksX6_leads_2 : cX6_leads.data.toList.drop 44 = dktX6_leads_2 := dk_seg dksX6_leads_1 22 rfl rfl
theorem dksX6_leads_3 : cX6_leads.data.toList.drop 67 = dktX6_leads_3 := dk_seg dksX6_leads_2 23 rfl rfl
theorem dksX6_leads_4 : cX6_leads.data.toList.drop 91 = dktX6_leads_4 := dk_seg dksX6_leads_3 24 rfl rfl
theorem dksX6_leads_5 : cX6_leads.data.toList.drop 114 = dktX6_leads_5 := dk_seg dksX6_leads_4 23 rfl rfl
theorem dksX6_leads_6 : cX6_leads.data.toList.drop 138 = dktX6_leads_6 := dk_seg dksX6_leads_5 24 rfl rfl
theorem dksX6_leads_7 : cX6_leads.data.toList.drop 162 = dktX6_leads_7 := dk_seg dksX6_leads_6 24 rfl rfl
theorem dksX6_leads_8 : cX6_leads.data.toList.drop 186 = dktX6_leads_8 := dk_seg dksX6_leads_7 24 rfl rfl
theorem dksX6_leads_9 : cX6_leads.data.toList.drop 209 = dktX6_leads_9 := dk_seg dksX6_leads_8 23 rfl rfl
theorem dksX6_leads_10 : cX6_leads.data.toList.drop 233 = dktX6_leads_10 := dk_seg dksX6_leads_9 24 rfl rfl
theorem dksX6_leads_11 : cX6_leads.data.toList.drop 257 = dktX6_leads_11 := dk_seg dksX6_leads_10 24 rfl rfl
theorem dX6_leads_0 : decode cX6_leads 0 = .ok (.iconst 0, 1) := dk_3 (dk_at dksX6_leads_0 0 rfl rfl)
theorem dX6_leads_1 : decode cX6_leads 1 = .ok (.istore_n 2, 1) := dk_61 (dk_at dksX6_leads_0 1 rfl rfl)
theorem dX6_leads_2 : decode cX6_leads 2 = .ok (.iload_n 2, 1) := dk_28 (dk_at dksX6_leads_0 2 rfl rfl)
theorem dX6_leads_3 : decode cX6_leads 3 = .ok (.bipush 8, 2) := dk_16 8 (dk_at dksX6_leads_0 3 rfl rfl)
theorem dX6_leads_5 : decode cX6_leads 5 = .ok (.aload_n 0, 1) := dk_42 (dk_at dksX6_leads_0 5 rfl rfl)
theorem dX6_leads_6 : decode cX6_leads 6 = .ok (.getfield 365, 3) := dk_180 1 109 (dk_at dksX6_leads_0 6 rfl rfl)
theorem dX6_leads_9 : decode cX6_leads 9 = .ok (.ishl, 1) := dk_120 (dk_at dksX6_leads_0 9 rfl rfl)
theorem dX6_leads_10 : decode cX6_leads 10 = .ok (.if_icmp .ge 18, 3) := dk_162 0 18 (dk_at dksX6_leads_0 10 rfl rfl)
theorem dX6_leads_13 : decode cX6_leads 13 = .ok (.aload_n 0, 1) := dk_42 (dk_at dksX6_leads_0 13 rfl rfl)
theorem dX6_leads_14 : decode cX6_leads 14 = .ok (.getfield 39, 3) := dk_180 0 39 (dk_at dksX6_leads_0 14 rfl rfl)
theorem dX6_leads_17 : decode cX6_leads 17 = .ok (.iload_n 2, 1) := dk_28 (dk_at dksX6_leads_0 17 rfl rfl)
theorem dX6_leads_18 : decode cX6_leads 18 = .ok (.ldc_w 371, 3) := dk_19 1 115 (dk_at dksX6_leads_0 18 rfl rfl)
theorem dX6_leads_21 : decode cX6_leads 21 = .ok (.iastore, 1) := dk_79 (dk_at dksX6_leads_0 21 rfl rfl)
theorem dX6_leads_22 : decode cX6_leads 22 = .ok (.iinc 2 1, 3) := dk_132 2 1 (dk_at dksX6_leads_1 0 rfl rfl)
theorem dX6_leads_25 : decode cX6_leads 25 = .ok (.goto (-23), 3) := dk_167 255 233 (dk_at dksX6_leads_1 3 rfl rfl)
theorem dX6_leads_28 : decode cX6_leads 28 = .ok (.iconst 0, 1) := dk_3 (dk_at dksX6_leads_1 6 rfl rfl)
theorem dX6_leads_29 : decode cX6_leads 29 = .ok (.istore_n 2, 1) := dk_61 (dk_at dksX6_leads_1 7 rfl rfl)
theorem dX6_leads_30 : decode cX6_leads 30 = .ok (.iload_n 2, 1) := dk_28 (dk_at dksX6_leads_1 8 rfl rfl)
theorem dX6_leads_31 : decode cX6_leads 31 = .ok (.aload_n 0, 1) := dk_42 (dk_at dksX6_leads_1 9 rfl rfl)
theorem dX6_leads_32 : decode cX6_leads 32 = .ok (.getfield 365, 3) := dk_180 1 109 (dk_at dksX6_leads_1 10 rfl rfl)
theorem dX6_leads_35 : decode cX6_leads 35 = .ok (.if_icmp .ge 42, 3) := dk_162 0 42 (dk_at dksX6_leads_1 13 rfl rfl)
theorem dX6_leads_38 : decode cX6_leads 38 = .ok (.iload_n 1, 1) := dk_27 (dk_at dksX6_leads_1 16 rfl rfl)
theorem dX6_leads_39 : decode cX6_leads 39 = .ok (.ifCond .lt 8, 3) := dk_155 0 8 (dk_at dksX6_leads_1 17 rfl rfl)
theorem dX6_leads_42 : decode cX6_leads 42 = .ok (.iload_n 2, 1) := dk_28 (dk_at dksX6_leads_1 20 rfl rfl)
theorem dX6_leads_43 : decode cX6_leads 43 = .ok (.iload_n 1, 1) := dk_27 (dk_at dksX6_leads_1 21 rfl rfl)
theorem dX6_leads_44 : decode cX6_leads 44 = .ok (.if_icmp .ne 27, 3) := dk_160 0 27 (dk_at dksX6_leads_2 0 rfl rfl)
theorem dX6_leads_47 : decode cX6_leads 47 = .ok (.aload_n 0, 1) := dk_42 (dk_at dksX6_leads_2 3 rfl rfl)
theorem dX6_leads_48 : decode cX6_leads 48 = .ok (.getfield 39, 3) := dk_180 0 39 (dk_at dksX6_leads_2 4 rfl rfl)
theorem dX6_leads_51 : decode cX6_leads 51 = .ok (.bipush 8, 2) := dk_16 8 (dk_at dksX6_leads_2 7 rfl rfl)
theorem dX6_leads_53 : decode cX6_leads 53 = .ok (.iconst 1, 1) := dk_4 (dk_at dksX6_leads_2 9 rfl rfl)
theorem dX6_leads_54 : decode cX6_leads 54 = .ok (.iload_n 2, 1) := dk_28 (dk_at dksX6_leads_2 10 rfl rfl)
theorem dX6_leads_55 : decode cX6_leads 55 = .ok (.ishl, 1) := dk_120 (dk_at dksX6_leads_2 11 rfl rfl)
theorem dX6_leads_56 : decode cX6_leads 56 = .ok (.imul, 1) := dk_104 (dk_at dksX6_leads_2 12 rfl rfl)
theorem dX6_leads_57 : decode cX6_leads 57 = .ok (.iload_n 2, 1) := dk_28 (dk_at dksX6_leads_2 13 rfl rfl)
theorem dX6_leads_58 : decode cX6_leads 58 = .ok (.iadd, 1) := dk_96 (dk_at dksX6_leads_2 14 rfl rfl)
theorem dX6_leads_59 : decode cX6_leads 59 = .ok (.aload_n 0, 1) := dk_42 (dk_at dksX6_leads_2 15 rfl rfl)
theorem dX6_leads_60 : decode cX6_leads 60 = .ok (.aload_n 0, 1) := dk_42 (dk_at dksX6_leads_2 16 rfl rfl)
theorem dX6_leads_61 : decode cX6_leads 61 = .ok (.getfield 36, 3) := dk_180 0 36 (dk_at dksX6_leads_2 17 rfl rfl)
theorem dX6_leads_64 : decode cX6_leads 64 = .ok (.iload_n 2, 1) := dk_28 (dk_at dksX6_leads_2 20 rfl rfl)
theorem dX6_leads_65 : decode cX6_leads 65 = .ok (.iaload, 1) := dk_46 (dk_at dksX6_leads_2 21 rfl rfl)
theorem dX6_leads_66 : decode cX6_leads 66 = .ok (.iconst 4, 1) := dk_7 (dk_at dksX6_leads_2 22 rfl rfl)
theorem dX6_leads_67 : decode cX6_leads 67 = .ok (.invokevirtual 323, 3) := dk_182 1 67 (dk_at dksX6_leads_3 0 rfl rfl)
theorem dX6_leads_70 : decode cX6_leads 70 = .ok (.iastore, 1) := dk_79 (dk_at dksX6_leads_3 3 rfl rfl)
theorem dX6_leads_71 : decode cX6_leads 71 = .ok (.iinc 2 1, 3) := dk_132 2 1 (dk_at dksX6_leads_3 4 rfl rfl)
theorem dX6_leads_74 : decode cX6_leads 74 = .ok (.goto (-44), 3) := dk_167 255 212 (dk_at dksX6_leads_3 7 rfl rfl)
theorem dX6_leads_77 : decode cX6_leads 77 = .ok (.iconst 1, 1) := dk_4 (dk_at dksX6_leads_3 10 rfl rfl)
theorem dX6_leads_78 : decode cX6_leads 78 = .ok (.istore_n 2, 1) := dk_61 (dk_at dksX6_leads_3 11 rfl rfl)
theorem dX6_leads_79 : decode cX6_leads 79 = .ok (.iload_n 2, 1) := dk_28 (dk_at dksX6_leads_3 12 rfl rfl)
theorem dX6_leads_80 : decode cX6_leads 80 = .ok (.iconst 1, 1) := dk_4 (dk_at dksX6_leads_3 13 rfl rfl)
theorem dX6_leads_81 : decode cX6_leads 81 = .ok (.aload_n 0, 1) := dk_42 (dk_at dksX6_leads_3 14 rfl rfl)
theorem dX6_leads_82 : decode cX6_leads 82 = .ok (.getfield 365, 3) := dk_180 1 109 (dk_at dksX6_leads_3 15 rfl rfl)
theorem dX6_leads_85 : decode cX6_leads 85 = .ok (.ishl, 1) := dk_120 (dk_at dksX6_leads_3 18 rfl rfl)
theorem dX6_leads_86 : decode cX6_leads 86 = .ok (.if_icmp .ge 177, 3) := dk_162 0 177 (dk_at dksX6_leads_3 19 rfl rfl)
theorem dX6_leads_89 : decode cX6_leads 89 = .ok (.iconst 0, 1) := dk_3 (dk_at dksX6_leads_3 22 rfl rfl)
theorem dX6_leads_90 : decode cX6_leads 90 = .ok (.istore_n 3, 1) := dk_62 (dk_at dksX6_leads_3 23 rfl rfl)
theorem dX6_leads_91 : decode cX6_leads 91 = .ok (.iload_n 3, 1) := dk_29 (dk_at dksX6_leads_4 0 rfl rfl)
theorem dX6_leads_92 : decode cX6_leads 92 = .ok (.aload_n 0, 1) := dk_42 (dk_at dksX6_leads_4 1 rfl rfl)
theorem dX6_leads_93 : decode cX6_leads 93 = .ok (.getfield 365, 3) := dk_180 1 109 (dk_at dksX6_leads_4 2 rfl rfl)
theorem dX6_leads_96 : decode cX6_leads 96 = .ok (.if_icmp .ge 161, 3) := dk_162 0 161 (dk_at dksX6_leads_4 5 rfl rfl)
theorem dX6_leads_99 : decode cX6_leads 99 = .ok (.aload_n 0, 1) := dk_42 (dk_at dksX6_leads_4 8 rfl rfl)
theorem dX6_leads_100 : decode cX6_leads 100 = .ok (.getfield 39, 3) := dk_180 0 39 (dk_at dksX6_leads_4 9 rfl rfl)
theorem dX6_leads_103 : decode cX6_leads 103 = .ok (.bipush 8, 2) := dk_16 8 (dk_at dksX6_leads_4 12 rfl rfl)
theorem dX6_leads_105 : decode cX6_leads 105 = .ok (.iload_n 2, 1) := dk_28 (dk_at dksX6_leads_4 14 rfl rfl)
theorem dX6_leads_106 : decode cX6_leads 106 = .ok (.imul, 1) := dk_104 (dk_at dksX6_leads_4 15 rfl rfl)
theorem dX6_leads_107 : decode cX6_leads 107 = .ok (.iload_n 3, 1) := dk_29 (dk_at dksX6_leads_4 16 rfl rfl)
theorem dX6_leads_108 : decode cX6_leads 108 = .ok (.iadd, 1) := dk_96 (dk_at dksX6_leads_4 17 rfl rfl)
theorem dX6_leads_109 : decode cX6_leads 109 = .ok (.iaload, 1) := dk_46 (dk_at dksX6_leads_4 18 rfl rfl)
theorem dX6_leads_110 : decode cX6_leads 110 = .ok (.istore 4, 2) := dk_54 4 (dk_at dksX6_leads_4 19 rfl rfl)
theorem dX6_leads_112 : decode cX6_leads 112 = .ok (.iload 4, 2) := dk_21 4 (dk_at dksX6_leads_4 21 rfl rfl)
theorem dX6_leads_114 : decode cX6_leads 114 = .ok (.ldc_w 371, 3) := dk_19 1 115 (dk_at dksX6_leads_5 0 rfl rfl)
theorem dX6_leads_117 : decode cX6_leads 117 = .ok (.if_icmp .ne 6, 3) := dk_160 0 6 (dk_at dksX6_leads_5 3 rfl rfl)
theorem dX6_leads_120 : decode cX6_leads 120 = .ok (.goto 131, 3) := dk_167 0 131 (dk_at dksX6_leads_5 6 rfl rfl)
theorem dX6_leads_123 : decode cX6_leads 123 = .ok (.iconst 0, 1) := dk_3 (dk_at dksX6_leads_5 9 rfl rfl)
theorem dX6_leads_124 : decode cX6_leads 124 = .ok (.istore 5, 2) := dk_54 5 (dk_at dksX6_leads_5 10 rfl rfl)
theorem dX6_leads_126 : decode cX6_leads 126 = .ok (.iload 5, 2) := dk_21 5 (dk_at dksX6_leads_5 12 rfl rfl)
theorem dX6_leads_128 : decode cX6_leads 128 = .ok (.aload_n 0, 1) := dk_42 (dk_at dksX6_leads_5 14 rfl rfl)
theorem dX6_leads_129 : decode cX6_leads 129 = .ok (.getfield 365, 3) := dk_180 1 109 (dk_at dksX6_leads_5 15 rfl rfl)
theorem dX6_leads_132 : decode cX6_leads 132 = .ok (.if_icmp .ge 119, 3) := dk_162 0 119 (dk_at dksX6_leads_5 18 rfl rfl)
theorem dX6_leads_135 : decode cX6_leads 135 = .ok (.iload_n 2, 1) := dk_28 (dk_at dksX6_leads_5 21 rfl rfl)
theorem dX6_leads_136 : decode cX6_leads 136 = .ok (.iload 5, 2) := dk_21 5 (dk_at dksX6_leads_5 22 rfl rfl)
theorem dX6_leads_138 : decode cX6_leads 138 = .ok (.ishr, 1) := dk_122 (dk_at dksX6_leads_6 0 rfl rfl)
theorem dX6_leads_139 : decode cX6_leads 139 = .ok (.iconst 1, 1) := dk_4 (dk_at dksX6_leads_6 1 rfl rfl)
theorem dX6_leads_140 : decode cX6_leads 140 = .ok (.iand, 1) := dk_126 (dk_at dksX6_leads_6 2 rfl rfl)
theorem dX6_leads_141 : decode cX6_leads 141 = .ok (.iconst 1, 1) := dk_4 (dk_at dksX6_leads_6 3 rfl rfl)
theorem dX6_leads_142 : decode cX6_leads 142 = .ok (.if_icmp .ne 6, 3) := dk_160 0 6 (dk_at dksX6_leads_6 4 rfl rfl)
theorem dX6_leads_145 : decode cX6_leads 145 = .ok (.goto 100, 3) := dk_167 0 100 (dk_at dksX6_leads_6 7 rfl rfl)
theorem dX6_leads_148 : decode cX6_leads 148 = .ok (.iload 4, 2) := dk_21 4 (dk_at dksX6_leads_6 10 rfl rfl)
theorem dX6_leads_150 : decode cX6_leads 150 = .ok (.aload_n 0, 1) := dk_42 (dk_at dksX6_leads_6 12 rfl rfl)
theorem dX6_leads_151 : decode cX6_leads 151 = .ok (.aload_n 0, 1) := dk_42 (dk_at dksX6_leads_6 13 rfl rfl)
theorem dX6_leads_152 : decode cX6_leads 152 = .ok (.aload_n 0, 1) := dk_42 (dk_at dksX6_leads_6 14 rfl rfl)
theorem dX6_leads_153 : decode cX6_leads 153 = .ok (.getfield 36, 3) := dk_180 0 36 (dk_at dksX6_leads_6 15 rfl rfl)
theorem dX6_leads_156 : decode cX6_leads 156 = .ok (.iload_n 3, 1) := dk_29 (dk_at dksX6_leads_6 18 rfl rfl)
theorem dX6_leads_157 : decode cX6_leads 157 = .ok (.iaload, 1) := dk_46 (dk_at dksX6_leads_6 19 rfl rfl)
theorem dX6_leads_158 : decode cX6_leads 158 = .ok (.iconst 1, 1) := dk_4 (dk_at dksX6_leads_6 20 rfl rfl)
theorem dX6_leads_159 : decode cX6_leads 159 = .ok (.invokevirtual 323, 3) := dk_182 1 67 (dk_at dksX6_leads_6 21 rfl rfl)
theorem dX6_leads_162 : decode cX6_leads 162 = .ok (.aload_n 0, 1) := dk_42 (dk_at dksX6_leads_7 0 rfl rfl)
theorem dX6_leads_163 : decode cX6_leads 163 = .ok (.aload_n 0, 1) := dk_42 (dk_at dksX6_leads_7 1 rfl rfl)
theorem dX6_leads_164 : decode cX6_leads 164 = .ok (.getfield 36, 3) := dk_180 0 36 (dk_at dksX6_leads_7 2 rfl rfl)
theorem dX6_leads_167 : decode cX6_leads 167 = .ok (.iload 5, 2) := dk_21 5 (dk_at dksX6_leads_7 5 rfl rfl)
theorem dX6_leads_169 : decode cX6_leads 169 = .ok (.iaload, 1) := dk_46 (dk_at dksX6_leads_7 7 rfl rfl)
theorem dX6_leads_170 : decode cX6_leads 170 = .ok (.iconst 1, 1) := dk_4 (dk_at dksX6_leads_7 8 rfl rfl)
theorem dX6_leads_171 : decode cX6_leads 171 = .ok (.invokevirtual 323, 3) := dk_182 1 67 (dk_at dksX6_leads_7 9 rfl rfl)
theorem dX6_leads_174 : decode cX6_leads 174 = .ok (.invokevirtual 372, 3) := dk_182 1 116 (dk_at dksX6_leads_7 12 rfl rfl)
theorem dX6_leads_177 : decode cX6_leads 177 = .ok (.iadd, 1) := dk_96 (dk_at dksX6_leads_7 15 rfl rfl)
theorem dX6_leads_178 : decode cX6_leads 178 = .ok (.aload_n 0, 1) := dk_42 (dk_at dksX6_leads_7 16 rfl rfl)
theorem dX6_leads_179 : decode cX6_leads 179 = .ok (.aload_n 0, 1) := dk_42 (dk_at dksX6_leads_7 17 rfl rfl)
theorem dX6_leads_180 : decode cX6_leads 180 = .ok (.getfield 36, 3) := dk_180 0 36 (dk_at dksX6_leads_7 18 rfl rfl)
theorem dX6_leads_183 : decode cX6_leads 183 = .ok (.iload 5, 2) := dk_21 5 (dk_at dksX6_leads_7 21 rfl rfl)
theorem dX6_leads_185 : decode cX6_leads 185 = .ok (.iaload, 1) := dk_46 (dk_at dksX6_leads_7 23 rfl rfl)
theorem dX6_leads_186 : decode cX6_leads 186 = .ok (.iconst 4, 1) := dk_7 (dk_at dksX6_leads_8 0 rfl rfl)
theorem dX6_leads_187 : decode cX6_leads 187 = .ok (.invokevirtual 323, 3) := dk_182 1 67 (dk_at dksX6_leads_8 1 rfl rfl)
theorem dX6_leads_190 : decode cX6_leads 190 = .ok (.invokestatic 69, 3) := dk_184 0 69 (dk_at dksX6_leads_8 4 rfl rfl)
theorem dX6_leads_193 : decode cX6_leads 193 = .ok (.istore 6, 2) := dk_54 6 (dk_at dksX6_leads_8 7 rfl rfl)
theorem dX6_leads_195 : decode cX6_leads 195 = .ok (.bipush 8, 2) := dk_16 8 (dk_at dksX6_leads_8 9 rfl rfl)
theorem dX6_leads_197 : decode cX6_leads 197 = .ok (.iload_n 2, 1) := dk_28 (dk_at dksX6_leads_8 11 rfl rfl)
theorem dX6_leads_198 : decode cX6_leads 198 = .ok (.iconst 1, 1) := dk_4 (dk_at dksX6_leads_8 12 rfl rfl)
theorem dX6_leads_199 : decode cX6_leads 199 = .ok (.iload 5, 2) := dk_21 5 (dk_at dksX6_leads_8 13 rfl rfl)
theorem dX6_leads_201 : decode cX6_leads 201 = .ok (.ishl, 1) := dk_120 (dk_at dksX6_leads_8 15 rfl rfl)
theorem dX6_leads_202 : decode cX6_leads 202 = .ok (.ior, 1) := dk_128 (dk_at dksX6_leads_8 16 rfl rfl)
theorem dX6_leads_203 : decode cX6_leads 203 = .ok (.imul, 1) := dk_104 (dk_at dksX6_leads_8 17 rfl rfl)
theorem dX6_leads_204 : decode cX6_leads 204 = .ok (.iload 5, 2) := dk_21 5 (dk_at dksX6_leads_8 18 rfl rfl)
theorem dX6_leads_206 : decode cX6_leads 206 = .ok (.iadd, 1) := dk_96 (dk_at dksX6_leads_8 20 rfl rfl)
theorem dX6_leads_207 : decode cX6_leads 207 = .ok (.istore 7, 2) := dk_54 7 (dk_at dksX6_leads_8 21 rfl rfl)
theorem dX6_leads_209 : decode cX6_leads 209 = .ok (.iload 6, 2) := dk_21 6 (dk_at dksX6_leads_9 0 rfl rfl)
theorem dX6_leads_211 : decode cX6_leads 211 = .ok (.aload_n 0, 1) := dk_42 (dk_at dksX6_leads_9 2 rfl rfl)
theorem dX6_leads_212 : decode cX6_leads 212 = .ok (.aload_n 0, 1) := dk_42 (dk_at dksX6_leads_9 3 rfl rfl)
theorem dX6_leads_213 : decode cX6_leads 213 = .ok (.getfield 36, 3) := dk_180 0 36 (dk_at dksX6_leads_9 4 rfl rfl)
theorem dX6_leads_216 : decode cX6_leads 216 = .ok (.iload 5, 2) := dk_21 5 (dk_at dksX6_leads_9 7 rfl rfl)
theorem dX6_leads_218 : decode cX6_leads 218 = .ok (.iaload, 1) := dk_46 (dk_at dksX6_leads_9 9 rfl rfl)
theorem dX6_leads_219 : decode cX6_leads 219 = .ok (.iconst 5, 1) := dk_8 (dk_at dksX6_leads_9 10 rfl rfl)
theorem dX6_leads_220 : decode cX6_leads 220 = .ok (.invokevirtual 323, 3) := dk_182 1 67 (dk_at dksX6_leads_9 11 rfl rfl)
theorem dX6_leads_223 : decode cX6_leads 223 = .ok (.if_icmp .gt 22, 3) := dk_163 0 22 (dk_at dksX6_leads_9 14 rfl rfl)
theorem dX6_leads_226 : decode cX6_leads 226 = .ok (.aload_n 0, 1) := dk_42 (dk_at dksX6_leads_9 17 rfl rfl)
theorem dX6_leads_227 : decode cX6_leads 227 = .ok (.getfield 39, 3) := dk_180 0 39 (dk_at dksX6_leads_9 18 rfl rfl)
theorem dX6_leads_230 : decode cX6_leads 230 = .ok (.iload 7, 2) := dk_21 7 (dk_at dksX6_leads_9 21 rfl rfl)
theorem dX6_leads_232 : decode cX6_leads 232 = .ok (.aload_n 0, 1) := dk_42 (dk_at dksX6_leads_9 23 rfl rfl)
theorem dX6_leads_233 : decode cX6_leads 233 = .ok (.getfield 39, 3) := dk_180 0 39 (dk_at dksX6_leads_10 0 rfl rfl)
theorem dX6_leads_236 : decode cX6_leads 236 = .ok (.iload 7, 2) := dk_21 7 (dk_at dksX6_leads_10 3 rfl rfl)
theorem dX6_leads_238 : decode cX6_leads 238 = .ok (.iaload, 1) := dk_46 (dk_at dksX6_leads_10 5 rfl rfl)
theorem dX6_leads_239 : decode cX6_leads 239 = .ok (.iload 6, 2) := dk_21 6 (dk_at dksX6_leads_10 6 rfl rfl)
theorem dX6_leads_241 : decode cX6_leads 241 = .ok (.invokestatic 73, 3) := dk_184 0 73 (dk_at dksX6_leads_10 8 rfl rfl)
theorem dX6_leads_244 : decode cX6_leads 244 = .ok (.iastore, 1) := dk_79 (dk_at dksX6_leads_10 11 rfl rfl)
theorem dX6_leads_245 : decode cX6_leads 245 = .ok (.iinc 5 1, 3) := dk_132 5 1 (dk_at dksX6_leads_10 12 rfl rfl)
theorem dX6_leads_248 : decode cX6_leads 248 = .ok (.goto (-122), 3) := dk_167 255 134 (dk_at dksX6_leads_10 15 rfl rfl)
theorem dX6_leads_251 : decode cX6_leads 251 = .ok (.iinc 3 1, 3) := dk_132 3 1 (dk_at dksX6_leads_10 18 rfl rfl)
theorem dX6_leads_254 : decode cX6_leads 254 = .ok (.goto (-163), 3) := dk_167 255 93 (dk_at dksX6_leads_10 21 rfl rfl)
theorem dX6_leads_257 : decode cX6_leads 257 = .ok (.iinc 2 1, 3) := dk_132 2 1 (dk_at dksX6_leads_11 0 rfl rfl)
theorem dX6_leads_260 : decode cX6_leads 260 = .ok (.goto (-181), 3) := dk_167 255 75 (dk_at dksX6_leads_11 3 rfl rfl)
theorem dX6_leads_263 : decode cX6_leads 263 = .ok (.return_, 1) := dk_177 (dk_at dksX6_leads_11 6 rfl rfl)
abbrev cX6_goes : ByteArray := prog_30_method_90_code
def yX6_goes : MethodName := ⟨RX6, "goes", "(II)I"⟩
def dkwX6_goes_1 : List UInt8 := [164, 0, 7, 4, 167, 0, 4, 3, 96, 172]
abbrev dktX6_goes_1 : List UInt8 := dkwX6_goes_1 ++ []
def dkwX6_goes_0 : List UInt8 := [27, 28, 184, 0, 90, 42, 180, 0, 13, 16, 13, 28, 96, 46, 42, 180, 0, 13, 16, 13, 27, 96, 46]
abbrev dktX6_goes_0 : List UInt8 := dkwX6_goes_0 ++ dktX6_goes_1
theorem dksX6_goes_0 : cX6_goes.data.toList.drop 0 = dktX6_goes_0 := by decide +kernel
theorem dksX6_goes_1 : cX6_goes.data.toList.drop 23 = dktX6_goes_1 := dk_seg dksX6_goes_0 23 rfl rfl
theorem dX6_goes_0 : decode cX6_goes 0 = .ok (.iload_n 1, 1) := dk_27 (dk_at dksX6_goes_0 0 rfl rfl)
theorem dX6_goes_1 : decode cX6_goes 1 = .ok (.iload_n 2, 1) := dk_28 (dk_at dksX6_goes_0 1 rfl rfl)
theorem dX6_goes_2 : decode cX6_goes 2 = .ok (.invokestatic 90, 3) := dk_184 0 90 (dk_at dksX6_goes_0 2 rfl rfl)
theorem dX6_goes_5 : decode cX6_goes 5 = .ok (.aload_n 0, 1) := dk_42 (dk_at dksX6_goes_0 5 rfl rfl)
theorem dX6_goes_6 : decode cX6_goes 6 = .ok (.getfield 13, 3) := dk_180 0 13 (dk_at dksX6_goes_0 6 rfl rfl)
theorem dX6_goes_9 : decode cX6_goes 9 = .ok (.bipush 13, 2) := dk_16 13 (dk_at dksX6_goes_0 9 rfl rfl)
theorem dX6_goes_11 : decode cX6_goes 11 = .ok (.iload_n 2, 1) := dk_28 (dk_at dksX6_goes_0 11 rfl rfl)
theorem dX6_goes_12 : decode cX6_goes 12 = .ok (.iadd, 1) := dk_96 (dk_at dksX6_goes_0 12 rfl rfl)
theorem dX6_goes_13 : decode cX6_goes 13 = .ok (.iaload, 1) := dk_46 (dk_at dksX6_goes_0 13 rfl rfl)
theorem dX6_goes_14 : decode cX6_goes 14 = .ok (.aload_n 0, 1) := dk_42 (dk_at dksX6_goes_0 14 rfl rfl)
theorem dX6_goes_15 : decode cX6_goes 15 = .ok (.getfield 13, 3) := dk_180 0 13 (dk_at dksX6_goes_0 15 rfl rfl)
theorem dX6_goes_18 : decode cX6_goes 18 = .ok (.bipush 13, 2) := dk_16 13 (dk_at dksX6_goes_0 18 rfl rfl)
theorem dX6_goes_20 : decode cX6_goes 20 = .ok (.iload_n 1, 1) := dk_27 (dk_at dksX6_goes_0 20 rfl rfl)
theorem dX6_goes_21 : decode cX6_goes 21 = .ok (.iadd, 1) := dk_96 (dk_at dksX6_goes_0 21 rfl rfl)
theorem dX6_goes_22 : decode cX6_goes 22 = .ok (.iaload, 1) := dk_46 (dk_at dksX6_goes_0 22 rfl rfl)
theorem dX6_goes_23 : decode cX6_goes 23 = .ok (.if_icmp .le 7, 3) := dk_164 0 7 (dk_at dksX6_goes_1 0 rfl rfl)
theorem dX6_goes_26 : decode cX6_goes 26 = .ok (.iconst 1, 1) := dk_4 (dk_at dksX6_goes_1 3 rfl rfl)
theorem dX6_goes_27 : decode cX6_goes 27 = .ok (.goto 4, 3) := dk_167 0 4 (dk_at dksX6_goes_1 4 rfl rfl)
theorem dX6_goes_30 : decode cX6_goes 30 = .ok (.iconst 0, 1) := dk_3 (dk_at dksX6_goes_1 7 rfl rfl)
theorem dX6_goes_31 : decode cX6_goes 31 = .ok (.iadd, 1) := dk_96 (dk_at dksX6_goes_1 8 rfl rfl)
theorem dX6_goes_32 : decode cX6_goes 32 = .ok (.ireturn, 1) := dk_172 (dk_at dksX6_goes_1 9 rfl rfl)
abbrev cX6_handsOf : ByteArray := prog_30_method_93_code
def yX6_handsOf : MethodName := ⟨RX6, "handsOf", "()I"⟩
def dkwX6_handsOf_4 : List UInt8 := [4, 100, 46, 172]
abbrev dktX6_handsOf_4 : List UInt8 := dkwX6_handsOf_4 ++ []
def dkwX6_handsOf_3 : List UInt8 := [4, 100, 27, 126, 61, 167, 255, 208, 132, 1, 1, 167, 255, 182, 42, 180, 0, 42, 4, 42, 180, 1, 109, 120]
abbrev dktX6_handsOf_3 : List UInt8 := dkwX6_handsOf_3 ++ dktX6_handsOf_4
def dkwX6_handsOf_2 : List UInt8 := [27, 42, 180, 0, 42, 27, 46, 4, 42, 180, 0, 42, 27, 28, 2, 130, 126, 46, 96, 184, 0, 73, 79, 28]
abbrev dktX6_handsOf_2 : List UInt8 := dkwX6_handsOf_2 ++ dktX6_handsOf_3
def dkwX6_handsOf_1 : List UInt8 := [16, 9, 79, 27, 61, 28, 158, 0, 50, 42, 28, 182, 1, 119, 19, 1, 115, 162, 0, 30, 42, 180, 0, 42]
abbrev dktX6_handsOf_1 : List UInt8 := dkwX6_handsOf_1 ++ dktX6_handsOf_2
def dkwX6_handsOf_0 : List UInt8 := [42, 180, 0, 42, 3, 3, 79, 4, 60, 27, 4, 42, 180, 1, 109, 120, 162, 0, 70, 42, 180, 0, 42, 27]
abbrev dktX6_handsOf_0 : List UInt8 := dkwX6_handsOf_0 ++ dktX6_handsOf_1
theorem dksX6_handsOf_0 : cX6_handsOf.data.toList.drop 0 = dktX6_handsOf_0 := by decide +kernel
theorem dksX6_handsOf_1 : cX6_handsOf.data.toList.drop 24 = dktX6_handsOf_1 := dk_seg dksX6_handsOf_0 24 rfl rfl
theorem dksX6_handsOf_2 : cX6_handsOf.data.toList.drop 48 = dktX6_handsOf_2 := dk_seg dksX6_handsOf_1 24 rfl rfl
theorem dksX6_handsOf_3 : cX6_handsOf.data.toList.drop 72 = dktX6_handsOf_3 := dk_seg dksX6_handsOf_2 24 rfl rfl
theorem dksX6_handsOf_4 : cX6_handsOf.data.toList.drop 96 = dktX6_handsOf_4 := dk_seg dksX6_handsOf_3 24 rfl rfl
theorem dX6_handsOf_0 : decode cX6_handsOf 0 = .ok (.aload_n 0, 1) := dk_42 (dk_at dksX6_handsOf_0 0 rfl rfl)
theorem dX6_handsOf_1 : decode cX6_handsOf 1 = .ok (.getfield 42, 3) := dk_180 0 42 (dk_at dksX6_handsOf_0 1 rfl rfl)
theorem dX6_handsOf_4 : decode cX6_handsOf 4 = .ok (.iconst 0, 1) := dk_3 (dk_at dksX6_handsOf_0 4 rfl rfl)
theorem dX6_handsOf_5 : decode cX6_handsOf 5 = .ok (.iconst 0, 1) := dk_3 (dk_at dksX6_handsOf_0 5 rfl rfl)
theorem dX6_handsOf_6 : decode cX6_handsOf 6 = .ok (.iastore, 1) := dk_79 (dk_at dksX6_handsOf_0 6 rfl rfl)
theorem dX6_handsOf_7 : decode cX6_handsOf 7 = .ok (.iconst 1, 1) := dk_4 (dk_at dksX6_handsOf_0 7 rfl rfl)
theorem dX6_handsOf_8 : decode cX6_handsOf 8 = .ok (.istore_n 1, 1) := dk_60 (dk_at dksX6_handsOf_0 8 rfl rfl)
theorem dX6_handsOf_9 : decode cX6_handsOf 9 = .ok (.iload_n 1, 1) := dk_27 (dk_at dksX6_handsOf_0 9 rfl rfl)
theorem dX6_handsOf_10 : decode cX6_handsOf 10 = .ok (.iconst 1, 1) := dk_4 (dk_at dksX6_handsOf_0 10 rfl rfl)
theorem dX6_handsOf_11 : decode cX6_handsOf 11 = .ok (.aload_n 0, 1) := dk_42 (dk_at dksX6_handsOf_0 11 rfl rfl)
theorem dX6_handsOf_12 : decode cX6_handsOf 12 = .ok (.getfield 365, 3) := dk_180 1 109 (dk_at dksX6_handsOf_0 12 rfl rfl)
theorem dX6_handsOf_15 : decode cX6_handsOf 15 = .ok (.ishl, 1) := dk_120 (dk_at dksX6_handsOf_0 15 rfl rfl)
theorem dX6_handsOf_16 : decode cX6_handsOf 16 = .ok (.if_icmp .ge 70, 3) := dk_162 0 70 (dk_at dksX6_handsOf_0 16 rfl rfl)
theorem dX6_handsOf_19 : decode cX6_handsOf 19 = .ok (.aload_n 0, 1) := dk_42 (dk_at dksX6_handsOf_0 19 rfl rfl)
theorem dX6_handsOf_20 : decode cX6_handsOf 20 = .ok (.getfield 42, 3) := dk_180 0 42 (dk_at dksX6_handsOf_0 20 rfl rfl)
theorem dX6_handsOf_23 : decode cX6_handsOf 23 = .ok (.iload_n 1, 1) := dk_27 (dk_at dksX6_handsOf_0 23 rfl rfl)
theorem dX6_handsOf_24 : decode cX6_handsOf 24 = .ok (.bipush 9, 2) := dk_16 9 (dk_at dksX6_handsOf_1 0 rfl rfl)
theorem dX6_handsOf_26 : decode cX6_handsOf 26 = .ok (.iastore, 1) := dk_79 (dk_at dksX6_handsOf_1 2 rfl rfl)
theorem dX6_handsOf_27 : decode cX6_handsOf 27 = .ok (.iload_n 1, 1) := dk_27 (dk_at dksX6_handsOf_1 3 rfl rfl)
theorem dX6_handsOf_28 : decode cX6_handsOf 28 = .ok (.istore_n 2, 1) := dk_61 (dk_at dksX6_handsOf_1 4 rfl rfl)
theorem dX6_handsOf_29 : decode cX6_handsOf 29 = .ok (.iload_n 2, 1) := dk_28 (dk_at dksX6_handsOf_1 5 rfl rfl)
theorem dX6_handsOf_30 : decode cX6_handsOf 30 = .ok (.ifCond .le 50, 3) := dk_158 0 50 (dk_at dksX6_handsOf_1 6 rfl rfl)
theorem dX6_handsOf_33 : decode cX6_handsOf 33 = .ok (.aload_n 0, 1) := dk_42 (dk_at dksX6_handsOf_1 9 rfl rfl)
theorem dX6_handsOf_34 : decode cX6_handsOf 34 = .ok (.iload_n 2, 1) := dk_28 (dk_at dksX6_handsOf_1 10 rfl rfl)
theorem dX6_handsOf_35 : decode cX6_handsOf 35 = .ok (.invokevirtual 375, 3) := dk_182 1 119 (dk_at dksX6_handsOf_1 11 rfl rfl)
theorem dX6_handsOf_38 : decode cX6_handsOf 38 = .ok (.ldc_w 371, 3) := dk_19 1 115 (dk_at dksX6_handsOf_1 14 rfl rfl)
theorem dX6_handsOf_41 : decode cX6_handsOf 41 = .ok (.if_icmp .ge 30, 3) := dk_162 0 30 (dk_at dksX6_handsOf_1 17 rfl rfl)
theorem dX6_handsOf_44 : decode cX6_handsOf 44 = .ok (.aload_n 0, 1) := dk_42 (dk_at dksX6_handsOf_1 20 rfl rfl)
theorem dX6_handsOf_45 : decode cX6_handsOf 45 = .ok (.getfield 42, 3) := dk_180 0 42 (dk_at dksX6_handsOf_1 21 rfl rfl)
theorem dX6_handsOf_48 : decode cX6_handsOf 48 = .ok (.iload_n 1, 1) := dk_27 (dk_at dksX6_handsOf_2 0 rfl rfl)
theorem dX6_handsOf_49 : decode cX6_handsOf 49 = .ok (.aload_n 0, 1) := dk_42 (dk_at dksX6_handsOf_2 1 rfl rfl)
theorem dX6_handsOf_50 : decode cX6_handsOf 50 = .ok (.getfield 42, 3) := dk_180 0 42 (dk_at dksX6_handsOf_2 2 rfl rfl)
theorem dX6_handsOf_53 : decode cX6_handsOf 53 = .ok (.iload_n 1, 1) := dk_27 (dk_at dksX6_handsOf_2 5 rfl rfl)
theorem dX6_handsOf_54 : decode cX6_handsOf 54 = .ok (.iaload, 1) := dk_46 (dk_at dksX6_handsOf_2 6 rfl rfl)
theorem dX6_handsOf_55 : decode cX6_handsOf 55 = .ok (.iconst 1, 1) := dk_4 (dk_at dksX6_handsOf_2 7 rfl rfl)
theorem dX6_handsOf_56 : decode cX6_handsOf 56 = .ok (.aload_n 0, 1) := dk_42 (dk_at dksX6_handsOf_2 8 rfl rfl)
theorem dX6_handsOf_57 : decode cX6_handsOf 57 = .ok (.getfield 42, 3) := dk_180 0 42 (dk_at dksX6_handsOf_2 9 rfl rfl)
theorem dX6_handsOf_60 : decode cX6_handsOf 60 = .ok (.iload_n 1, 1) := dk_27 (dk_at dksX6_handsOf_2 12 rfl rfl)
theorem dX6_handsOf_61 : decode cX6_handsOf 61 = .ok (.iload_n 2, 1) := dk_28 (dk_at dksX6_handsOf_2 13 rfl rfl)
theorem dX6_handsOf_62 : decode cX6_handsOf 62 = .ok (.iconst (-1), 1) := dk_2 (dk_at dksX6_handsOf_2 14 rfl rfl)
theorem dX6_handsOf_63 : decode cX6_handsOf 63 = .ok (.ixor, 1) := dk_130 (dk_at dksX6_handsOf_2 15 rfl rfl)
theorem dX6_handsOf_64 : decode cX6_handsOf 64 = .ok (.iand, 1) := dk_126 (dk_at dksX6_handsOf_2 16 rfl rfl)
theorem dX6_handsOf_65 : decode cX6_handsOf 65 = .ok (.iaload, 1) := dk_46 (dk_at dksX6_handsOf_2 17 rfl rfl)
theorem dX6_handsOf_66 : decode cX6_handsOf 66 = .ok (.iadd, 1) := dk_96 (dk_at dksX6_handsOf_2 18 rfl rfl)
theorem dX6_handsOf_67 : decode cX6_handsOf 67 = .ok (.invokestatic 73, 3) := dk_184 0 73 (dk_at dksX6_handsOf_2 19 rfl rfl)
theorem dX6_handsOf_70 : decode cX6_handsOf 70 = .ok (.iastore, 1) := dk_79 (dk_at dksX6_handsOf_2 22 rfl rfl)
theorem dX6_handsOf_71 : decode cX6_handsOf 71 = .ok (.iload_n 2, 1) := dk_28 (dk_at dksX6_handsOf_2 23 rfl rfl)
theorem dX6_handsOf_72 : decode cX6_handsOf 72 = .ok (.iconst 1, 1) := dk_4 (dk_at dksX6_handsOf_3 0 rfl rfl)
theorem dX6_handsOf_73 : decode cX6_handsOf 73 = .ok (.isub, 1) := dk_100 (dk_at dksX6_handsOf_3 1 rfl rfl)
theorem dX6_handsOf_74 : decode cX6_handsOf 74 = .ok (.iload_n 1, 1) := dk_27 (dk_at dksX6_handsOf_3 2 rfl rfl)
theorem dX6_handsOf_75 : decode cX6_handsOf 75 = .ok (.iand, 1) := dk_126 (dk_at dksX6_handsOf_3 3 rfl rfl)
theorem dX6_handsOf_76 : decode cX6_handsOf 76 = .ok (.istore_n 2, 1) := dk_61 (dk_at dksX6_handsOf_3 4 rfl rfl)
theorem dX6_handsOf_77 : decode cX6_handsOf 77 = .ok (.goto (-48), 3) := dk_167 255 208 (dk_at dksX6_handsOf_3 5 rfl rfl)
theorem dX6_handsOf_80 : decode cX6_handsOf 80 = .ok (.iinc 1 1, 3) := dk_132 1 1 (dk_at dksX6_handsOf_3 8 rfl rfl)
theorem dX6_handsOf_83 : decode cX6_handsOf 83 = .ok (.goto (-74), 3) := dk_167 255 182 (dk_at dksX6_handsOf_3 11 rfl rfl)
theorem dX6_handsOf_86 : decode cX6_handsOf 86 = .ok (.aload_n 0, 1) := dk_42 (dk_at dksX6_handsOf_3 14 rfl rfl)
theorem dX6_handsOf_87 : decode cX6_handsOf 87 = .ok (.getfield 42, 3) := dk_180 0 42 (dk_at dksX6_handsOf_3 15 rfl rfl)
theorem dX6_handsOf_90 : decode cX6_handsOf 90 = .ok (.iconst 1, 1) := dk_4 (dk_at dksX6_handsOf_3 18 rfl rfl)
theorem dX6_handsOf_91 : decode cX6_handsOf 91 = .ok (.aload_n 0, 1) := dk_42 (dk_at dksX6_handsOf_3 19 rfl rfl)
theorem dX6_handsOf_92 : decode cX6_handsOf 92 = .ok (.getfield 365, 3) := dk_180 1 109 (dk_at dksX6_handsOf_3 20 rfl rfl)
theorem dX6_handsOf_95 : decode cX6_handsOf 95 = .ok (.ishl, 1) := dk_120 (dk_at dksX6_handsOf_3 23 rfl rfl)
theorem dX6_handsOf_96 : decode cX6_handsOf 96 = .ok (.iconst 1, 1) := dk_4 (dk_at dksX6_handsOf_4 0 rfl rfl)
theorem dX6_handsOf_97 : decode cX6_handsOf 97 = .ok (.isub, 1) := dk_100 (dk_at dksX6_handsOf_4 1 rfl rfl)
theorem dX6_handsOf_98 : decode cX6_handsOf 98 = .ok (.iaload, 1) := dk_46 (dk_at dksX6_handsOf_4 2 rfl rfl)
theorem dX6_handsOf_99 : decode cX6_handsOf 99 = .ok (.ireturn, 1) := dk_172 (dk_at dksX6_handsOf_4 3 rfl rfl)
abbrev cX6_earliest : ByteArray := prog_30_method_92_code
def yX6_earliest : MethodName := ⟨RX6, "earliest", "(I)I"⟩
def dkwX6_earliest_1 : List UInt8 := [96, 46, 184, 0, 73, 61, 132, 3, 1, 167, 255, 229, 28, 172]
abbrev dktX6_earliest_1 : List UInt8 := dkwX6_earliest_1 ++ []
def dkwX6_earliest_0 : List UInt8 := [19, 1, 115, 61, 3, 62, 29, 42, 180, 1, 109, 162, 0, 25, 28, 42, 180, 0, 39, 16, 8, 27, 104, 29]
abbrev dktX6_earliest_0 : List UInt8 := dkwX6_earliest_0 ++ dktX6_earliest_1
theorem dksX6_earliest_0 : cX6_earliest.data.toList.drop 0 = dktX6_earliest_0 := by decide +kernel
theorem dksX6_earliest_1 : cX6_earliest.data.toList.drop 24 = dktX6_earliest_1 := dk_seg dksX6_earliest_0 24 rfl rfl
theorem dX6_earliest_0 : decode cX6_earliest 0 = .ok (.ldc_w 371, 3) := dk_19 1 115 (dk_at dksX6_earliest_0 0 rfl rfl)
theorem dX6_earliest_3 : decode cX6_earliest 3 = .ok (.istore_n 2, 1) := dk_61 (dk_at dksX6_earliest_0 3 rfl rfl)
theorem dX6_earliest_4 : decode cX6_earliest 4 = .ok (.iconst 0, 1) := dk_3 (dk_at dksX6_earliest_0 4 rfl rfl)
theorem dX6_earliest_5 : decode cX6_earliest 5 = .ok (.istore_n 3, 1) := dk_62 (dk_at dksX6_earliest_0 5 rfl rfl)
theorem dX6_earliest_6 : decode cX6_earliest 6 = .ok (.iload_n 3, 1) := dk_29 (dk_at dksX6_earliest_0 6 rfl rfl)
theorem dX6_earliest_7 : decode cX6_earliest 7 = .ok (.aload_n 0, 1) := dk_42 (dk_at dksX6_earliest_0 7 rfl rfl)
theorem dX6_earliest_8 : decode cX6_earliest 8 = .ok (.getfield 365, 3) := dk_180 1 109 (dk_at dksX6_earliest_0 8 rfl rfl)
theorem dX6_earliest_11 : decode cX6_earliest 11 = .ok (.if_icmp .ge 25, 3) := dk_162 0 25 (dk_at dksX6_earliest_0 11 rfl rfl)
theorem dX6_earliest_14 : decode cX6_earliest 14 = .ok (.iload_n 2, 1) := dk_28 (dk_at dksX6_earliest_0 14 rfl rfl)
theorem dX6_earliest_15 : decode cX6_earliest 15 = .ok (.aload_n 0, 1) := dk_42 (dk_at dksX6_earliest_0 15 rfl rfl)
theorem dX6_earliest_16 : decode cX6_earliest 16 = .ok (.getfield 39, 3) := dk_180 0 39 (dk_at dksX6_earliest_0 16 rfl rfl)
theorem dX6_earliest_19 : decode cX6_earliest 19 = .ok (.bipush 8, 2) := dk_16 8 (dk_at dksX6_earliest_0 19 rfl rfl)
theorem dX6_earliest_21 : decode cX6_earliest 21 = .ok (.iload_n 1, 1) := dk_27 (dk_at dksX6_earliest_0 21 rfl rfl)
theorem dX6_earliest_22 : decode cX6_earliest 22 = .ok (.imul, 1) := dk_104 (dk_at dksX6_earliest_0 22 rfl rfl)
theorem dX6_earliest_23 : decode cX6_earliest 23 = .ok (.iload_n 3, 1) := dk_29 (dk_at dksX6_earliest_0 23 rfl rfl)
theorem dX6_earliest_24 : decode cX6_earliest 24 = .ok (.iadd, 1) := dk_96 (dk_at dksX6_earliest_1 0 rfl rfl)
theorem dX6_earliest_25 : decode cX6_earliest 25 = .ok (.iaload, 1) := dk_46 (dk_at dksX6_earliest_1 1 rfl rfl)
theorem dX6_earliest_26 : decode cX6_earliest 26 = .ok (.invokestatic 73, 3) := dk_184 0 73 (dk_at dksX6_earliest_1 2 rfl rfl)
theorem dX6_earliest_29 : decode cX6_earliest 29 = .ok (.istore_n 2, 1) := dk_61 (dk_at dksX6_earliest_1 5 rfl rfl)
theorem dX6_earliest_30 : decode cX6_earliest 30 = .ok (.iinc 3 1, 3) := dk_132 3 1 (dk_at dksX6_earliest_1 6 rfl rfl)
theorem dX6_earliest_33 : decode cX6_earliest 33 = .ok (.goto (-27), 3) := dk_167 255 229 (dk_at dksX6_earliest_1 9 rfl rfl)
theorem dX6_earliest_36 : decode cX6_earliest 36 = .ok (.iload_n 2, 1) := dk_28 (dk_at dksX6_earliest_1 12 rfl rfl)
theorem dX6_earliest_37 : decode cX6_earliest 37 = .ok (.ireturn, 1) := dk_172 (dk_at dksX6_earliest_1 13 rfl rfl)
abbrev cX6_held : ByteArray := prog_30_method_98_code
def yX6_held : MethodName := ⟨RX6, "held", "(IIIZ)I"⟩
def dkwX6_held_6 : List UInt8 := [172]
abbrev dktX6_held_6 : List UInt8 := dkwX6_held_6 ++ []
def dkwX6_held_5 : List UInt8 := [4, 100, 46, 100, 29, 96, 164, 0, 11, 42, 180, 0, 45, 21, 5, 46, 172, 132, 5, 1, 167, 255, 195, 2]
abbrev dktX6_held_5 : List UInt8 := dkwX6_held_5 ++ dktX6_held_6
def dkwX6_held_4 : List UInt8 := [4, 96, 46, 42, 180, 0, 45, 21, 5, 46, 100, 42, 180, 0, 45, 21, 5, 46, 42, 180, 0, 45, 21, 5]
abbrev dktX6_held_4 : List UInt8 := dkwX6_held_4 ++ dktX6_held_5
def dkwX6_held_3 : List UInt8 := [28, 182, 1, 134, 4, 54, 5, 21, 5, 4, 96, 42, 180, 1, 131, 162, 0, 56, 42, 180, 0, 45, 21, 5]
abbrev dktX6_held_3 : List UInt8 := dkwX6_held_3 ++ dktX6_held_4
def dkwX6_held_2 : List UInt8 := [5, 182, 0, 80, 153, 0, 5, 3, 172, 21, 4, 154, 0, 11, 42, 27, 28, 29, 182, 1, 140, 172, 42, 27]
abbrev dktX6_held_2 : List UInt8 := dkwX6_held_2 ++ dktX6_held_3
def dkwX6_held_1 : List UInt8 := [3, 4, 182, 0, 80, 154, 0, 26, 42, 29, 3, 16, 15, 184, 0, 59, 154, 0, 7, 4, 167, 0, 4, 3]
abbrev dktX6_held_1 : List UInt8 := dkwX6_held_1 ++ dktX6_held_2
def dkwX6_held_0 : List UInt8 := [42, 3, 181, 0, 3, 42, 27, 184, 1, 137, 154, 0, 10, 28, 184, 1, 86, 153, 0, 7, 4, 167, 0, 4]
abbrev dktX6_held_0 : List UInt8 := dkwX6_held_0 ++ dktX6_held_1
theorem dksX6_held_0 : cX6_held.data.toList.drop 0 = dktX6_held_0 := by decide +kernel
theorem dksX6_held_1 : cX6_held.data.toList.drop 24 = dktX6_held_1 := dk_seg dksX6_held_0 24 rfl rfl
theorem dksX6_held_2 : cX6_held.data.toList.drop 48 = dktX6_held_2 := dk_seg dksX6_held_1 24 rfl rfl
theorem dksX6_held_3 : cX6_held.data.toList.drop 72 = dktX6_held_3 := dk_seg dksX6_held_2 24 rfl rfl
theorem dksX6_held_4 : cX6_held.data.toList.drop 96 = dktX6_held_4 := dk_seg dksX6_held_3 24 rfl rfl
theorem dksX6_held_5 : cX6_held.data.toList.drop 120 = dktX6_held_5 := dk_seg dksX6_held_4 24 rfl rfl
theorem dksX6_held_6 : cX6_held.data.toList.drop 144 = dktX6_held_6 := dk_seg dksX6_held_5 24 rfl rfl
theorem dX6_held_0 : decode cX6_held 0 = .ok (.aload_n 0, 1) := dk_42 (dk_at dksX6_held_0 0 rfl rfl)
theorem dX6_held_1 : decode cX6_held 1 = .ok (.iconst 0, 1) := dk_3 (dk_at dksX6_held_0 1 rfl rfl)
theorem dX6_held_2 : decode cX6_held 2 = .ok (.putfield 3, 3) := dk_181 0 3 (dk_at dksX6_held_0 2 rfl rfl)
theorem dX6_held_5 : decode cX6_held 5 = .ok (.aload_n 0, 1) := dk_42 (dk_at dksX6_held_0 5 rfl rfl)
theorem dX6_held_6 : decode cX6_held 6 = .ok (.iload_n 1, 1) := dk_27 (dk_at dksX6_held_0 6 rfl rfl)
theorem dX6_held_7 : decode cX6_held 7 = .ok (.invokestatic 393, 3) := dk_184 1 137 (dk_at dksX6_held_0 7 rfl rfl)
theorem dX6_held_10 : decode cX6_held 10 = .ok (.ifCond .ne 10, 3) := dk_154 0 10 (dk_at dksX6_held_0 10 rfl rfl)
theorem dX6_held_13 : decode cX6_held 13 = .ok (.iload_n 2, 1) := dk_28 (dk_at dksX6_held_0 13 rfl rfl)
theorem dX6_held_14 : decode cX6_held 14 = .ok (.invokestatic 342, 3) := dk_184 1 86 (dk_at dksX6_held_0 14 rfl rfl)
theorem dX6_held_17 : decode cX6_held 17 = .ok (.ifCond .eq 7, 3) := dk_153 0 7 (dk_at dksX6_held_0 17 rfl rfl)
theorem dX6_held_20 : decode cX6_held 20 = .ok (.iconst 1, 1) := dk_4 (dk_at dksX6_held_0 20 rfl rfl)
theorem dX6_held_21 : decode cX6_held 21 = .ok (.goto 4, 3) := dk_167 0 4 (dk_at dksX6_held_0 21 rfl rfl)
theorem dX6_held_24 : decode cX6_held 24 = .ok (.iconst 0, 1) := dk_3 (dk_at dksX6_held_1 0 rfl rfl)
theorem dX6_held_25 : decode cX6_held 25 = .ok (.iconst 1, 1) := dk_4 (dk_at dksX6_held_1 1 rfl rfl)
theorem dX6_held_26 : decode cX6_held 26 = .ok (.invokevirtual 80, 3) := dk_182 0 80 (dk_at dksX6_held_1 2 rfl rfl)
theorem dX6_held_29 : decode cX6_held 29 = .ok (.ifCond .ne 26, 3) := dk_154 0 26 (dk_at dksX6_held_1 5 rfl rfl)
theorem dX6_held_32 : decode cX6_held 32 = .ok (.aload_n 0, 1) := dk_42 (dk_at dksX6_held_1 8 rfl rfl)
theorem dX6_held_33 : decode cX6_held 33 = .ok (.iload_n 3, 1) := dk_29 (dk_at dksX6_held_1 9 rfl rfl)
theorem dX6_held_34 : decode cX6_held 34 = .ok (.iconst 0, 1) := dk_3 (dk_at dksX6_held_1 10 rfl rfl)
theorem dX6_held_35 : decode cX6_held 35 = .ok (.bipush 15, 2) := dk_16 15 (dk_at dksX6_held_1 11 rfl rfl)
theorem dX6_held_37 : decode cX6_held 37 = .ok (.invokestatic 59, 3) := dk_184 0 59 (dk_at dksX6_held_1 13 rfl rfl)
theorem dX6_held_40 : decode cX6_held 40 = .ok (.ifCond .ne 7, 3) := dk_154 0 7 (dk_at dksX6_held_1 16 rfl rfl)
theorem dX6_held_43 : decode cX6_held 43 = .ok (.iconst 1, 1) := dk_4 (dk_at dksX6_held_1 19 rfl rfl)
theorem dX6_held_44 : decode cX6_held 44 = .ok (.goto 4, 3) := dk_167 0 4 (dk_at dksX6_held_1 20 rfl rfl)
theorem dX6_held_47 : decode cX6_held 47 = .ok (.iconst 0, 1) := dk_3 (dk_at dksX6_held_1 23 rfl rfl)
theorem dX6_held_48 : decode cX6_held 48 = .ok (.iconst 2, 1) := dk_5 (dk_at dksX6_held_2 0 rfl rfl)
theorem dX6_held_49 : decode cX6_held 49 = .ok (.invokevirtual 80, 3) := dk_182 0 80 (dk_at dksX6_held_2 1 rfl rfl)
theorem dX6_held_52 : decode cX6_held 52 = .ok (.ifCond .eq 5, 3) := dk_153 0 5 (dk_at dksX6_held_2 4 rfl rfl)
theorem dX6_held_55 : decode cX6_held 55 = .ok (.iconst 0, 1) := dk_3 (dk_at dksX6_held_2 7 rfl rfl)
theorem dX6_held_56 : decode cX6_held 56 = .ok (.ireturn, 1) := dk_172 (dk_at dksX6_held_2 8 rfl rfl)
theorem dX6_held_57 : decode cX6_held 57 = .ok (.iload 4, 2) := dk_21 4 (dk_at dksX6_held_2 9 rfl rfl)
theorem dX6_held_59 : decode cX6_held 59 = .ok (.ifCond .ne 11, 3) := dk_154 0 11 (dk_at dksX6_held_2 11 rfl rfl)
theorem dX6_held_62 : decode cX6_held 62 = .ok (.aload_n 0, 1) := dk_42 (dk_at dksX6_held_2 14 rfl rfl)
theorem dX6_held_63 : decode cX6_held 63 = .ok (.iload_n 1, 1) := dk_27 (dk_at dksX6_held_2 15 rfl rfl)
theorem dX6_held_64 : decode cX6_held 64 = .ok (.iload_n 2, 1) := dk_28 (dk_at dksX6_held_2 16 rfl rfl)
theorem dX6_held_65 : decode cX6_held 65 = .ok (.iload_n 3, 1) := dk_29 (dk_at dksX6_held_2 17 rfl rfl)
theorem dX6_held_66 : decode cX6_held 66 = .ok (.invokevirtual 396, 3) := dk_182 1 140 (dk_at dksX6_held_2 18 rfl rfl)
theorem dX6_held_69 : decode cX6_held 69 = .ok (.ireturn, 1) := dk_172 (dk_at dksX6_held_2 21 rfl rfl)
theorem dX6_held_70 : decode cX6_held 70 = .ok (.aload_n 0, 1) := dk_42 (dk_at dksX6_held_2 22 rfl rfl)
theorem dX6_held_71 : decode cX6_held 71 = .ok (.iload_n 1, 1) := dk_27 (dk_at dksX6_held_2 23 rfl rfl)
theorem dX6_held_72 : decode cX6_held 72 = .ok (.iload_n 2, 1) := dk_28 (dk_at dksX6_held_3 0 rfl rfl)
theorem dX6_held_73 : decode cX6_held 73 = .ok (.invokevirtual 390, 3) := dk_182 1 134 (dk_at dksX6_held_3 1 rfl rfl)
theorem dX6_held_76 : decode cX6_held 76 = .ok (.iconst 1, 1) := dk_4 (dk_at dksX6_held_3 4 rfl rfl)
theorem dX6_held_77 : decode cX6_held 77 = .ok (.istore 5, 2) := dk_54 5 (dk_at dksX6_held_3 5 rfl rfl)
theorem dX6_held_79 : decode cX6_held 79 = .ok (.iload 5, 2) := dk_21 5 (dk_at dksX6_held_3 7 rfl rfl)
theorem dX6_held_81 : decode cX6_held 81 = .ok (.iconst 1, 1) := dk_4 (dk_at dksX6_held_3 9 rfl rfl)
theorem dX6_held_82 : decode cX6_held 82 = .ok (.iadd, 1) := dk_96 (dk_at dksX6_held_3 10 rfl rfl)
theorem dX6_held_83 : decode cX6_held 83 = .ok (.aload_n 0, 1) := dk_42 (dk_at dksX6_held_3 11 rfl rfl)
theorem dX6_held_84 : decode cX6_held 84 = .ok (.getfield 387, 3) := dk_180 1 131 (dk_at dksX6_held_3 12 rfl rfl)
theorem dX6_held_87 : decode cX6_held 87 = .ok (.if_icmp .ge 56, 3) := dk_162 0 56 (dk_at dksX6_held_3 15 rfl rfl)
theorem dX6_held_90 : decode cX6_held 90 = .ok (.aload_n 0, 1) := dk_42 (dk_at dksX6_held_3 18 rfl rfl)
theorem dX6_held_91 : decode cX6_held 91 = .ok (.getfield 45, 3) := dk_180 0 45 (dk_at dksX6_held_3 19 rfl rfl)
theorem dX6_held_94 : decode cX6_held 94 = .ok (.iload 5, 2) := dk_21 5 (dk_at dksX6_held_3 22 rfl rfl)
theorem dX6_held_96 : decode cX6_held 96 = .ok (.iconst 1, 1) := dk_4 (dk_at dksX6_held_4 0 rfl rfl)
theorem dX6_held_97 : decode cX6_held 97 = .ok (.iadd, 1) := dk_96 (dk_at dksX6_held_4 1 rfl rfl)
theorem dX6_held_98 : decode cX6_held 98 = .ok (.iaload, 1) := dk_46 (dk_at dksX6_held_4 2 rfl rfl)
theorem dX6_held_99 : decode cX6_held 99 = .ok (.aload_n 0, 1) := dk_42 (dk_at dksX6_held_4 3 rfl rfl)
theorem dX6_held_100 : decode cX6_held 100 = .ok (.getfield 45, 3) := dk_180 0 45 (dk_at dksX6_held_4 4 rfl rfl)
theorem dX6_held_103 : decode cX6_held 103 = .ok (.iload 5, 2) := dk_21 5 (dk_at dksX6_held_4 7 rfl rfl)
theorem dX6_held_105 : decode cX6_held 105 = .ok (.iaload, 1) := dk_46 (dk_at dksX6_held_4 9 rfl rfl)
theorem dX6_held_106 : decode cX6_held 106 = .ok (.isub, 1) := dk_100 (dk_at dksX6_held_4 10 rfl rfl)
theorem dX6_held_107 : decode cX6_held 107 = .ok (.aload_n 0, 1) := dk_42 (dk_at dksX6_held_4 11 rfl rfl)
theorem dX6_held_108 : decode cX6_held 108 = .ok (.getfield 45, 3) := dk_180 0 45 (dk_at dksX6_held_4 12 rfl rfl)
theorem dX6_held_111 : decode cX6_held 111 = .ok (.iload 5, 2) := dk_21 5 (dk_at dksX6_held_4 15 rfl rfl)
theorem dX6_held_113 : decode cX6_held 113 = .ok (.iaload, 1) := dk_46 (dk_at dksX6_held_4 17 rfl rfl)
theorem dX6_held_114 : decode cX6_held 114 = .ok (.aload_n 0, 1) := dk_42 (dk_at dksX6_held_4 18 rfl rfl)
theorem dX6_held_115 : decode cX6_held 115 = .ok (.getfield 45, 3) := dk_180 0 45 (dk_at dksX6_held_4 19 rfl rfl)
theorem dX6_held_118 : decode cX6_held 118 = .ok (.iload 5, 2) := dk_21 5 (dk_at dksX6_held_4 22 rfl rfl)
theorem dX6_held_120 : decode cX6_held 120 = .ok (.iconst 1, 1) := dk_4 (dk_at dksX6_held_5 0 rfl rfl)
theorem dX6_held_121 : decode cX6_held 121 = .ok (.isub, 1) := dk_100 (dk_at dksX6_held_5 1 rfl rfl)
theorem dX6_held_122 : decode cX6_held 122 = .ok (.iaload, 1) := dk_46 (dk_at dksX6_held_5 2 rfl rfl)
theorem dX6_held_123 : decode cX6_held 123 = .ok (.isub, 1) := dk_100 (dk_at dksX6_held_5 3 rfl rfl)
theorem dX6_held_124 : decode cX6_held 124 = .ok (.iload_n 3, 1) := dk_29 (dk_at dksX6_held_5 4 rfl rfl)
theorem dX6_held_125 : decode cX6_held 125 = .ok (.iadd, 1) := dk_96 (dk_at dksX6_held_5 5 rfl rfl)
theorem dX6_held_126 : decode cX6_held 126 = .ok (.if_icmp .le 11, 3) := dk_164 0 11 (dk_at dksX6_held_5 6 rfl rfl)
theorem dX6_held_129 : decode cX6_held 129 = .ok (.aload_n 0, 1) := dk_42 (dk_at dksX6_held_5 9 rfl rfl)
theorem dX6_held_130 : decode cX6_held 130 = .ok (.getfield 45, 3) := dk_180 0 45 (dk_at dksX6_held_5 10 rfl rfl)
theorem dX6_held_133 : decode cX6_held 133 = .ok (.iload 5, 2) := dk_21 5 (dk_at dksX6_held_5 13 rfl rfl)
theorem dX6_held_135 : decode cX6_held 135 = .ok (.iaload, 1) := dk_46 (dk_at dksX6_held_5 15 rfl rfl)
theorem dX6_held_136 : decode cX6_held 136 = .ok (.ireturn, 1) := dk_172 (dk_at dksX6_held_5 16 rfl rfl)
theorem dX6_held_137 : decode cX6_held 137 = .ok (.iinc 5 1, 3) := dk_132 5 1 (dk_at dksX6_held_5 17 rfl rfl)
theorem dX6_held_140 : decode cX6_held 140 = .ok (.goto (-61), 3) := dk_167 255 195 (dk_at dksX6_held_5 20 rfl rfl)
theorem dX6_held_143 : decode cX6_held 143 = .ok (.iconst (-1), 1) := dk_2 (dk_at dksX6_held_5 23 rfl rfl)
theorem dX6_held_144 : decode cX6_held 144 = .ok (.ireturn, 1) := dk_172 (dk_at dksX6_held_6 0 rfl rfl)
abbrev cX6_noSide : ByteArray := prog_30_method_97_code
def yX6_noSide : MethodName := ⟨RX6, "noSide", "(I)Z"⟩
def dkwX6_noSide_0 : List UInt8 := [26, 3, 4, 184, 0, 59, 154, 0, 7, 4, 167, 0, 4, 3, 172]
abbrev dktX6_noSide_0 : List UInt8 := dkwX6_noSide_0 ++ []
theorem dksX6_noSide_0 : cX6_noSide.data.toList.drop 0 = dktX6_noSide_0 := by decide +kernel
theorem dX6_noSide_0 : decode cX6_noSide 0 = .ok (.iload_n 0, 1) := dk_26 (dk_at dksX6_noSide_0 0 rfl rfl)
theorem dX6_noSide_1 : decode cX6_noSide 1 = .ok (.iconst 0, 1) := dk_3 (dk_at dksX6_noSide_0 1 rfl rfl)
theorem dX6_noSide_2 : decode cX6_noSide 2 = .ok (.iconst 1, 1) := dk_4 (dk_at dksX6_noSide_0 2 rfl rfl)
theorem dX6_noSide_3 : decode cX6_noSide 3 = .ok (.invokestatic 59, 3) := dk_184 0 59 (dk_at dksX6_noSide_0 3 rfl rfl)
theorem dX6_noSide_6 : decode cX6_noSide 6 = .ok (.ifCond .ne 7, 3) := dk_154 0 7 (dk_at dksX6_noSide_0 6 rfl rfl)
theorem dX6_noSide_9 : decode cX6_noSide 9 = .ok (.iconst 1, 1) := dk_4 (dk_at dksX6_noSide_0 9 rfl rfl)
theorem dX6_noSide_10 : decode cX6_noSide 10 = .ok (.goto 4, 3) := dk_167 0 4 (dk_at dksX6_noSide_0 10 rfl rfl)
theorem dX6_noSide_13 : decode cX6_noSide 13 = .ok (.iconst 0, 1) := dk_3 (dk_at dksX6_noSide_0 13 rfl rfl)
theorem dX6_noSide_14 : decode cX6_noSide 14 = .ok (.ireturn, 1) := dk_172 (dk_at dksX6_noSide_0 14 rfl rfl)
abbrev cX6_longestHeld : ByteArray := prog_30_method_96_code
def yX6_longestHeld : MethodName := ⟨RX6, "longestHeld", "(III)I"⟩
def dkwX6_longestHeld_5 : List UInt8 := [167, 255, 171, 132, 5, 1, 167, 255, 143, 21, 4, 172]
abbrev dktX6_longestHeld_5 : List UInt8 := dkwX6_longestHeld_5 ++ []
def dkwX6_longestHeld_4 : List UInt8 := [21, 6, 29, 96, 163, 0, 17, 21, 4, 21, 8, 21, 5, 100, 4, 96, 184, 0, 69, 54, 4, 132, 8, 1]
abbrev dktX6_longestHeld_4 : List UInt8 := dkwX6_longestHeld_4 ++ dktX6_longestHeld_5
def dkwX6_longestHeld_3 : List UInt8 := [42, 180, 0, 45, 21, 8, 4, 96, 46, 42, 180, 0, 45, 21, 8, 46, 100, 184, 0, 69, 54, 7, 21, 7]
abbrev dktX6_longestHeld_3 : List UInt8 := dkwX6_longestHeld_3 ++ dktX6_longestHeld_4
def dkwX6_longestHeld_2 : List UInt8 := [42, 180, 0, 45, 21, 8, 4, 96, 46, 42, 180, 0, 45, 21, 8, 46, 100, 184, 0, 73, 54, 6, 21, 7]
abbrev dktX6_longestHeld_2 : List UInt8 := dkwX6_longestHeld_2 ++ dktX6_longestHeld_3
def dkwX6_longestHeld_1 : List UInt8 := [16, 16, 54, 6, 3, 54, 7, 21, 5, 54, 8, 21, 8, 4, 96, 42, 180, 1, 131, 162, 0, 80, 21, 6]
abbrev dktX6_longestHeld_1 : List UInt8 := dkwX6_longestHeld_1 ++ dktX6_longestHeld_2
def dkwX6_longestHeld_0 : List UInt8 := [42, 27, 28, 182, 1, 134, 3, 54, 4, 3, 54, 5, 21, 5, 4, 96, 42, 180, 1, 131, 162, 0, 108]
abbrev dktX6_longestHeld_0 : List UInt8 := dkwX6_longestHeld_0 ++ dktX6_longestHeld_1
theorem dksX6_longestHeld_0 : cX6_longestHeld.data.toList.drop 0 = dktX6_longestHeld_0 := by decide +kernel
theorem dksX6_longestHeld_1 : cX6_longestHeld.data.toList.drop 23 = dktX6_longestHeld_1 := dk_seg dksX6_longestHeld_0 23 rfl rfl
theorem dksX6_longestHeld_2 : cX6_longestHeld.data.toList.drop 47 = dktX6_longestHeld_2 := dk_seg dksX6_longestHeld_1 24 rfl rfl
theorem dksX6_longestHeld_3 : cX6_longestHeld.data.toList.drop 71 = dktX6_longestHeld_3 := dk_seg dksX6_longestHeld_2 24 rfl rfl
theorem dksX6_longestHeld_4 : cX6_longestHeld.data.toList.drop 95 = dktX6_longestHeld_4 := dk_seg dksX6_longestHeld_3 24 rfl rfl
theorem dksX6_longestHeld_5 : cX6_longestHeld.data.toList.drop 119 = dktX6_longestHeld_5 := dk_seg dksX6_longestHeld_4 24 rfl rfl
theorem dX6_longestHeld_0 : decode cX6_longestHeld 0 = .ok (.aload_n 0, 1) := dk_42 (dk_at dksX6_longestHeld_0 0 rfl rfl)
theorem dX6_longestHeld_1 : decode cX6_longestHeld 1 = .ok (.iload_n 1, 1) := dk_27 (dk_at dksX6_longestHeld_0 1 rfl rfl)
theorem dX6_longestHeld_2 : decode cX6_longestHeld 2 = .ok (.iload_n 2, 1) := dk_28 (dk_at dksX6_longestHeld_0 2 rfl rfl)
theorem dX6_longestHeld_3 : decode cX6_longestHeld 3 = .ok (.invokevirtual 390, 3) := dk_182 1 134 (dk_at dksX6_longestHeld_0 3 rfl rfl)
theorem dX6_longestHeld_6 : decode cX6_longestHeld 6 = .ok (.iconst 0, 1) := dk_3 (dk_at dksX6_longestHeld_0 6 rfl rfl)
theorem dX6_longestHeld_7 : decode cX6_longestHeld 7 = .ok (.istore 4, 2) := dk_54 4 (dk_at dksX6_longestHeld_0 7 rfl rfl)
theorem dX6_longestHeld_9 : decode cX6_longestHeld 9 = .ok (.iconst 0, 1) := dk_3 (dk_at dksX6_longestHeld_0 9 rfl rfl)
theorem dX6_longestHeld_10 : decode cX6_longestHeld 10 = .ok (.istore 5, 2) := dk_54 5 (dk_at dksX6_longestHeld_0 10 rfl rfl)
theorem dX6_longestHeld_12 : decode cX6_longestHeld 12 = .ok (.iload 5, 2) := dk_21 5 (dk_at dksX6_longestHeld_0 12 rfl rfl)
theorem dX6_longestHeld_14 : decode cX6_longestHeld 14 = .ok (.iconst 1, 1) := dk_4 (dk_at dksX6_longestHeld_0 14 rfl rfl)
theorem dX6_longestHeld_15 : decode cX6_longestHeld 15 = .ok (.iadd, 1) := dk_96 (dk_at dksX6_longestHeld_0 15 rfl rfl)
theorem dX6_longestHeld_16 : decode cX6_longestHeld 16 = .ok (.aload_n 0, 1) := dk_42 (dk_at dksX6_longestHeld_0 16 rfl rfl)
theorem dX6_longestHeld_17 : decode cX6_longestHeld 17 = .ok (.getfield 387, 3) := dk_180 1 131 (dk_at dksX6_longestHeld_0 17 rfl rfl)
theorem dX6_longestHeld_20 : decode cX6_longestHeld 20 = .ok (.if_icmp .ge 108, 3) := dk_162 0 108 (dk_at dksX6_longestHeld_0 20 rfl rfl)
theorem dX6_longestHeld_23 : decode cX6_longestHeld 23 = .ok (.bipush 16, 2) := dk_16 16 (dk_at dksX6_longestHeld_1 0 rfl rfl)
theorem dX6_longestHeld_25 : decode cX6_longestHeld 25 = .ok (.istore 6, 2) := dk_54 6 (dk_at dksX6_longestHeld_1 2 rfl rfl)
theorem dX6_longestHeld_27 : decode cX6_longestHeld 27 = .ok (.iconst 0, 1) := dk_3 (dk_at dksX6_longestHeld_1 4 rfl rfl)
theorem dX6_longestHeld_28 : decode cX6_longestHeld 28 = .ok (.istore 7, 2) := dk_54 7 (dk_at dksX6_longestHeld_1 5 rfl rfl)
theorem dX6_longestHeld_30 : decode cX6_longestHeld 30 = .ok (.iload 5, 2) := dk_21 5 (dk_at dksX6_longestHeld_1 7 rfl rfl)
theorem dX6_longestHeld_32 : decode cX6_longestHeld 32 = .ok (.istore 8, 2) := dk_54 8 (dk_at dksX6_longestHeld_1 9 rfl rfl)
theorem dX6_longestHeld_34 : decode cX6_longestHeld 34 = .ok (.iload 8, 2) := dk_21 8 (dk_at dksX6_longestHeld_1 11 rfl rfl)
theorem dX6_longestHeld_36 : decode cX6_longestHeld 36 = .ok (.iconst 1, 1) := dk_4 (dk_at dksX6_longestHeld_1 13 rfl rfl)
theorem dX6_longestHeld_37 : decode cX6_longestHeld 37 = .ok (.iadd, 1) := dk_96 (dk_at dksX6_longestHeld_1 14 rfl rfl)
theorem dX6_longestHeld_38 : decode cX6_longestHeld 38 = .ok (.aload_n 0, 1) := dk_42 (dk_at dksX6_longestHeld_1 15 rfl rfl)
theorem dX6_longestHeld_39 : decode cX6_longestHeld 39 = .ok (.getfield 387, 3) := dk_180 1 131 (dk_at dksX6_longestHeld_1 16 rfl rfl)
theorem dX6_longestHeld_42 : decode cX6_longestHeld 42 = .ok (.if_icmp .ge 80, 3) := dk_162 0 80 (dk_at dksX6_longestHeld_1 19 rfl rfl)
theorem dX6_longestHeld_45 : decode cX6_longestHeld 45 = .ok (.iload 6, 2) := dk_21 6 (dk_at dksX6_longestHeld_1 22 rfl rfl)
theorem dX6_longestHeld_47 : decode cX6_longestHeld 47 = .ok (.aload_n 0, 1) := dk_42 (dk_at dksX6_longestHeld_2 0 rfl rfl)
theorem dX6_longestHeld_48 : decode cX6_longestHeld 48 = .ok (.getfield 45, 3) := dk_180 0 45 (dk_at dksX6_longestHeld_2 1 rfl rfl)
theorem dX6_longestHeld_51 : decode cX6_longestHeld 51 = .ok (.iload 8, 2) := dk_21 8 (dk_at dksX6_longestHeld_2 4 rfl rfl)
theorem dX6_longestHeld_53 : decode cX6_longestHeld 53 = .ok (.iconst 1, 1) := dk_4 (dk_at dksX6_longestHeld_2 6 rfl rfl)
theorem dX6_longestHeld_54 : decode cX6_longestHeld 54 = .ok (.iadd, 1) := dk_96 (dk_at dksX6_longestHeld_2 7 rfl rfl)
theorem dX6_longestHeld_55 : decode cX6_longestHeld 55 = .ok (.iaload, 1) := dk_46 (dk_at dksX6_longestHeld_2 8 rfl rfl)
theorem dX6_longestHeld_56 : decode cX6_longestHeld 56 = .ok (.aload_n 0, 1) := dk_42 (dk_at dksX6_longestHeld_2 9 rfl rfl)
theorem dX6_longestHeld_57 : decode cX6_longestHeld 57 = .ok (.getfield 45, 3) := dk_180 0 45 (dk_at dksX6_longestHeld_2 10 rfl rfl)
theorem dX6_longestHeld_60 : decode cX6_longestHeld 60 = .ok (.iload 8, 2) := dk_21 8 (dk_at dksX6_longestHeld_2 13 rfl rfl)
theorem dX6_longestHeld_62 : decode cX6_longestHeld 62 = .ok (.iaload, 1) := dk_46 (dk_at dksX6_longestHeld_2 15 rfl rfl)
theorem dX6_longestHeld_63 : decode cX6_longestHeld 63 = .ok (.isub, 1) := dk_100 (dk_at dksX6_longestHeld_2 16 rfl rfl)
theorem dX6_longestHeld_64 : decode cX6_longestHeld 64 = .ok (.invokestatic 73, 3) := dk_184 0 73 (dk_at dksX6_longestHeld_2 17 rfl rfl)
theorem dX6_longestHeld_67 : decode cX6_longestHeld 67 = .ok (.istore 6, 2) := dk_54 6 (dk_at dksX6_longestHeld_2 20 rfl rfl)
theorem dX6_longestHeld_69 : decode cX6_longestHeld 69 = .ok (.iload 7, 2) := dk_21 7 (dk_at dksX6_longestHeld_2 22 rfl rfl)
theorem dX6_longestHeld_71 : decode cX6_longestHeld 71 = .ok (.aload_n 0, 1) := dk_42 (dk_at dksX6_longestHeld_3 0 rfl rfl)
theorem dX6_longestHeld_72 : decode cX6_longestHeld 72 = .ok (.getfield 45, 3) := dk_180 0 45 (dk_at dksX6_longestHeld_3 1 rfl rfl)
theorem dX6_longestHeld_75 : decode cX6_longestHeld 75 = .ok (.iload 8, 2) := dk_21 8 (dk_at dksX6_longestHeld_3 4 rfl rfl)
theorem dX6_longestHeld_77 : decode cX6_longestHeld 77 = .ok (.iconst 1, 1) := dk_4 (dk_at dksX6_longestHeld_3 6 rfl rfl)
theorem dX6_longestHeld_78 : decode cX6_longestHeld 78 = .ok (.iadd, 1) := dk_96 (dk_at dksX6_longestHeld_3 7 rfl rfl)
theorem dX6_longestHeld_79 : decode cX6_longestHeld 79 = .ok (.iaload, 1) := dk_46 (dk_at dksX6_longestHeld_3 8 rfl rfl)
theorem dX6_longestHeld_80 : decode cX6_longestHeld 80 = .ok (.aload_n 0, 1) := dk_42 (dk_at dksX6_longestHeld_3 9 rfl rfl)
theorem dX6_longestHeld_81 : decode cX6_longestHeld 81 = .ok (.getfield 45, 3) := dk_180 0 45 (dk_at dksX6_longestHeld_3 10 rfl rfl)
theorem dX6_longestHeld_84 : decode cX6_longestHeld 84 = .ok (.iload 8, 2) := dk_21 8 (dk_at dksX6_longestHeld_3 13 rfl rfl)
theorem dX6_longestHeld_86 : decode cX6_longestHeld 86 = .ok (.iaload, 1) := dk_46 (dk_at dksX6_longestHeld_3 15 rfl rfl)
theorem dX6_longestHeld_87 : decode cX6_longestHeld 87 = .ok (.isub, 1) := dk_100 (dk_at dksX6_longestHeld_3 16 rfl rfl)
theorem dX6_longestHeld_88 : decode cX6_longestHeld 88 = .ok (.invokestatic 69, 3) := dk_184 0 69 (dk_at dksX6_longestHeld_3 17 rfl rfl)
theorem dX6_longestHeld_91 : decode cX6_longestHeld 91 = .ok (.istore 7, 2) := dk_54 7 (dk_at dksX6_longestHeld_3 20 rfl rfl)
theorem dX6_longestHeld_93 : decode cX6_longestHeld 93 = .ok (.iload 7, 2) := dk_21 7 (dk_at dksX6_longestHeld_3 22 rfl rfl)
theorem dX6_longestHeld_95 : decode cX6_longestHeld 95 = .ok (.iload 6, 2) := dk_21 6 (dk_at dksX6_longestHeld_4 0 rfl rfl)
theorem dX6_longestHeld_97 : decode cX6_longestHeld 97 = .ok (.iload_n 3, 1) := dk_29 (dk_at dksX6_longestHeld_4 2 rfl rfl)
theorem dX6_longestHeld_98 : decode cX6_longestHeld 98 = .ok (.iadd, 1) := dk_96 (dk_at dksX6_longestHeld_4 3 rfl rfl)
theorem dX6_longestHeld_99 : decode cX6_longestHeld 99 = .ok (.if_icmp .gt 17, 3) := dk_163 0 17 (dk_at dksX6_longestHeld_4 4 rfl rfl)
theorem dX6_longestHeld_102 : decode cX6_longestHeld 102 = .ok (.iload 4, 2) := dk_21 4 (dk_at dksX6_longestHeld_4 7 rfl rfl)
theorem dX6_longestHeld_104 : decode cX6_longestHeld 104 = .ok (.iload 8, 2) := dk_21 8 (dk_at dksX6_longestHeld_4 9 rfl rfl)
theorem dX6_longestHeld_106 : decode cX6_longestHeld 106 = .ok (.iload 5, 2) := dk_21 5 (dk_at dksX6_longestHeld_4 11 rfl rfl)
theorem dX6_longestHeld_108 : decode cX6_longestHeld 108 = .ok (.isub, 1) := dk_100 (dk_at dksX6_longestHeld_4 13 rfl rfl)
theorem dX6_longestHeld_109 : decode cX6_longestHeld 109 = .ok (.iconst 1, 1) := dk_4 (dk_at dksX6_longestHeld_4 14 rfl rfl)
theorem dX6_longestHeld_110 : decode cX6_longestHeld 110 = .ok (.iadd, 1) := dk_96 (dk_at dksX6_longestHeld_4 15 rfl rfl)
theorem dX6_longestHeld_111 : decode cX6_longestHeld 111 = .ok (.invokestatic 69, 3) := dk_184 0 69 (dk_at dksX6_longestHeld_4 16 rfl rfl)
theorem dX6_longestHeld_114 : decode cX6_longestHeld 114 = .ok (.istore 4, 2) := dk_54 4 (dk_at dksX6_longestHeld_4 19 rfl rfl)
theorem dX6_longestHeld_116 : decode cX6_longestHeld 116 = .ok (.iinc 8 1, 3) := dk_132 8 1 (dk_at dksX6_longestHeld_4 21 rfl rfl)
theorem dX6_longestHeld_119 : decode cX6_longestHeld 119 = .ok (.goto (-85), 3) := dk_167 255 171 (dk_at dksX6_longestHeld_5 0 rfl rfl)
theorem dX6_longestHeld_122 : decode cX6_longestHeld 122 = .ok (.iinc 5 1, 3) := dk_132 5 1 (dk_at dksX6_longestHeld_5 3 rfl rfl)
theorem dX6_longestHeld_125 : decode cX6_longestHeld 125 = .ok (.goto (-113), 3) := dk_167 255 143 (dk_at dksX6_longestHeld_5 6 rfl rfl)
theorem dX6_longestHeld_128 : decode cX6_longestHeld 128 = .ok (.iload 4, 2) := dk_21 4 (dk_at dksX6_longestHeld_5 9 rfl rfl)
theorem dX6_longestHeld_130 : decode cX6_longestHeld 130 = .ok (.ireturn, 1) := dk_172 (dk_at dksX6_longestHeld_5 11 rfl rfl)
abbrev cX6_gathersRow : ByteArray := prog_30_method_95_code
def yX6_gathersRow : MethodName := ⟨RX6, "gathersRow", "(II)V"⟩
def dkwX6_gathersRow_5 : List UInt8 := [96, 181, 1, 131, 132, 3, 1, 167, 255, 140, 177]
abbrev dktX6_gathersRow_5 : List UInt8 := dkwX6_gathersRow_5 ++ []
def dkwX6_gathersRow_4 : List UInt8 := [21, 4, 154, 0, 6, 167, 0, 23, 42, 180, 0, 45, 42, 180, 1, 131, 29, 79, 42, 89, 180, 1, 131, 4]
abbrev dktX6_gathersRow_4 : List UInt8 := dkwX6_gathersRow_4 ++ dktX6_gathersRow_5
def dkwX6_gathersRow_3 : List UInt8 := [182, 1, 112, 104, 96, 46, 27, 160, 0, 7, 4, 167, 0, 4, 3, 54, 4, 132, 5, 1, 167, 255, 186]
abbrev dktX6_gathersRow_3 : List UInt8 := dkwX6_gathersRow_3 ++ dktX6_gathersRow_4
def dkwX6_gathersRow_2 : List UInt8 := [160, 0, 37, 42, 21, 5, 182, 1, 112, 155, 0, 28, 42, 180, 0, 13, 17, 1, 13, 7, 42, 21, 5]
abbrev dktX6_gathersRow_2 : List UInt8 := dkwX6_gathersRow_2 ++ dktX6_gathersRow_3
def dkwX6_gathersRow_1 : List UInt8 := [182, 1, 77, 162, 0, 67, 21, 4, 154, 0, 49, 42, 21, 5, 4, 182, 1, 67, 16, 16, 28, 104, 29, 96]
abbrev dktX6_gathersRow_1 : List UInt8 := dkwX6_gathersRow_1 ++ dktX6_gathersRow_2
def dkwX6_gathersRow_0 : List UInt8 := [42, 3, 181, 1, 131, 3, 62, 29, 16, 16, 162, 0, 116, 3, 54, 4, 3, 54, 5, 21, 5, 42]
abbrev dktX6_gathersRow_0 : List UInt8 := dkwX6_gathersRow_0 ++ dktX6_gathersRow_1
theorem dksX6_gathersRow_0 : cX6_gathersRow.data.toList.drop 0 = dktX6_gathersRow_0 := by decide +kernel
theorem dksX6_gathersRow_1 : cX6_gathersRow.data.toList.drop 22 = dktX6_gathersRow_1 := dk_seg dksX6_gathersRow_0 22 rfl rfl
theorem dksX6_gathersRow_2 : cX6_gathersRow.data.toList.drop 46 = dktX6_gathersRow_2 := dk_seg dksX6_gathersRow_1 24 rfl rfl
theorem dksX6_gathersRow_3 : cX6_gathersRow.data.toList.drop 69 = dktX6_gathersRow_3 := dk_seg dksX6_gathersRow_2 23 rfl rfl
theorem dksX6_gathersRow_4 : cX6_gathersRow.data.toList.drop 92 = dktX6_gathersRow_4 := dk_seg dksX6_gathersRow_3 23 rfl rfl
theorem dksX6_gathersRow_5 : cX6_gathersRow.data.toList.drop 116 = dktX6_gathersRow_5 := dk_seg dksX6_gathersRow_4 24 rfl rfl
theorem dX6_gathersRow_0 : decode cX6_gathersRow 0 = .ok (.aload_n 0, 1) := dk_42 (dk_at dksX6_gathersRow_0 0 rfl rfl)
theorem dX6_gathersRow_1 : decode cX6_gathersRow 1 = .ok (.iconst 0, 1) := dk_3 (dk_at dksX6_gathersRow_0 1 rfl rfl)
theorem dX6_gathersRow_2 : decode cX6_gathersRow 2 = .ok (.putfield 387, 3) := dk_181 1 131 (dk_at dksX6_gathersRow_0 2 rfl rfl)
theorem dX6_gathersRow_5 : decode cX6_gathersRow 5 = .ok (.iconst 0, 1) := dk_3 (dk_at dksX6_gathersRow_0 5 rfl rfl)
theorem dX6_gathersRow_6 : decode cX6_gathersRow 6 = .ok (.istore_n 3, 1) := dk_62 (dk_at dksX6_gathersRow_0 6 rfl rfl)
theorem dX6_gathersRow_7 : decode cX6_gathersRow 7 = .ok (.iload_n 3, 1) := dk_29 (dk_at dksX6_gathersRow_0 7 rfl rfl)
theorem dX6_gathersRow_8 : decode cX6_gathersRow 8 = .ok (.bipush 16, 2) := dk_16 16 (dk_at dksX6_gathersRow_0 8 rfl rfl)
theorem dX6_gathersRow_10 : decode cX6_gathersRow 10 = .ok (.if_icmp .ge 116, 3) := dk_162 0 116 (dk_at dksX6_gathersRow_0 10 rfl rfl)
theorem dX6_gathersRow_13 : decode cX6_gathersRow 13 = .ok (.iconst 0, 1) := dk_3 (dk_at dksX6_gathersRow_0 13 rfl rfl)
theorem dX6_gathersRow_14 : decode cX6_gathersRow 14 = .ok (.istore 4, 2) := dk_54 4 (dk_at dksX6_gathersRow_0 14 rfl rfl)
theorem dX6_gathersRow_16 : decode cX6_gathersRow 16 = .ok (.iconst 0, 1) := dk_3 (dk_at dksX6_gathersRow_0 16 rfl rfl)
theorem dX6_gathersRow_17 : decode cX6_gathersRow 17 = .ok (.istore 5, 2) := dk_54 5 (dk_at dksX6_gathersRow_0 17 rfl rfl)
theorem dX6_gathersRow_19 : decode cX6_gathersRow 19 = .ok (.iload 5, 2) := dk_21 5 (dk_at dksX6_gathersRow_0 19 rfl rfl)
theorem dX6_gathersRow_21 : decode cX6_gathersRow 21 = .ok (.aload_n 0, 1) := dk_42 (dk_at dksX6_gathersRow_0 21 rfl rfl)
theorem dX6_gathersRow_22 : decode cX6_gathersRow 22 = .ok (.invokevirtual 333, 3) := dk_182 1 77 (dk_at dksX6_gathersRow_1 0 rfl rfl)
theorem dX6_gathersRow_25 : decode cX6_gathersRow 25 = .ok (.if_icmp .ge 67, 3) := dk_162 0 67 (dk_at dksX6_gathersRow_1 3 rfl rfl)
theorem dX6_gathersRow_28 : decode cX6_gathersRow 28 = .ok (.iload 4, 2) := dk_21 4 (dk_at dksX6_gathersRow_1 6 rfl rfl)
theorem dX6_gathersRow_30 : decode cX6_gathersRow 30 = .ok (.ifCond .ne 49, 3) := dk_154 0 49 (dk_at dksX6_gathersRow_1 8 rfl rfl)
theorem dX6_gathersRow_33 : decode cX6_gathersRow 33 = .ok (.aload_n 0, 1) := dk_42 (dk_at dksX6_gathersRow_1 11 rfl rfl)
theorem dX6_gathersRow_34 : decode cX6_gathersRow 34 = .ok (.iload 5, 2) := dk_21 5 (dk_at dksX6_gathersRow_1 12 rfl rfl)
theorem dX6_gathersRow_36 : decode cX6_gathersRow 36 = .ok (.iconst 1, 1) := dk_4 (dk_at dksX6_gathersRow_1 14 rfl rfl)
theorem dX6_gathersRow_37 : decode cX6_gathersRow 37 = .ok (.invokevirtual 323, 3) := dk_182 1 67 (dk_at dksX6_gathersRow_1 15 rfl rfl)
theorem dX6_gathersRow_40 : decode cX6_gathersRow 40 = .ok (.bipush 16, 2) := dk_16 16 (dk_at dksX6_gathersRow_1 18 rfl rfl)
theorem dX6_gathersRow_42 : decode cX6_gathersRow 42 = .ok (.iload_n 2, 1) := dk_28 (dk_at dksX6_gathersRow_1 20 rfl rfl)
theorem dX6_gathersRow_43 : decode cX6_gathersRow 43 = .ok (.imul, 1) := dk_104 (dk_at dksX6_gathersRow_1 21 rfl rfl)
theorem dX6_gathersRow_44 : decode cX6_gathersRow 44 = .ok (.iload_n 3, 1) := dk_29 (dk_at dksX6_gathersRow_1 22 rfl rfl)
theorem dX6_gathersRow_45 : decode cX6_gathersRow 45 = .ok (.iadd, 1) := dk_96 (dk_at dksX6_gathersRow_1 23 rfl rfl)
theorem dX6_gathersRow_46 : decode cX6_gathersRow 46 = .ok (.if_icmp .ne 37, 3) := dk_160 0 37 (dk_at dksX6_gathersRow_2 0 rfl rfl)
theorem dX6_gathersRow_49 : decode cX6_gathersRow 49 = .ok (.aload_n 0, 1) := dk_42 (dk_at dksX6_gathersRow_2 3 rfl rfl)
theorem dX6_gathersRow_50 : decode cX6_gathersRow 50 = .ok (.iload 5, 2) := dk_21 5 (dk_at dksX6_gathersRow_2 4 rfl rfl)
theorem dX6_gathersRow_52 : decode cX6_gathersRow 52 = .ok (.invokevirtual 368, 3) := dk_182 1 112 (dk_at dksX6_gathersRow_2 6 rfl rfl)
theorem dX6_gathersRow_55 : decode cX6_gathersRow 55 = .ok (.ifCond .lt 28, 3) := dk_155 0 28 (dk_at dksX6_gathersRow_2 9 rfl rfl)
theorem dX6_gathersRow_58 : decode cX6_gathersRow 58 = .ok (.aload_n 0, 1) := dk_42 (dk_at dksX6_gathersRow_2 12 rfl rfl)
theorem dX6_gathersRow_59 : decode cX6_gathersRow 59 = .ok (.getfield 13, 3) := dk_180 0 13 (dk_at dksX6_gathersRow_2 13 rfl rfl)
theorem dX6_gathersRow_62 : decode cX6_gathersRow 62 = .ok (.sipush 269, 3) := dk_17 1 13 (dk_at dksX6_gathersRow_2 16 rfl rfl)
theorem dX6_gathersRow_65 : decode cX6_gathersRow 65 = .ok (.iconst 4, 1) := dk_7 (dk_at dksX6_gathersRow_2 19 rfl rfl)
theorem dX6_gathersRow_66 : decode cX6_gathersRow 66 = .ok (.aload_n 0, 1) := dk_42 (dk_at dksX6_gathersRow_2 20 rfl rfl)
theorem dX6_gathersRow_67 : decode cX6_gathersRow 67 = .ok (.iload 5, 2) := dk_21 5 (dk_at dksX6_gathersRow_2 21 rfl rfl)
theorem dX6_gathersRow_69 : decode cX6_gathersRow 69 = .ok (.invokevirtual 368, 3) := dk_182 1 112 (dk_at dksX6_gathersRow_3 0 rfl rfl)
theorem dX6_gathersRow_72 : decode cX6_gathersRow 72 = .ok (.imul, 1) := dk_104 (dk_at dksX6_gathersRow_3 3 rfl rfl)
theorem dX6_gathersRow_73 : decode cX6_gathersRow 73 = .ok (.iadd, 1) := dk_96 (dk_at dksX6_gathersRow_3 4 rfl rfl)
theorem dX6_gathersRow_74 : decode cX6_gathersRow 74 = .ok (.iaload, 1) := dk_46 (dk_at dksX6_gathersRow_3 5 rfl rfl)
theorem dX6_gathersRow_75 : decode cX6_gathersRow 75 = .ok (.iload_n 1, 1) := dk_27 (dk_at dksX6_gathersRow_3 6 rfl rfl)
theorem dX6_gathersRow_76 : decode cX6_gathersRow 76 = .ok (.if_icmp .ne 7, 3) := dk_160 0 7 (dk_at dksX6_gathersRow_3 7 rfl rfl)
theorem dX6_gathersRow_79 : decode cX6_gathersRow 79 = .ok (.iconst 1, 1) := dk_4 (dk_at dksX6_gathersRow_3 10 rfl rfl)
theorem dX6_gathersRow_80 : decode cX6_gathersRow 80 = .ok (.goto 4, 3) := dk_167 0 4 (dk_at dksX6_gathersRow_3 11 rfl rfl)
theorem dX6_gathersRow_83 : decode cX6_gathersRow 83 = .ok (.iconst 0, 1) := dk_3 (dk_at dksX6_gathersRow_3 14 rfl rfl)
theorem dX6_gathersRow_84 : decode cX6_gathersRow 84 = .ok (.istore 4, 2) := dk_54 4 (dk_at dksX6_gathersRow_3 15 rfl rfl)
theorem dX6_gathersRow_86 : decode cX6_gathersRow 86 = .ok (.iinc 5 1, 3) := dk_132 5 1 (dk_at dksX6_gathersRow_3 17 rfl rfl)
theorem dX6_gathersRow_89 : decode cX6_gathersRow 89 = .ok (.goto (-70), 3) := dk_167 255 186 (dk_at dksX6_gathersRow_3 20 rfl rfl)
theorem dX6_gathersRow_92 : decode cX6_gathersRow 92 = .ok (.iload 4, 2) := dk_21 4 (dk_at dksX6_gathersRow_4 0 rfl rfl)
theorem dX6_gathersRow_94 : decode cX6_gathersRow 94 = .ok (.ifCond .ne 6, 3) := dk_154 0 6 (dk_at dksX6_gathersRow_4 2 rfl rfl)
theorem dX6_gathersRow_97 : decode cX6_gathersRow 97 = .ok (.goto 23, 3) := dk_167 0 23 (dk_at dksX6_gathersRow_4 5 rfl rfl)
theorem dX6_gathersRow_100 : decode cX6_gathersRow 100 = .ok (.aload_n 0, 1) := dk_42 (dk_at dksX6_gathersRow_4 8 rfl rfl)
theorem dX6_gathersRow_101 : decode cX6_gathersRow 101 = .ok (.getfield 45, 3) := dk_180 0 45 (dk_at dksX6_gathersRow_4 9 rfl rfl)
theorem dX6_gathersRow_104 : decode cX6_gathersRow 104 = .ok (.aload_n 0, 1) := dk_42 (dk_at dksX6_gathersRow_4 12 rfl rfl)
theorem dX6_gathersRow_105 : decode cX6_gathersRow 105 = .ok (.getfield 387, 3) := dk_180 1 131 (dk_at dksX6_gathersRow_4 13 rfl rfl)
theorem dX6_gathersRow_108 : decode cX6_gathersRow 108 = .ok (.iload_n 3, 1) := dk_29 (dk_at dksX6_gathersRow_4 16 rfl rfl)
theorem dX6_gathersRow_109 : decode cX6_gathersRow 109 = .ok (.iastore, 1) := dk_79 (dk_at dksX6_gathersRow_4 17 rfl rfl)
theorem dX6_gathersRow_110 : decode cX6_gathersRow 110 = .ok (.aload_n 0, 1) := dk_42 (dk_at dksX6_gathersRow_4 18 rfl rfl)
theorem dX6_gathersRow_111 : decode cX6_gathersRow 111 = .ok (.dup, 1) := dk_89 (dk_at dksX6_gathersRow_4 19 rfl rfl)
theorem dX6_gathersRow_112 : decode cX6_gathersRow 112 = .ok (.getfield 387, 3) := dk_180 1 131 (dk_at dksX6_gathersRow_4 20 rfl rfl)
theorem dX6_gathersRow_115 : decode cX6_gathersRow 115 = .ok (.iconst 1, 1) := dk_4 (dk_at dksX6_gathersRow_4 23 rfl rfl)
theorem dX6_gathersRow_116 : decode cX6_gathersRow 116 = .ok (.iadd, 1) := dk_96 (dk_at dksX6_gathersRow_5 0 rfl rfl)
theorem dX6_gathersRow_117 : decode cX6_gathersRow 117 = .ok (.putfield 387, 3) := dk_181 1 131 (dk_at dksX6_gathersRow_5 1 rfl rfl)
theorem dX6_gathersRow_120 : decode cX6_gathersRow 120 = .ok (.iinc 3 1, 3) := dk_132 3 1 (dk_at dksX6_gathersRow_5 4 rfl rfl)
theorem dX6_gathersRow_123 : decode cX6_gathersRow 123 = .ok (.goto (-116), 3) := dk_167 255 140 (dk_at dksX6_gathersRow_5 7 rfl rfl)
theorem dX6_gathersRow_126 : decode cX6_gathersRow 126 = .ok (.return_, 1) := dk_177 (dk_at dksX6_gathersRow_5 10 rfl rfl)
abbrev cX6_heaps : ByteArray := prog_30_method_101_code
def yX6_heaps : MethodName := ⟨RX6, "heaps", "(IZ)I"⟩
def dkwX6_heaps_1 : List UInt8 := [182, 0, 80, 153, 0, 7, 3, 167, 0, 9, 42, 27, 28, 182, 1, 147, 172]
abbrev dktX6_heaps_1 : List UInt8 := dkwX6_heaps_1 ++ []
def dkwX6_heaps_0 : List UInt8 := [42, 3, 181, 0, 3, 42, 27, 4, 16, 99, 184, 0, 59, 154, 0, 7, 4, 167, 0, 4, 3, 4]
abbrev dktX6_heaps_0 : List UInt8 := dkwX6_heaps_0 ++ dktX6_heaps_1
theorem dksX6_heaps_0 : cX6_heaps.data.toList.drop 0 = dktX6_heaps_0 := by decide +kernel
theorem dksX6_heaps_1 : cX6_heaps.data.toList.drop 22 = dktX6_heaps_1 := dk_seg dksX6_heaps_0 22 rfl rfl
theorem dX6_heaps_0 : decode cX6_heaps 0 = .ok (.aload_n 0, 1) := dk_42 (dk_at dksX6_heaps_0 0 rfl rfl)
theorem dX6_heaps_1 : decode cX6_heaps 1 = .ok (.iconst 0, 1) := dk_3 (dk_at dksX6_heaps_0 1 rfl rfl)
theorem dX6_heaps_2 : decode cX6_heaps 2 = .ok (.putfield 3, 3) := dk_181 0 3 (dk_at dksX6_heaps_0 2 rfl rfl)
theorem dX6_heaps_5 : decode cX6_heaps 5 = .ok (.aload_n 0, 1) := dk_42 (dk_at dksX6_heaps_0 5 rfl rfl)
theorem dX6_heaps_6 : decode cX6_heaps 6 = .ok (.iload_n 1, 1) := dk_27 (dk_at dksX6_heaps_0 6 rfl rfl)
theorem dX6_heaps_7 : decode cX6_heaps 7 = .ok (.iconst 1, 1) := dk_4 (dk_at dksX6_heaps_0 7 rfl rfl)
theorem dX6_heaps_8 : decode cX6_heaps 8 = .ok (.bipush 99, 2) := dk_16 99 (dk_at dksX6_heaps_0 8 rfl rfl)
theorem dX6_heaps_10 : decode cX6_heaps 10 = .ok (.invokestatic 59, 3) := dk_184 0 59 (dk_at dksX6_heaps_0 10 rfl rfl)
theorem dX6_heaps_13 : decode cX6_heaps 13 = .ok (.ifCond .ne 7, 3) := dk_154 0 7 (dk_at dksX6_heaps_0 13 rfl rfl)
theorem dX6_heaps_16 : decode cX6_heaps 16 = .ok (.iconst 1, 1) := dk_4 (dk_at dksX6_heaps_0 16 rfl rfl)
theorem dX6_heaps_17 : decode cX6_heaps 17 = .ok (.goto 4, 3) := dk_167 0 4 (dk_at dksX6_heaps_0 17 rfl rfl)
theorem dX6_heaps_20 : decode cX6_heaps 20 = .ok (.iconst 0, 1) := dk_3 (dk_at dksX6_heaps_0 20 rfl rfl)
theorem dX6_heaps_21 : decode cX6_heaps 21 = .ok (.iconst 1, 1) := dk_4 (dk_at dksX6_heaps_0 21 rfl rfl)
theorem dX6_heaps_22 : decode cX6_heaps 22 = .ok (.invokevirtual 80, 3) := dk_182 0 80 (dk_at dksX6_heaps_1 0 rfl rfl)
theorem dX6_heaps_25 : decode cX6_heaps 25 = .ok (.ifCond .eq 7, 3) := dk_153 0 7 (dk_at dksX6_heaps_1 3 rfl rfl)
theorem dX6_heaps_28 : decode cX6_heaps 28 = .ok (.iconst 0, 1) := dk_3 (dk_at dksX6_heaps_1 6 rfl rfl)
theorem dX6_heaps_29 : decode cX6_heaps 29 = .ok (.goto 9, 3) := dk_167 0 9 (dk_at dksX6_heaps_1 7 rfl rfl)
theorem dX6_heaps_32 : decode cX6_heaps 32 = .ok (.aload_n 0, 1) := dk_42 (dk_at dksX6_heaps_1 10 rfl rfl)
theorem dX6_heaps_33 : decode cX6_heaps 33 = .ok (.iload_n 1, 1) := dk_27 (dk_at dksX6_heaps_1 11 rfl rfl)
theorem dX6_heaps_34 : decode cX6_heaps 34 = .ok (.iload_n 2, 1) := dk_28 (dk_at dksX6_heaps_1 12 rfl rfl)
theorem dX6_heaps_35 : decode cX6_heaps 35 = .ok (.invokevirtual 403, 3) := dk_182 1 147 (dk_at dksX6_heaps_1 13 rfl rfl)
theorem dX6_heaps_38 : decode cX6_heaps 38 = .ok (.ireturn, 1) := dk_172 (dk_at dksX6_heaps_1 16 rfl rfl)
abbrev cX6_heapsOf : ByteArray := prog_30_method_100_code
def yX6_heapsOf : MethodName := ⟨RX6, "heapsOf", "(IZ)I"⟩
def dkwX6_heapsOf_2 : List UInt8 := [167, 0, 4, 29, 172]
abbrev dktX6_heapsOf_2 : List UInt8 := dkwX6_heapsOf_2 ++ []
def dkwX6_heapsOf_1 : List UInt8 := [167, 0, 13, 28, 153, 0, 6, 21, 4, 172, 132, 3, 1, 132, 4, 1, 167, 255, 222, 28, 153, 0, 7, 2]
abbrev dktX6_heapsOf_1 : List UInt8 := dkwX6_heapsOf_1 ++ dktX6_heapsOf_2
def dkwX6_heapsOf_0 : List UInt8 := [3, 62, 3, 54, 4, 21, 4, 17, 1, 0, 162, 0, 32, 42, 21, 4, 182, 1, 144, 27, 162, 0, 6]
abbrev dktX6_heapsOf_0 : List UInt8 := dkwX6_heapsOf_0 ++ dktX6_heapsOf_1
theorem dksX6_heapsOf_0 : cX6_heapsOf.data.toList.drop 0 = dktX6_heapsOf_0 := by decide +kernel
theorem dksX6_heapsOf_1 : cX6_heapsOf.data.toList.drop 23 = dktX6_heapsOf_1 := dk_seg dksX6_heapsOf_0 23 rfl rfl
theorem dksX6_heapsOf_2 : cX6_heapsOf.data.toList.drop 47 = dktX6_heapsOf_2 := dk_seg dksX6_heapsOf_1 24 rfl rfl
theorem dX6_heapsOf_0 : decode cX6_heapsOf 0 = .ok (.iconst 0, 1) := dk_3 (dk_at dksX6_heapsOf_0 0 rfl rfl)
theorem dX6_heapsOf_1 : decode cX6_heapsOf 1 = .ok (.istore_n 3, 1) := dk_62 (dk_at dksX6_heapsOf_0 1 rfl rfl)
theorem dX6_heapsOf_2 : decode cX6_heapsOf 2 = .ok (.iconst 0, 1) := dk_3 (dk_at dksX6_heapsOf_0 2 rfl rfl)
theorem dX6_heapsOf_3 : decode cX6_heapsOf 3 = .ok (.istore 4, 2) := dk_54 4 (dk_at dksX6_heapsOf_0 3 rfl rfl)
theorem dX6_heapsOf_5 : decode cX6_heapsOf 5 = .ok (.iload 4, 2) := dk_21 4 (dk_at dksX6_heapsOf_0 5 rfl rfl)
theorem dX6_heapsOf_7 : decode cX6_heapsOf 7 = .ok (.sipush 256, 3) := dk_17 1 0 (dk_at dksX6_heapsOf_0 7 rfl rfl)
theorem dX6_heapsOf_10 : decode cX6_heapsOf 10 = .ok (.if_icmp .ge 32, 3) := dk_162 0 32 (dk_at dksX6_heapsOf_0 10 rfl rfl)
theorem dX6_heapsOf_13 : decode cX6_heapsOf 13 = .ok (.aload_n 0, 1) := dk_42 (dk_at dksX6_heapsOf_0 13 rfl rfl)
theorem dX6_heapsOf_14 : decode cX6_heapsOf 14 = .ok (.iload 4, 2) := dk_21 4 (dk_at dksX6_heapsOf_0 14 rfl rfl)
theorem dX6_heapsOf_16 : decode cX6_heapsOf 16 = .ok (.invokevirtual 400, 3) := dk_182 1 144 (dk_at dksX6_heapsOf_0 16 rfl rfl)
theorem dX6_heapsOf_19 : decode cX6_heapsOf 19 = .ok (.iload_n 1, 1) := dk_27 (dk_at dksX6_heapsOf_0 19 rfl rfl)
theorem dX6_heapsOf_20 : decode cX6_heapsOf 20 = .ok (.if_icmp .ge 6, 3) := dk_162 0 6 (dk_at dksX6_heapsOf_0 20 rfl rfl)
theorem dX6_heapsOf_23 : decode cX6_heapsOf 23 = .ok (.goto 13, 3) := dk_167 0 13 (dk_at dksX6_heapsOf_1 0 rfl rfl)
theorem dX6_heapsOf_26 : decode cX6_heapsOf 26 = .ok (.iload_n 2, 1) := dk_28 (dk_at dksX6_heapsOf_1 3 rfl rfl)
theorem dX6_heapsOf_27 : decode cX6_heapsOf 27 = .ok (.ifCond .eq 6, 3) := dk_153 0 6 (dk_at dksX6_heapsOf_1 4 rfl rfl)
theorem dX6_heapsOf_30 : decode cX6_heapsOf 30 = .ok (.iload 4, 2) := dk_21 4 (dk_at dksX6_heapsOf_1 7 rfl rfl)
theorem dX6_heapsOf_32 : decode cX6_heapsOf 32 = .ok (.ireturn, 1) := dk_172 (dk_at dksX6_heapsOf_1 9 rfl rfl)
theorem dX6_heapsOf_33 : decode cX6_heapsOf 33 = .ok (.iinc 3 1, 3) := dk_132 3 1 (dk_at dksX6_heapsOf_1 10 rfl rfl)
theorem dX6_heapsOf_36 : decode cX6_heapsOf 36 = .ok (.iinc 4 1, 3) := dk_132 4 1 (dk_at dksX6_heapsOf_1 13 rfl rfl)
theorem dX6_heapsOf_39 : decode cX6_heapsOf 39 = .ok (.goto (-34), 3) := dk_167 255 222 (dk_at dksX6_heapsOf_1 16 rfl rfl)
theorem dX6_heapsOf_42 : decode cX6_heapsOf 42 = .ok (.iload_n 2, 1) := dk_28 (dk_at dksX6_heapsOf_1 19 rfl rfl)
theorem dX6_heapsOf_43 : decode cX6_heapsOf 43 = .ok (.ifCond .eq 7, 3) := dk_153 0 7 (dk_at dksX6_heapsOf_1 20 rfl rfl)
theorem dX6_heapsOf_46 : decode cX6_heapsOf 46 = .ok (.iconst (-1), 1) := dk_2 (dk_at dksX6_heapsOf_1 23 rfl rfl)
theorem dX6_heapsOf_47 : decode cX6_heapsOf 47 = .ok (.goto 4, 3) := dk_167 0 4 (dk_at dksX6_heapsOf_2 0 rfl rfl)
theorem dX6_heapsOf_50 : decode cX6_heapsOf 50 = .ok (.iload_n 3, 1) := dk_29 (dk_at dksX6_heapsOf_2 3 rfl rfl)
theorem dX6_heapsOf_51 : decode cX6_heapsOf 51 = .ok (.ireturn, 1) := dk_172 (dk_at dksX6_heapsOf_2 4 rfl rfl)
abbrev cX6_casesAt : ByteArray := prog_30_method_99_code
def yX6_casesAt : MethodName := ⟨RX6, "casesAt", "(I)I"⟩
def dkwX6_casesAt_1 : List UInt8 := [29, 182, 1, 92, 153, 0, 7, 4, 167, 0, 4, 3, 96, 61, 132, 3, 1, 167, 255, 219, 28, 172]
abbrev dktX6_casesAt_1 : List UInt8 := dkwX6_casesAt_1 ++ []
def dkwX6_casesAt_0 : List UInt8 := [3, 61, 3, 62, 29, 42, 182, 1, 77, 162, 0, 35, 28, 42, 29, 4, 182, 1, 67, 27, 160, 0, 15, 42]
abbrev dktX6_casesAt_0 : List UInt8 := dkwX6_casesAt_0 ++ dktX6_casesAt_1
theorem dksX6_casesAt_0 : cX6_casesAt.data.toList.drop 0 = dktX6_casesAt_0 := by decide +kernel
theorem dksX6_casesAt_1 : cX6_casesAt.data.toList.drop 24 = dktX6_casesAt_1 := dk_seg dksX6_casesAt_0 24 rfl rfl
theorem dX6_casesAt_0 : decode cX6_casesAt 0 = .ok (.iconst 0, 1) := dk_3 (dk_at dksX6_casesAt_0 0 rfl rfl)
theorem dX6_casesAt_1 : decode cX6_casesAt 1 = .ok (.istore_n 2, 1) := dk_61 (dk_at dksX6_casesAt_0 1 rfl rfl)
theorem dX6_casesAt_2 : decode cX6_casesAt 2 = .ok (.iconst 0, 1) := dk_3 (dk_at dksX6_casesAt_0 2 rfl rfl)
theorem dX6_casesAt_3 : decode cX6_casesAt 3 = .ok (.istore_n 3, 1) := dk_62 (dk_at dksX6_casesAt_0 3 rfl rfl)
theorem dX6_casesAt_4 : decode cX6_casesAt 4 = .ok (.iload_n 3, 1) := dk_29 (dk_at dksX6_casesAt_0 4 rfl rfl)
theorem dX6_casesAt_5 : decode cX6_casesAt 5 = .ok (.aload_n 0, 1) := dk_42 (dk_at dksX6_casesAt_0 5 rfl rfl)
theorem dX6_casesAt_6 : decode cX6_casesAt 6 = .ok (.invokevirtual 333, 3) := dk_182 1 77 (dk_at dksX6_casesAt_0 6 rfl rfl)
theorem dX6_casesAt_9 : decode cX6_casesAt 9 = .ok (.if_icmp .ge 35, 3) := dk_162 0 35 (dk_at dksX6_casesAt_0 9 rfl rfl)
theorem dX6_casesAt_12 : decode cX6_casesAt 12 = .ok (.iload_n 2, 1) := dk_28 (dk_at dksX6_casesAt_0 12 rfl rfl)
theorem dX6_casesAt_13 : decode cX6_casesAt 13 = .ok (.aload_n 0, 1) := dk_42 (dk_at dksX6_casesAt_0 13 rfl rfl)
theorem dX6_casesAt_14 : decode cX6_casesAt 14 = .ok (.iload_n 3, 1) := dk_29 (dk_at dksX6_casesAt_0 14 rfl rfl)
theorem dX6_casesAt_15 : decode cX6_casesAt 15 = .ok (.iconst 1, 1) := dk_4 (dk_at dksX6_casesAt_0 15 rfl rfl)
theorem dX6_casesAt_16 : decode cX6_casesAt 16 = .ok (.invokevirtual 323, 3) := dk_182 1 67 (dk_at dksX6_casesAt_0 16 rfl rfl)
theorem dX6_casesAt_19 : decode cX6_casesAt 19 = .ok (.iload_n 1, 1) := dk_27 (dk_at dksX6_casesAt_0 19 rfl rfl)
theorem dX6_casesAt_20 : decode cX6_casesAt 20 = .ok (.if_icmp .ne 15, 3) := dk_160 0 15 (dk_at dksX6_casesAt_0 20 rfl rfl)
theorem dX6_casesAt_23 : decode cX6_casesAt 23 = .ok (.aload_n 0, 1) := dk_42 (dk_at dksX6_casesAt_0 23 rfl rfl)
theorem dX6_casesAt_24 : decode cX6_casesAt 24 = .ok (.iload_n 3, 1) := dk_29 (dk_at dksX6_casesAt_1 0 rfl rfl)
theorem dX6_casesAt_25 : decode cX6_casesAt 25 = .ok (.invokevirtual 348, 3) := dk_182 1 92 (dk_at dksX6_casesAt_1 1 rfl rfl)
theorem dX6_casesAt_28 : decode cX6_casesAt 28 = .ok (.ifCond .eq 7, 3) := dk_153 0 7 (dk_at dksX6_casesAt_1 4 rfl rfl)
theorem dX6_casesAt_31 : decode cX6_casesAt 31 = .ok (.iconst 1, 1) := dk_4 (dk_at dksX6_casesAt_1 7 rfl rfl)
theorem dX6_casesAt_32 : decode cX6_casesAt 32 = .ok (.goto 4, 3) := dk_167 0 4 (dk_at dksX6_casesAt_1 8 rfl rfl)
theorem dX6_casesAt_35 : decode cX6_casesAt 35 = .ok (.iconst 0, 1) := dk_3 (dk_at dksX6_casesAt_1 11 rfl rfl)
theorem dX6_casesAt_36 : decode cX6_casesAt 36 = .ok (.iadd, 1) := dk_96 (dk_at dksX6_casesAt_1 12 rfl rfl)
theorem dX6_casesAt_37 : decode cX6_casesAt 37 = .ok (.istore_n 2, 1) := dk_61 (dk_at dksX6_casesAt_1 13 rfl rfl)
theorem dX6_casesAt_38 : decode cX6_casesAt 38 = .ok (.iinc 3 1, 3) := dk_132 3 1 (dk_at dksX6_casesAt_1 14 rfl rfl)
theorem dX6_casesAt_41 : decode cX6_casesAt 41 = .ok (.goto (-37), 3) := dk_167 255 219 (dk_at dksX6_casesAt_1 17 rfl rfl)
theorem dX6_casesAt_44 : decode cX6_casesAt 44 = .ok (.iload_n 2, 1) := dk_28 (dk_at dksX6_casesAt_1 20 rfl rfl)
theorem dX6_casesAt_45 : decode cX6_casesAt 45 = .ok (.ireturn, 1) := dk_172 (dk_at dksX6_casesAt_1 21 rfl rfl)
abbrev cX6_length : ByteArray := prog_30_method_102_code
def yX6_length : MethodName := ⟨RX6, "length", "(IIIZ)I"⟩
def dkwX6_length_6 : List UInt8 := [96, 4, 100, 21, 8, 108, 184, 0, 69, 54, 5, 132, 6, 1, 167, 255, 151, 21, 5, 172]
abbrev dktX6_length_6 : List UInt8 := dkwX6_length_6 ++ []
def dkwX6_length_5 : List UInt8 := [132, 8, 1, 167, 255, 223, 21, 4, 153, 0, 7, 28, 167, 0, 4, 29, 54, 8, 21, 5, 21, 7, 21, 8]
abbrev dktX6_length_5 : List UInt8 := dkwX6_length_5 ++ dktX6_length_6
def dkwX6_length_4 : List UInt8 := [162, 0, 30, 21, 7, 42, 21, 8, 182, 1, 112, 21, 6, 160, 0, 7, 4, 167, 0, 4, 3, 96, 54, 7]
abbrev dktX6_length_4 : List UInt8 := dkwX6_length_4 ++ dktX6_length_5
def dkwX6_length_3 : List UInt8 := [21, 6, 104, 96, 46, 27, 159, 0, 6, 167, 0, 74, 3, 54, 7, 3, 54, 8, 21, 8, 42, 182, 1, 77]
abbrev dktX6_length_3 : List UInt8 := dkwX6_length_3 ++ dktX6_length_4
def dkwX6_length_2 : List UInt8 := [54, 5, 3, 54, 6, 21, 6, 42, 180, 0, 13, 3, 46, 162, 0, 100, 42, 180, 0, 13, 17, 1, 13, 7]
abbrev dktX6_length_2 : List UInt8 := dkwX6_length_2 ++ dktX6_length_3
def dkwX6_length_1 : List UInt8 := [153, 0, 9, 29, 16, 9, 164, 0, 7, 4, 167, 0, 4, 3, 5, 182, 0, 80, 153, 0, 5, 3, 172, 3]
abbrev dktX6_length_1 : List UInt8 := dkwX6_length_1 ++ dktX6_length_2
def dkwX6_length_0 : List UInt8 := [42, 3, 181, 0, 3, 42, 27, 184, 1, 137, 4, 182, 0, 80, 154, 0, 31, 42, 28, 4, 29, 184, 0, 59]
abbrev dktX6_length_0 : List UInt8 := dkwX6_length_0 ++ dktX6_length_1
theorem dksX6_length_0 : cX6_length.data.toList.drop 0 = dktX6_length_0 := by decide +kernel
theorem dksX6_length_1 : cX6_length.data.toList.drop 24 = dktX6_length_1 := dk_seg dksX6_length_0 24 rfl rfl
theorem dksX6_length_2 : cX6_length.data.toList.drop 48 = dktX6_length_2 := dk_seg dksX6_length_1 24 rfl rfl
theorem dksX6_length_3 : cX6_length.data.toList.drop 72 = dktX6_length_3 := dk_seg dksX6_length_2 24 rfl rfl
theorem dksX6_length_4 : cX6_length.data.toList.drop 96 = dktX6_length_4 := dk_seg dksX6_length_3 24 rfl rfl
theorem dksX6_length_5 : cX6_length.data.toList.drop 120 = dktX6_length_5 := dk_seg dksX6_length_4 24 rfl rfl
theorem dksX6_length_6 : cX6_length.data.toList.drop 144 = dktX6_length_6 := dk_seg dksX6_length_5 24 rfl rfl
theorem dX6_length_0 : decode cX6_length 0 = .ok (.aload_n 0, 1) := dk_42 (dk_at dksX6_length_0 0 rfl rfl)
theorem dX6_length_1 : decode cX6_length 1 = .ok (.iconst 0, 1) := dk_3 (dk_at dksX6_length_0 1 rfl rfl)
theorem dX6_length_2 : decode cX6_length 2 = .ok (.putfield 3, 3) := dk_181 0 3 (dk_at dksX6_length_0 2 rfl rfl)
theorem dX6_length_5 : decode cX6_length 5 = .ok (.aload_n 0, 1) := dk_42 (dk_at dksX6_length_0 5 rfl rfl)
theorem dX6_length_6 : decode cX6_length 6 = .ok (.iload_n 1, 1) := dk_27 (dk_at dksX6_length_0 6 rfl rfl)
theorem dX6_length_7 : decode cX6_length 7 = .ok (.invokestatic 393, 3) := dk_184 1 137 (dk_at dksX6_length_0 7 rfl rfl)
theorem dX6_length_10 : decode cX6_length 10 = .ok (.iconst 1, 1) := dk_4 (dk_at dksX6_length_0 10 rfl rfl)
theorem dX6_length_11 : decode cX6_length 11 = .ok (.invokevirtual 80, 3) := dk_182 0 80 (dk_at dksX6_length_0 11 rfl rfl)
theorem dX6_length_14 : decode cX6_length 14 = .ok (.ifCond .ne 31, 3) := dk_154 0 31 (dk_at dksX6_length_0 14 rfl rfl)
theorem dX6_length_17 : decode cX6_length 17 = .ok (.aload_n 0, 1) := dk_42 (dk_at dksX6_length_0 17 rfl rfl)
theorem dX6_length_18 : decode cX6_length 18 = .ok (.iload_n 2, 1) := dk_28 (dk_at dksX6_length_0 18 rfl rfl)
theorem dX6_length_19 : decode cX6_length 19 = .ok (.iconst 1, 1) := dk_4 (dk_at dksX6_length_0 19 rfl rfl)
theorem dX6_length_20 : decode cX6_length 20 = .ok (.iload_n 3, 1) := dk_29 (dk_at dksX6_length_0 20 rfl rfl)
theorem dX6_length_21 : decode cX6_length 21 = .ok (.invokestatic 59, 3) := dk_184 0 59 (dk_at dksX6_length_0 21 rfl rfl)
theorem dX6_length_24 : decode cX6_length 24 = .ok (.ifCond .eq 9, 3) := dk_153 0 9 (dk_at dksX6_length_1 0 rfl rfl)
theorem dX6_length_27 : decode cX6_length 27 = .ok (.iload_n 3, 1) := dk_29 (dk_at dksX6_length_1 3 rfl rfl)
theorem dX6_length_28 : decode cX6_length 28 = .ok (.bipush 9, 2) := dk_16 9 (dk_at dksX6_length_1 4 rfl rfl)
theorem dX6_length_30 : decode cX6_length 30 = .ok (.if_icmp .le 7, 3) := dk_164 0 7 (dk_at dksX6_length_1 6 rfl rfl)
theorem dX6_length_33 : decode cX6_length 33 = .ok (.iconst 1, 1) := dk_4 (dk_at dksX6_length_1 9 rfl rfl)
theorem dX6_length_34 : decode cX6_length 34 = .ok (.goto 4, 3) := dk_167 0 4 (dk_at dksX6_length_1 10 rfl rfl)
theorem dX6_length_37 : decode cX6_length 37 = .ok (.iconst 0, 1) := dk_3 (dk_at dksX6_length_1 13 rfl rfl)
theorem dX6_length_38 : decode cX6_length 38 = .ok (.iconst 2, 1) := dk_5 (dk_at dksX6_length_1 14 rfl rfl)
theorem dX6_length_39 : decode cX6_length 39 = .ok (.invokevirtual 80, 3) := dk_182 0 80 (dk_at dksX6_length_1 15 rfl rfl)
theorem dX6_length_42 : decode cX6_length 42 = .ok (.ifCond .eq 5, 3) := dk_153 0 5 (dk_at dksX6_length_1 18 rfl rfl)
theorem dX6_length_45 : decode cX6_length 45 = .ok (.iconst 0, 1) := dk_3 (dk_at dksX6_length_1 21 rfl rfl)
theorem dX6_length_46 : decode cX6_length 46 = .ok (.ireturn, 1) := dk_172 (dk_at dksX6_length_1 22 rfl rfl)
theorem dX6_length_47 : decode cX6_length 47 = .ok (.iconst 0, 1) := dk_3 (dk_at dksX6_length_1 23 rfl rfl)
theorem dX6_length_48 : decode cX6_length 48 = .ok (.istore 5, 2) := dk_54 5 (dk_at dksX6_length_2 0 rfl rfl)
theorem dX6_length_50 : decode cX6_length 50 = .ok (.iconst 0, 1) := dk_3 (dk_at dksX6_length_2 2 rfl rfl)
theorem dX6_length_51 : decode cX6_length 51 = .ok (.istore 6, 2) := dk_54 6 (dk_at dksX6_length_2 3 rfl rfl)
theorem dX6_length_53 : decode cX6_length 53 = .ok (.iload 6, 2) := dk_21 6 (dk_at dksX6_length_2 5 rfl rfl)
theorem dX6_length_55 : decode cX6_length 55 = .ok (.aload_n 0, 1) := dk_42 (dk_at dksX6_length_2 7 rfl rfl)
theorem dX6_length_56 : decode cX6_length 56 = .ok (.getfield 13, 3) := dk_180 0 13 (dk_at dksX6_length_2 8 rfl rfl)
theorem dX6_length_59 : decode cX6_length 59 = .ok (.iconst 0, 1) := dk_3 (dk_at dksX6_length_2 11 rfl rfl)
theorem dX6_length_60 : decode cX6_length 60 = .ok (.iaload, 1) := dk_46 (dk_at dksX6_length_2 12 rfl rfl)
theorem dX6_length_61 : decode cX6_length 61 = .ok (.if_icmp .ge 100, 3) := dk_162 0 100 (dk_at dksX6_length_2 13 rfl rfl)
theorem dX6_length_64 : decode cX6_length 64 = .ok (.aload_n 0, 1) := dk_42 (dk_at dksX6_length_2 16 rfl rfl)
theorem dX6_length_65 : decode cX6_length 65 = .ok (.getfield 13, 3) := dk_180 0 13 (dk_at dksX6_length_2 17 rfl rfl)
theorem dX6_length_68 : decode cX6_length 68 = .ok (.sipush 269, 3) := dk_17 1 13 (dk_at dksX6_length_2 20 rfl rfl)
theorem dX6_length_71 : decode cX6_length 71 = .ok (.iconst 4, 1) := dk_7 (dk_at dksX6_length_2 23 rfl rfl)
theorem dX6_length_72 : decode cX6_length 72 = .ok (.iload 6, 2) := dk_21 6 (dk_at dksX6_length_3 0 rfl rfl)
theorem dX6_length_74 : decode cX6_length 74 = .ok (.imul, 1) := dk_104 (dk_at dksX6_length_3 2 rfl rfl)
theorem dX6_length_75 : decode cX6_length 75 = .ok (.iadd, 1) := dk_96 (dk_at dksX6_length_3 3 rfl rfl)
theorem dX6_length_76 : decode cX6_length 76 = .ok (.iaload, 1) := dk_46 (dk_at dksX6_length_3 4 rfl rfl)
theorem dX6_length_77 : decode cX6_length 77 = .ok (.iload_n 1, 1) := dk_27 (dk_at dksX6_length_3 5 rfl rfl)
theorem dX6_length_78 : decode cX6_length 78 = .ok (.if_icmp .eq 6, 3) := dk_159 0 6 (dk_at dksX6_length_3 6 rfl rfl)
theorem dX6_length_81 : decode cX6_length 81 = .ok (.goto 74, 3) := dk_167 0 74 (dk_at dksX6_length_3 9 rfl rfl)
theorem dX6_length_84 : decode cX6_length 84 = .ok (.iconst 0, 1) := dk_3 (dk_at dksX6_length_3 12 rfl rfl)
theorem dX6_length_85 : decode cX6_length 85 = .ok (.istore 7, 2) := dk_54 7 (dk_at dksX6_length_3 13 rfl rfl)
theorem dX6_length_87 : decode cX6_length 87 = .ok (.iconst 0, 1) := dk_3 (dk_at dksX6_length_3 15 rfl rfl)
theorem dX6_length_88 : decode cX6_length 88 = .ok (.istore 8, 2) := dk_54 8 (dk_at dksX6_length_3 16 rfl rfl)
theorem dX6_length_90 : decode cX6_length 90 = .ok (.iload 8, 2) := dk_21 8 (dk_at dksX6_length_3 18 rfl rfl)
theorem dX6_length_92 : decode cX6_length 92 = .ok (.aload_n 0, 1) := dk_42 (dk_at dksX6_length_3 20 rfl rfl)
theorem dX6_length_93 : decode cX6_length 93 = .ok (.invokevirtual 333, 3) := dk_182 1 77 (dk_at dksX6_length_3 21 rfl rfl)
theorem dX6_length_96 : decode cX6_length 96 = .ok (.if_icmp .ge 30, 3) := dk_162 0 30 (dk_at dksX6_length_4 0 rfl rfl)
theorem dX6_length_99 : decode cX6_length 99 = .ok (.iload 7, 2) := dk_21 7 (dk_at dksX6_length_4 3 rfl rfl)
theorem dX6_length_101 : decode cX6_length 101 = .ok (.aload_n 0, 1) := dk_42 (dk_at dksX6_length_4 5 rfl rfl)
theorem dX6_length_102 : decode cX6_length 102 = .ok (.iload 8, 2) := dk_21 8 (dk_at dksX6_length_4 6 rfl rfl)
theorem dX6_length_104 : decode cX6_length 104 = .ok (.invokevirtual 368, 3) := dk_182 1 112 (dk_at dksX6_length_4 8 rfl rfl)
theorem dX6_length_107 : decode cX6_length 107 = .ok (.iload 6, 2) := dk_21 6 (dk_at dksX6_length_4 11 rfl rfl)
theorem dX6_length_109 : decode cX6_length 109 = .ok (.if_icmp .ne 7, 3) := dk_160 0 7 (dk_at dksX6_length_4 13 rfl rfl)
theorem dX6_length_112 : decode cX6_length 112 = .ok (.iconst 1, 1) := dk_4 (dk_at dksX6_length_4 16 rfl rfl)
theorem dX6_length_113 : decode cX6_length 113 = .ok (.goto 4, 3) := dk_167 0 4 (dk_at dksX6_length_4 17 rfl rfl)
theorem dX6_length_116 : decode cX6_length 116 = .ok (.iconst 0, 1) := dk_3 (dk_at dksX6_length_4 20 rfl rfl)
theorem dX6_length_117 : decode cX6_length 117 = .ok (.iadd, 1) := dk_96 (dk_at dksX6_length_4 21 rfl rfl)
theorem dX6_length_118 : decode cX6_length 118 = .ok (.istore 7, 2) := dk_54 7 (dk_at dksX6_length_4 22 rfl rfl)
theorem dX6_length_120 : decode cX6_length 120 = .ok (.iinc 8 1, 3) := dk_132 8 1 (dk_at dksX6_length_5 0 rfl rfl)
theorem dX6_length_123 : decode cX6_length 123 = .ok (.goto (-33), 3) := dk_167 255 223 (dk_at dksX6_length_5 3 rfl rfl)
theorem dX6_length_126 : decode cX6_length 126 = .ok (.iload 4, 2) := dk_21 4 (dk_at dksX6_length_5 6 rfl rfl)
theorem dX6_length_128 : decode cX6_length 128 = .ok (.ifCond .eq 7, 3) := dk_153 0 7 (dk_at dksX6_length_5 8 rfl rfl)
theorem dX6_length_131 : decode cX6_length 131 = .ok (.iload_n 2, 1) := dk_28 (dk_at dksX6_length_5 11 rfl rfl)
theorem dX6_length_132 : decode cX6_length 132 = .ok (.goto 4, 3) := dk_167 0 4 (dk_at dksX6_length_5 12 rfl rfl)
theorem dX6_length_135 : decode cX6_length 135 = .ok (.iload_n 3, 1) := dk_29 (dk_at dksX6_length_5 15 rfl rfl)
theorem dX6_length_136 : decode cX6_length 136 = .ok (.istore 8, 2) := dk_54 8 (dk_at dksX6_length_5 16 rfl rfl)
theorem dX6_length_138 : decode cX6_length 138 = .ok (.iload 5, 2) := dk_21 5 (dk_at dksX6_length_5 18 rfl rfl)
theorem dX6_length_140 : decode cX6_length 140 = .ok (.iload 7, 2) := dk_21 7 (dk_at dksX6_length_5 20 rfl rfl)
theorem dX6_length_142 : decode cX6_length 142 = .ok (.iload 8, 2) := dk_21 8 (dk_at dksX6_length_5 22 rfl rfl)
theorem dX6_length_144 : decode cX6_length 144 = .ok (.iadd, 1) := dk_96 (dk_at dksX6_length_6 0 rfl rfl)
theorem dX6_length_145 : decode cX6_length 145 = .ok (.iconst 1, 1) := dk_4 (dk_at dksX6_length_6 1 rfl rfl)
theorem dX6_length_146 : decode cX6_length 146 = .ok (.isub, 1) := dk_100 (dk_at dksX6_length_6 2 rfl rfl)
theorem dX6_length_147 : decode cX6_length 147 = .ok (.iload 8, 2) := dk_21 8 (dk_at dksX6_length_6 3 rfl rfl)
theorem dX6_length_149 : decode cX6_length 149 = .ok (.idiv, 1) := dk_108 (dk_at dksX6_length_6 5 rfl rfl)
theorem dX6_length_150 : decode cX6_length 150 = .ok (.invokestatic 69, 3) := dk_184 0 69 (dk_at dksX6_length_6 6 rfl rfl)
theorem dX6_length_153 : decode cX6_length 153 = .ok (.istore 5, 2) := dk_54 5 (dk_at dksX6_length_6 9 rfl rfl)
theorem dX6_length_155 : decode cX6_length 155 = .ok (.iinc 6 1, 3) := dk_132 6 1 (dk_at dksX6_length_6 11 rfl rfl)
theorem dX6_length_158 : decode cX6_length 158 = .ok (.goto (-105), 3) := dk_167 255 151 (dk_at dksX6_length_6 14 rfl rfl)
theorem dX6_length_161 : decode cX6_length 161 = .ok (.iload 5, 2) := dk_21 5 (dk_at dksX6_length_6 17 rfl rfl)
theorem dX6_length_163 : decode cX6_length 163 = .ok (.ireturn, 1) := dk_172 (dk_at dksX6_length_6 19 rfl rfl)
abbrev cX6_still : ByteArray := prog_30_method_103_code
def yX6_still : MethodName := ⟨RX6, "still", "(II)I"⟩
def dkwX6_still_6 : List UInt8 := [54, 4, 132, 5, 1, 167, 255, 154, 29, 21, 4, 104, 172]
abbrev dktX6_still_6 : List UInt8 := dkwX6_still_6 ++ []
def dkwX6_still_5 : List UInt8 := [153, 0, 7, 4, 167, 0, 4, 3, 96, 54, 6, 132, 7, 1, 167, 255, 213, 21, 4, 21, 6, 184, 0, 69]
abbrev dktX6_still_5 : List UInt8 := dkwX6_still_5 ++ dktX6_still_6
def dkwX6_still_4 : List UInt8 := [162, 0, 40, 21, 6, 42, 21, 7, 4, 182, 1, 67, 21, 5, 160, 0, 16, 42, 21, 7, 182, 1, 80]
abbrev dktX6_still_4 : List UInt8 := dkwX6_still_4 ++ dktX6_still_5
def dkwX6_still_3 : List UInt8 := [154, 0, 7, 4, 167, 0, 4, 3, 96, 62, 3, 54, 6, 3, 54, 7, 21, 7, 42, 182, 1, 77]
abbrev dktX6_still_3 : List UInt8 := dkwX6_still_3 ++ dktX6_still_4
def dkwX6_still_2 : List UInt8 := [162, 0, 100, 29, 21, 5, 27, 28, 184, 0, 84, 153, 0, 19, 42, 21, 5, 16, 16, 108, 182, 1, 70]
abbrev dktX6_still_2 : List UInt8 := dkwX6_still_2 ++ dktX6_still_3
def dkwX6_still_1 : List UInt8 := [3, 4, 182, 0, 80, 153, 0, 5, 3, 172, 3, 62, 3, 54, 4, 3, 54, 5, 21, 5, 17, 1, 0]
abbrev dktX6_still_1 : List UInt8 := dkwX6_still_1 ++ dktX6_still_2
def dkwX6_still_0 : List UInt8 := [42, 3, 181, 0, 3, 42, 27, 184, 0, 76, 154, 0, 10, 28, 184, 0, 76, 153, 0, 7, 4, 167, 0, 4]
abbrev dktX6_still_0 : List UInt8 := dkwX6_still_0 ++ dktX6_still_1
theorem dksX6_still_0 : cX6_still.data.toList.drop 0 = dktX6_still_0 := by decide +kernel
theorem dksX6_still_1 : cX6_still.data.toList.drop 24 = dktX6_still_1 := dk_seg dksX6_still_0 24 rfl rfl
theorem dksX6_still_2 : cX6_still.data.toList.drop 47 = dktX6_still_2 := dk_seg dksX6_still_1 23 rfl rfl
theorem dksX6_still_3 : cX6_still.data.toList.drop 70 = dktX6_still_3 := dk_seg dksX6_still_2 23 rfl rfl
theorem dksX6_still_4 : cX6_still.data.toList.drop 92 = dktX6_still_4 := dk_seg dksX6_still_3 22 rfl rfl
theorem dksX6_still_5 : cX6_still.data.toList.drop 115 = dktX6_still_5 := dk_seg dksX6_still_4 23 rfl rfl
theorem dksX6_still_6 : cX6_still.data.toList.drop 139 = dktX6_still_6 := dk_seg dksX6_still_5 24 rfl rfl
theorem dX6_still_0 : decode cX6_still 0 = .ok (.aload_n 0, 1) := dk_42 (dk_at dksX6_still_0 0 rfl rfl)
theorem dX6_still_1 : decode cX6_still 1 = .ok (.iconst 0, 1) := dk_3 (dk_at dksX6_still_0 1 rfl rfl)
theorem dX6_still_2 : decode cX6_still 2 = .ok (.putfield 3, 3) := dk_181 0 3 (dk_at dksX6_still_0 2 rfl rfl)
theorem dX6_still_5 : decode cX6_still 5 = .ok (.aload_n 0, 1) := dk_42 (dk_at dksX6_still_0 5 rfl rfl)
theorem dX6_still_6 : decode cX6_still 6 = .ok (.iload_n 1, 1) := dk_27 (dk_at dksX6_still_0 6 rfl rfl)
theorem dX6_still_7 : decode cX6_still 7 = .ok (.invokestatic 76, 3) := dk_184 0 76 (dk_at dksX6_still_0 7 rfl rfl)
theorem dX6_still_10 : decode cX6_still 10 = .ok (.ifCond .ne 10, 3) := dk_154 0 10 (dk_at dksX6_still_0 10 rfl rfl)
theorem dX6_still_13 : decode cX6_still 13 = .ok (.iload_n 2, 1) := dk_28 (dk_at dksX6_still_0 13 rfl rfl)
theorem dX6_still_14 : decode cX6_still 14 = .ok (.invokestatic 76, 3) := dk_184 0 76 (dk_at dksX6_still_0 14 rfl rfl)
theorem dX6_still_17 : decode cX6_still 17 = .ok (.ifCond .eq 7, 3) := dk_153 0 7 (dk_at dksX6_still_0 17 rfl rfl)
theorem dX6_still_20 : decode cX6_still 20 = .ok (.iconst 1, 1) := dk_4 (dk_at dksX6_still_0 20 rfl rfl)
theorem dX6_still_21 : decode cX6_still 21 = .ok (.goto 4, 3) := dk_167 0 4 (dk_at dksX6_still_0 21 rfl rfl)
theorem dX6_still_24 : decode cX6_still 24 = .ok (.iconst 0, 1) := dk_3 (dk_at dksX6_still_1 0 rfl rfl)
theorem dX6_still_25 : decode cX6_still 25 = .ok (.iconst 1, 1) := dk_4 (dk_at dksX6_still_1 1 rfl rfl)
theorem dX6_still_26 : decode cX6_still 26 = .ok (.invokevirtual 80, 3) := dk_182 0 80 (dk_at dksX6_still_1 2 rfl rfl)
theorem dX6_still_29 : decode cX6_still 29 = .ok (.ifCond .eq 5, 3) := dk_153 0 5 (dk_at dksX6_still_1 5 rfl rfl)
theorem dX6_still_32 : decode cX6_still 32 = .ok (.iconst 0, 1) := dk_3 (dk_at dksX6_still_1 8 rfl rfl)
theorem dX6_still_33 : decode cX6_still 33 = .ok (.ireturn, 1) := dk_172 (dk_at dksX6_still_1 9 rfl rfl)
theorem dX6_still_34 : decode cX6_still 34 = .ok (.iconst 0, 1) := dk_3 (dk_at dksX6_still_1 10 rfl rfl)
theorem dX6_still_35 : decode cX6_still 35 = .ok (.istore_n 3, 1) := dk_62 (dk_at dksX6_still_1 11 rfl rfl)
theorem dX6_still_36 : decode cX6_still 36 = .ok (.iconst 0, 1) := dk_3 (dk_at dksX6_still_1 12 rfl rfl)
theorem dX6_still_37 : decode cX6_still 37 = .ok (.istore 4, 2) := dk_54 4 (dk_at dksX6_still_1 13 rfl rfl)
theorem dX6_still_39 : decode cX6_still 39 = .ok (.iconst 0, 1) := dk_3 (dk_at dksX6_still_1 15 rfl rfl)
theorem dX6_still_40 : decode cX6_still 40 = .ok (.istore 5, 2) := dk_54 5 (dk_at dksX6_still_1 16 rfl rfl)
theorem dX6_still_42 : decode cX6_still 42 = .ok (.iload 5, 2) := dk_21 5 (dk_at dksX6_still_1 18 rfl rfl)
theorem dX6_still_44 : decode cX6_still 44 = .ok (.sipush 256, 3) := dk_17 1 0 (dk_at dksX6_still_1 20 rfl rfl)
theorem dX6_still_47 : decode cX6_still 47 = .ok (.if_icmp .ge 100, 3) := dk_162 0 100 (dk_at dksX6_still_2 0 rfl rfl)
theorem dX6_still_50 : decode cX6_still 50 = .ok (.iload_n 3, 1) := dk_29 (dk_at dksX6_still_2 3 rfl rfl)
theorem dX6_still_51 : decode cX6_still 51 = .ok (.iload 5, 2) := dk_21 5 (dk_at dksX6_still_2 4 rfl rfl)
theorem dX6_still_53 : decode cX6_still 53 = .ok (.iload_n 1, 1) := dk_27 (dk_at dksX6_still_2 6 rfl rfl)
theorem dX6_still_54 : decode cX6_still 54 = .ok (.iload_n 2, 1) := dk_28 (dk_at dksX6_still_2 7 rfl rfl)
theorem dX6_still_55 : decode cX6_still 55 = .ok (.invokestatic 84, 3) := dk_184 0 84 (dk_at dksX6_still_2 8 rfl rfl)
theorem dX6_still_58 : decode cX6_still 58 = .ok (.ifCond .eq 19, 3) := dk_153 0 19 (dk_at dksX6_still_2 11 rfl rfl)
theorem dX6_still_61 : decode cX6_still 61 = .ok (.aload_n 0, 1) := dk_42 (dk_at dksX6_still_2 14 rfl rfl)
theorem dX6_still_62 : decode cX6_still 62 = .ok (.iload 5, 2) := dk_21 5 (dk_at dksX6_still_2 15 rfl rfl)
theorem dX6_still_64 : decode cX6_still 64 = .ok (.bipush 16, 2) := dk_16 16 (dk_at dksX6_still_2 17 rfl rfl)
theorem dX6_still_66 : decode cX6_still 66 = .ok (.idiv, 1) := dk_108 (dk_at dksX6_still_2 19 rfl rfl)
theorem dX6_still_67 : decode cX6_still 67 = .ok (.invokevirtual 326, 3) := dk_182 1 70 (dk_at dksX6_still_2 20 rfl rfl)
theorem dX6_still_70 : decode cX6_still 70 = .ok (.ifCond .ne 7, 3) := dk_154 0 7 (dk_at dksX6_still_3 0 rfl rfl)
theorem dX6_still_73 : decode cX6_still 73 = .ok (.iconst 1, 1) := dk_4 (dk_at dksX6_still_3 3 rfl rfl)
theorem dX6_still_74 : decode cX6_still 74 = .ok (.goto 4, 3) := dk_167 0 4 (dk_at dksX6_still_3 4 rfl rfl)
theorem dX6_still_77 : decode cX6_still 77 = .ok (.iconst 0, 1) := dk_3 (dk_at dksX6_still_3 7 rfl rfl)
theorem dX6_still_78 : decode cX6_still 78 = .ok (.iadd, 1) := dk_96 (dk_at dksX6_still_3 8 rfl rfl)
theorem dX6_still_79 : decode cX6_still 79 = .ok (.istore_n 3, 1) := dk_62 (dk_at dksX6_still_3 9 rfl rfl)
theorem dX6_still_80 : decode cX6_still 80 = .ok (.iconst 0, 1) := dk_3 (dk_at dksX6_still_3 10 rfl rfl)
theorem dX6_still_81 : decode cX6_still 81 = .ok (.istore 6, 2) := dk_54 6 (dk_at dksX6_still_3 11 rfl rfl)
theorem dX6_still_83 : decode cX6_still 83 = .ok (.iconst 0, 1) := dk_3 (dk_at dksX6_still_3 13 rfl rfl)
theorem dX6_still_84 : decode cX6_still 84 = .ok (.istore 7, 2) := dk_54 7 (dk_at dksX6_still_3 14 rfl rfl)
theorem dX6_still_86 : decode cX6_still 86 = .ok (.iload 7, 2) := dk_21 7 (dk_at dksX6_still_3 16 rfl rfl)
theorem dX6_still_88 : decode cX6_still 88 = .ok (.aload_n 0, 1) := dk_42 (dk_at dksX6_still_3 18 rfl rfl)
theorem dX6_still_89 : decode cX6_still 89 = .ok (.invokevirtual 333, 3) := dk_182 1 77 (dk_at dksX6_still_3 19 rfl rfl)
theorem dX6_still_92 : decode cX6_still 92 = .ok (.if_icmp .ge 40, 3) := dk_162 0 40 (dk_at dksX6_still_4 0 rfl rfl)
theorem dX6_still_95 : decode cX6_still 95 = .ok (.iload 6, 2) := dk_21 6 (dk_at dksX6_still_4 3 rfl rfl)
theorem dX6_still_97 : decode cX6_still 97 = .ok (.aload_n 0, 1) := dk_42 (dk_at dksX6_still_4 5 rfl rfl)
theorem dX6_still_98 : decode cX6_still 98 = .ok (.iload 7, 2) := dk_21 7 (dk_at dksX6_still_4 6 rfl rfl)
theorem dX6_still_100 : decode cX6_still 100 = .ok (.iconst 1, 1) := dk_4 (dk_at dksX6_still_4 8 rfl rfl)
theorem dX6_still_101 : decode cX6_still 101 = .ok (.invokevirtual 323, 3) := dk_182 1 67 (dk_at dksX6_still_4 9 rfl rfl)
theorem dX6_still_104 : decode cX6_still 104 = .ok (.iload 5, 2) := dk_21 5 (dk_at dksX6_still_4 12 rfl rfl)
theorem dX6_still_106 : decode cX6_still 106 = .ok (.if_icmp .ne 16, 3) := dk_160 0 16 (dk_at dksX6_still_4 14 rfl rfl)
theorem dX6_still_109 : decode cX6_still 109 = .ok (.aload_n 0, 1) := dk_42 (dk_at dksX6_still_4 17 rfl rfl)
theorem dX6_still_110 : decode cX6_still 110 = .ok (.iload 7, 2) := dk_21 7 (dk_at dksX6_still_4 18 rfl rfl)
theorem dX6_still_112 : decode cX6_still 112 = .ok (.invokevirtual 336, 3) := dk_182 1 80 (dk_at dksX6_still_4 20 rfl rfl)
theorem dX6_still_115 : decode cX6_still 115 = .ok (.ifCond .eq 7, 3) := dk_153 0 7 (dk_at dksX6_still_5 0 rfl rfl)
theorem dX6_still_118 : decode cX6_still 118 = .ok (.iconst 1, 1) := dk_4 (dk_at dksX6_still_5 3 rfl rfl)
theorem dX6_still_119 : decode cX6_still 119 = .ok (.goto 4, 3) := dk_167 0 4 (dk_at dksX6_still_5 4 rfl rfl)
theorem dX6_still_122 : decode cX6_still 122 = .ok (.iconst 0, 1) := dk_3 (dk_at dksX6_still_5 7 rfl rfl)
theorem dX6_still_123 : decode cX6_still 123 = .ok (.iadd, 1) := dk_96 (dk_at dksX6_still_5 8 rfl rfl)
theorem dX6_still_124 : decode cX6_still 124 = .ok (.istore 6, 2) := dk_54 6 (dk_at dksX6_still_5 9 rfl rfl)
theorem dX6_still_126 : decode cX6_still 126 = .ok (.iinc 7 1, 3) := dk_132 7 1 (dk_at dksX6_still_5 11 rfl rfl)
theorem dX6_still_129 : decode cX6_still 129 = .ok (.goto (-43), 3) := dk_167 255 213 (dk_at dksX6_still_5 14 rfl rfl)
theorem dX6_still_132 : decode cX6_still 132 = .ok (.iload 4, 2) := dk_21 4 (dk_at dksX6_still_5 17 rfl rfl)
theorem dX6_still_134 : decode cX6_still 134 = .ok (.iload 6, 2) := dk_21 6 (dk_at dksX6_still_5 19 rfl rfl)
theorem dX6_still_136 : decode cX6_still 136 = .ok (.invokestatic 69, 3) := dk_184 0 69 (dk_at dksX6_still_5 21 rfl rfl)
theorem dX6_still_139 : decode cX6_still 139 = .ok (.istore 4, 2) := dk_54 4 (dk_at dksX6_still_6 0 rfl rfl)
theorem dX6_still_141 : decode cX6_still 141 = .ok (.iinc 5 1, 3) := dk_132 5 1 (dk_at dksX6_still_6 2 rfl rfl)
theorem dX6_still_144 : decode cX6_still 144 = .ok (.goto (-102), 3) := dk_167 255 154 (dk_at dksX6_still_6 5 rfl rfl)
theorem dX6_still_147 : decode cX6_still 147 = .ok (.iload_n 3, 1) := dk_29 (dk_at dksX6_still_6 8 rfl rfl)
theorem dX6_still_148 : decode cX6_still 148 = .ok (.iload 4, 2) := dk_21 4 (dk_at dksX6_still_6 9 rfl rfl)
theorem dX6_still_150 : decode cX6_still 150 = .ok (.imul, 1) := dk_104 (dk_at dksX6_still_6 11 rfl rfl)
theorem dX6_still_151 : decode cX6_still 151 = .ok (.ireturn, 1) := dk_172 (dk_at dksX6_still_6 12 rfl rfl)
abbrev cX6_teller : ByteArray := prog_30_method_106_code
def yX6_teller : MethodName := ⟨RX6, "teller", "(IIII)I"⟩
def dkwX6_teller_6 : List UInt8 := [7, 92, 46, 4, 96, 79, 42, 180, 0, 13, 7, 46, 4, 100, 172]
abbrev dktX6_teller_6 : List UInt8 := dkwX6_teller_6 ++ []
def dkwX6_teller_5 : List UInt8 := [180, 0, 13, 21, 5, 5, 96, 29, 79, 42, 180, 0, 13, 21, 5, 6, 96, 21, 4, 79, 42, 180, 0, 13]
abbrev dktX6_teller_5 : List UInt8 := dkwX6_teller_5 ++ dktX6_teller_6
def dkwX6_teller_4 : List UInt8 := [96, 54, 5, 42, 180, 0, 13, 21, 5, 27, 79, 42, 180, 0, 13, 21, 5, 4, 96, 28, 79, 42]
abbrev dktX6_teller_4 : List UInt8 := dkwX6_teller_4 ++ dktX6_teller_5
def dkwX6_teller_3 : List UInt8 := [167, 0, 4, 3, 6, 182, 0, 80, 153, 0, 5, 3, 172, 17, 4, 45, 7, 42, 180, 0, 13, 7, 46, 104]
abbrev dktX6_teller_3 : List UInt8 := dkwX6_teller_3 ++ dktX6_teller_4
def dkwX6_teller_2 : List UInt8 := [167, 0, 4, 3, 5, 182, 0, 80, 154, 0, 27, 42, 42, 180, 0, 13, 7, 46, 16, 8, 160, 0, 7, 4]
abbrev dktX6_teller_2 : List UInt8 := dkwX6_teller_2 ++ dktX6_teller_3
def dkwX6_teller_1 : List UInt8 := [153, 0, 21, 29, 17, 0, 239, 163, 0, 14, 21, 4, 3, 16, 9, 184, 0, 59, 154, 0, 7, 4]
abbrev dktX6_teller_1 : List UInt8 := dkwX6_teller_1 ++ dktX6_teller_2
def dkwX6_teller_0 : List UInt8 := [42, 3, 181, 0, 3, 42, 27, 184, 0, 76, 4, 182, 0, 80, 154, 0, 67, 42, 28, 3, 29, 184, 0, 59]
abbrev dktX6_teller_0 : List UInt8 := dkwX6_teller_0 ++ dktX6_teller_1
theorem dksX6_teller_0 : cX6_teller.data.toList.drop 0 = dktX6_teller_0 := by decide +kernel
theorem dksX6_teller_1 : cX6_teller.data.toList.drop 24 = dktX6_teller_1 := dk_seg dksX6_teller_0 24 rfl rfl
theorem dksX6_teller_2 : cX6_teller.data.toList.drop 46 = dktX6_teller_2 := dk_seg dksX6_teller_1 22 rfl rfl
theorem dksX6_teller_3 : cX6_teller.data.toList.drop 70 = dktX6_teller_3 := dk_seg dksX6_teller_2 24 rfl rfl
theorem dksX6_teller_4 : cX6_teller.data.toList.drop 94 = dktX6_teller_4 := dk_seg dksX6_teller_3 24 rfl rfl
theorem dksX6_teller_5 : cX6_teller.data.toList.drop 116 = dktX6_teller_5 := dk_seg dksX6_teller_4 22 rfl rfl
theorem dksX6_teller_6 : cX6_teller.data.toList.drop 140 = dktX6_teller_6 := dk_seg dksX6_teller_5 24 rfl rfl
theorem dX6_teller_0 : decode cX6_teller 0 = .ok (.aload_n 0, 1) := dk_42 (dk_at dksX6_teller_0 0 rfl rfl)
theorem dX6_teller_1 : decode cX6_teller 1 = .ok (.iconst 0, 1) := dk_3 (dk_at dksX6_teller_0 1 rfl rfl)
theorem dX6_teller_2 : decode cX6_teller 2 = .ok (.putfield 3, 3) := dk_181 0 3 (dk_at dksX6_teller_0 2 rfl rfl)
theorem dX6_teller_5 : decode cX6_teller 5 = .ok (.aload_n 0, 1) := dk_42 (dk_at dksX6_teller_0 5 rfl rfl)
theorem dX6_teller_6 : decode cX6_teller 6 = .ok (.iload_n 1, 1) := dk_27 (dk_at dksX6_teller_0 6 rfl rfl)
theorem dX6_teller_7 : decode cX6_teller 7 = .ok (.invokestatic 76, 3) := dk_184 0 76 (dk_at dksX6_teller_0 7 rfl rfl)
theorem dX6_teller_10 : decode cX6_teller 10 = .ok (.iconst 1, 1) := dk_4 (dk_at dksX6_teller_0 10 rfl rfl)
theorem dX6_teller_11 : decode cX6_teller 11 = .ok (.invokevirtual 80, 3) := dk_182 0 80 (dk_at dksX6_teller_0 11 rfl rfl)
theorem dX6_teller_14 : decode cX6_teller 14 = .ok (.ifCond .ne 67, 3) := dk_154 0 67 (dk_at dksX6_teller_0 14 rfl rfl)
theorem dX6_teller_17 : decode cX6_teller 17 = .ok (.aload_n 0, 1) := dk_42 (dk_at dksX6_teller_0 17 rfl rfl)
theorem dX6_teller_18 : decode cX6_teller 18 = .ok (.iload_n 2, 1) := dk_28 (dk_at dksX6_teller_0 18 rfl rfl)
theorem dX6_teller_19 : decode cX6_teller 19 = .ok (.iconst 0, 1) := dk_3 (dk_at dksX6_teller_0 19 rfl rfl)
theorem dX6_teller_20 : decode cX6_teller 20 = .ok (.iload_n 3, 1) := dk_29 (dk_at dksX6_teller_0 20 rfl rfl)
theorem dX6_teller_21 : decode cX6_teller 21 = .ok (.invokestatic 59, 3) := dk_184 0 59 (dk_at dksX6_teller_0 21 rfl rfl)
theorem dX6_teller_24 : decode cX6_teller 24 = .ok (.ifCond .eq 21, 3) := dk_153 0 21 (dk_at dksX6_teller_1 0 rfl rfl)
theorem dX6_teller_27 : decode cX6_teller 27 = .ok (.iload_n 3, 1) := dk_29 (dk_at dksX6_teller_1 3 rfl rfl)
theorem dX6_teller_28 : decode cX6_teller 28 = .ok (.sipush 239, 3) := dk_17 0 239 (dk_at dksX6_teller_1 4 rfl rfl)
theorem dX6_teller_31 : decode cX6_teller 31 = .ok (.if_icmp .gt 14, 3) := dk_163 0 14 (dk_at dksX6_teller_1 7 rfl rfl)
theorem dX6_teller_34 : decode cX6_teller 34 = .ok (.iload 4, 2) := dk_21 4 (dk_at dksX6_teller_1 10 rfl rfl)
theorem dX6_teller_36 : decode cX6_teller 36 = .ok (.iconst 0, 1) := dk_3 (dk_at dksX6_teller_1 12 rfl rfl)
theorem dX6_teller_37 : decode cX6_teller 37 = .ok (.bipush 9, 2) := dk_16 9 (dk_at dksX6_teller_1 13 rfl rfl)
theorem dX6_teller_39 : decode cX6_teller 39 = .ok (.invokestatic 59, 3) := dk_184 0 59 (dk_at dksX6_teller_1 15 rfl rfl)
theorem dX6_teller_42 : decode cX6_teller 42 = .ok (.ifCond .ne 7, 3) := dk_154 0 7 (dk_at dksX6_teller_1 18 rfl rfl)
theorem dX6_teller_45 : decode cX6_teller 45 = .ok (.iconst 1, 1) := dk_4 (dk_at dksX6_teller_1 21 rfl rfl)
theorem dX6_teller_46 : decode cX6_teller 46 = .ok (.goto 4, 3) := dk_167 0 4 (dk_at dksX6_teller_2 0 rfl rfl)
theorem dX6_teller_49 : decode cX6_teller 49 = .ok (.iconst 0, 1) := dk_3 (dk_at dksX6_teller_2 3 rfl rfl)
theorem dX6_teller_50 : decode cX6_teller 50 = .ok (.iconst 2, 1) := dk_5 (dk_at dksX6_teller_2 4 rfl rfl)
theorem dX6_teller_51 : decode cX6_teller 51 = .ok (.invokevirtual 80, 3) := dk_182 0 80 (dk_at dksX6_teller_2 5 rfl rfl)
theorem dX6_teller_54 : decode cX6_teller 54 = .ok (.ifCond .ne 27, 3) := dk_154 0 27 (dk_at dksX6_teller_2 8 rfl rfl)
theorem dX6_teller_57 : decode cX6_teller 57 = .ok (.aload_n 0, 1) := dk_42 (dk_at dksX6_teller_2 11 rfl rfl)
theorem dX6_teller_58 : decode cX6_teller 58 = .ok (.aload_n 0, 1) := dk_42 (dk_at dksX6_teller_2 12 rfl rfl)
theorem dX6_teller_59 : decode cX6_teller 59 = .ok (.getfield 13, 3) := dk_180 0 13 (dk_at dksX6_teller_2 13 rfl rfl)
theorem dX6_teller_62 : decode cX6_teller 62 = .ok (.iconst 4, 1) := dk_7 (dk_at dksX6_teller_2 16 rfl rfl)
theorem dX6_teller_63 : decode cX6_teller 63 = .ok (.iaload, 1) := dk_46 (dk_at dksX6_teller_2 17 rfl rfl)
theorem dX6_teller_64 : decode cX6_teller 64 = .ok (.bipush 8, 2) := dk_16 8 (dk_at dksX6_teller_2 18 rfl rfl)
theorem dX6_teller_66 : decode cX6_teller 66 = .ok (.if_icmp .ne 7, 3) := dk_160 0 7 (dk_at dksX6_teller_2 20 rfl rfl)
theorem dX6_teller_69 : decode cX6_teller 69 = .ok (.iconst 1, 1) := dk_4 (dk_at dksX6_teller_2 23 rfl rfl)
theorem dX6_teller_70 : decode cX6_teller 70 = .ok (.goto 4, 3) := dk_167 0 4 (dk_at dksX6_teller_3 0 rfl rfl)
theorem dX6_teller_73 : decode cX6_teller 73 = .ok (.iconst 0, 1) := dk_3 (dk_at dksX6_teller_3 3 rfl rfl)
theorem dX6_teller_74 : decode cX6_teller 74 = .ok (.iconst 3, 1) := dk_6 (dk_at dksX6_teller_3 4 rfl rfl)
theorem dX6_teller_75 : decode cX6_teller 75 = .ok (.invokevirtual 80, 3) := dk_182 0 80 (dk_at dksX6_teller_3 5 rfl rfl)
theorem dX6_teller_78 : decode cX6_teller 78 = .ok (.ifCond .eq 5, 3) := dk_153 0 5 (dk_at dksX6_teller_3 8 rfl rfl)
theorem dX6_teller_81 : decode cX6_teller 81 = .ok (.iconst 0, 1) := dk_3 (dk_at dksX6_teller_3 11 rfl rfl)
theorem dX6_teller_82 : decode cX6_teller 82 = .ok (.ireturn, 1) := dk_172 (dk_at dksX6_teller_3 12 rfl rfl)
theorem dX6_teller_83 : decode cX6_teller 83 = .ok (.sipush 1069, 3) := dk_17 4 45 (dk_at dksX6_teller_3 13 rfl rfl)
theorem dX6_teller_86 : decode cX6_teller 86 = .ok (.iconst 4, 1) := dk_7 (dk_at dksX6_teller_3 16 rfl rfl)
theorem dX6_teller_87 : decode cX6_teller 87 = .ok (.aload_n 0, 1) := dk_42 (dk_at dksX6_teller_3 17 rfl rfl)
theorem dX6_teller_88 : decode cX6_teller 88 = .ok (.getfield 13, 3) := dk_180 0 13 (dk_at dksX6_teller_3 18 rfl rfl)
theorem dX6_teller_91 : decode cX6_teller 91 = .ok (.iconst 4, 1) := dk_7 (dk_at dksX6_teller_3 21 rfl rfl)
theorem dX6_teller_92 : decode cX6_teller 92 = .ok (.iaload, 1) := dk_46 (dk_at dksX6_teller_3 22 rfl rfl)
theorem dX6_teller_93 : decode cX6_teller 93 = .ok (.imul, 1) := dk_104 (dk_at dksX6_teller_3 23 rfl rfl)
theorem dX6_teller_94 : decode cX6_teller 94 = .ok (.iadd, 1) := dk_96 (dk_at dksX6_teller_4 0 rfl rfl)
theorem dX6_teller_95 : decode cX6_teller 95 = .ok (.istore 5, 2) := dk_54 5 (dk_at dksX6_teller_4 1 rfl rfl)
theorem dX6_teller_97 : decode cX6_teller 97 = .ok (.aload_n 0, 1) := dk_42 (dk_at dksX6_teller_4 3 rfl rfl)
theorem dX6_teller_98 : decode cX6_teller 98 = .ok (.getfield 13, 3) := dk_180 0 13 (dk_at dksX6_teller_4 4 rfl rfl)
theorem dX6_teller_101 : decode cX6_teller 101 = .ok (.iload 5, 2) := dk_21 5 (dk_at dksX6_teller_4 7 rfl rfl)
theorem dX6_teller_103 : decode cX6_teller 103 = .ok (.iload_n 1, 1) := dk_27 (dk_at dksX6_teller_4 9 rfl rfl)
theorem dX6_teller_104 : decode cX6_teller 104 = .ok (.iastore, 1) := dk_79 (dk_at dksX6_teller_4 10 rfl rfl)
theorem dX6_teller_105 : decode cX6_teller 105 = .ok (.aload_n 0, 1) := dk_42 (dk_at dksX6_teller_4 11 rfl rfl)
theorem dX6_teller_106 : decode cX6_teller 106 = .ok (.getfield 13, 3) := dk_180 0 13 (dk_at dksX6_teller_4 12 rfl rfl)
theorem dX6_teller_109 : decode cX6_teller 109 = .ok (.iload 5, 2) := dk_21 5 (dk_at dksX6_teller_4 15 rfl rfl)
theorem dX6_teller_111 : decode cX6_teller 111 = .ok (.iconst 1, 1) := dk_4 (dk_at dksX6_teller_4 17 rfl rfl)
theorem dX6_teller_112 : decode cX6_teller 112 = .ok (.iadd, 1) := dk_96 (dk_at dksX6_teller_4 18 rfl rfl)
theorem dX6_teller_113 : decode cX6_teller 113 = .ok (.iload_n 2, 1) := dk_28 (dk_at dksX6_teller_4 19 rfl rfl)
theorem dX6_teller_114 : decode cX6_teller 114 = .ok (.iastore, 1) := dk_79 (dk_at dksX6_teller_4 20 rfl rfl)
theorem dX6_teller_115 : decode cX6_teller 115 = .ok (.aload_n 0, 1) := dk_42 (dk_at dksX6_teller_4 21 rfl rfl)
theorem dX6_teller_116 : decode cX6_teller 116 = .ok (.getfield 13, 3) := dk_180 0 13 (dk_at dksX6_teller_5 0 rfl rfl)
theorem dX6_teller_119 : decode cX6_teller 119 = .ok (.iload 5, 2) := dk_21 5 (dk_at dksX6_teller_5 3 rfl rfl)
theorem dX6_teller_121 : decode cX6_teller 121 = .ok (.iconst 2, 1) := dk_5 (dk_at dksX6_teller_5 5 rfl rfl)
theorem dX6_teller_122 : decode cX6_teller 122 = .ok (.iadd, 1) := dk_96 (dk_at dksX6_teller_5 6 rfl rfl)
theorem dX6_teller_123 : decode cX6_teller 123 = .ok (.iload_n 3, 1) := dk_29 (dk_at dksX6_teller_5 7 rfl rfl)
theorem dX6_teller_124 : decode cX6_teller 124 = .ok (.iastore, 1) := dk_79 (dk_at dksX6_teller_5 8 rfl rfl)
theorem dX6_teller_125 : decode cX6_teller 125 = .ok (.aload_n 0, 1) := dk_42 (dk_at dksX6_teller_5 9 rfl rfl)
theorem dX6_teller_126 : decode cX6_teller 126 = .ok (.getfield 13, 3) := dk_180 0 13 (dk_at dksX6_teller_5 10 rfl rfl)
theorem dX6_teller_129 : decode cX6_teller 129 = .ok (.iload 5, 2) := dk_21 5 (dk_at dksX6_teller_5 13 rfl rfl)
theorem dX6_teller_131 : decode cX6_teller 131 = .ok (.iconst 3, 1) := dk_6 (dk_at dksX6_teller_5 15 rfl rfl)
theorem dX6_teller_132 : decode cX6_teller 132 = .ok (.iadd, 1) := dk_96 (dk_at dksX6_teller_5 16 rfl rfl)
theorem dX6_teller_133 : decode cX6_teller 133 = .ok (.iload 4, 2) := dk_21 4 (dk_at dksX6_teller_5 17 rfl rfl)
theorem dX6_teller_135 : decode cX6_teller 135 = .ok (.iastore, 1) := dk_79 (dk_at dksX6_teller_5 19 rfl rfl)
theorem dX6_teller_136 : decode cX6_teller 136 = .ok (.aload_n 0, 1) := dk_42 (dk_at dksX6_teller_5 20 rfl rfl)
theorem dX6_teller_137 : decode cX6_teller 137 = .ok (.getfield 13, 3) := dk_180 0 13 (dk_at dksX6_teller_5 21 rfl rfl)
theorem dX6_teller_140 : decode cX6_teller 140 = .ok (.iconst 4, 1) := dk_7 (dk_at dksX6_teller_6 0 rfl rfl)
theorem dX6_teller_141 : decode cX6_teller 141 = .ok (.dup2, 1) := dk_92 (dk_at dksX6_teller_6 1 rfl rfl)
theorem dX6_teller_142 : decode cX6_teller 142 = .ok (.iaload, 1) := dk_46 (dk_at dksX6_teller_6 2 rfl rfl)
theorem dX6_teller_143 : decode cX6_teller 143 = .ok (.iconst 1, 1) := dk_4 (dk_at dksX6_teller_6 3 rfl rfl)
theorem dX6_teller_144 : decode cX6_teller 144 = .ok (.iadd, 1) := dk_96 (dk_at dksX6_teller_6 4 rfl rfl)
theorem dX6_teller_145 : decode cX6_teller 145 = .ok (.iastore, 1) := dk_79 (dk_at dksX6_teller_6 5 rfl rfl)
theorem dX6_teller_146 : decode cX6_teller 146 = .ok (.aload_n 0, 1) := dk_42 (dk_at dksX6_teller_6 6 rfl rfl)
theorem dX6_teller_147 : decode cX6_teller 147 = .ok (.getfield 13, 3) := dk_180 0 13 (dk_at dksX6_teller_6 7 rfl rfl)
theorem dX6_teller_150 : decode cX6_teller 150 = .ok (.iconst 4, 1) := dk_7 (dk_at dksX6_teller_6 10 rfl rfl)
theorem dX6_teller_151 : decode cX6_teller 151 = .ok (.iaload, 1) := dk_46 (dk_at dksX6_teller_6 11 rfl rfl)
theorem dX6_teller_152 : decode cX6_teller 152 = .ok (.iconst 1, 1) := dk_4 (dk_at dksX6_teller_6 12 rfl rfl)
theorem dX6_teller_153 : decode cX6_teller 153 = .ok (.isub, 1) := dk_100 (dk_at dksX6_teller_6 13 rfl rfl)
theorem dX6_teller_154 : decode cX6_teller 154 = .ok (.ireturn, 1) := dk_172 (dk_at dksX6_teller_6 14 rfl rfl)
abbrev cX6_tells : ByteArray := prog_30_method_107_code
def yX6_tells : MethodName := ⟨RX6, "tells", "(III)I"⟩
def dkwX6_tells_6 : List UInt8 := [46, 4, 100, 172]
abbrev dktX6_tells_6 : List UInt8 := dkwX6_tells_6 ++ []
def dkwX6_tells_5 : List UInt8 := [180, 0, 13, 21, 4, 5, 96, 29, 79, 42, 180, 0, 13, 8, 92, 46, 4, 96, 79, 42, 180, 0, 13, 8]
abbrev dktX6_tells_5 : List UInt8 := dkwX6_tells_5 ++ dktX6_tells_6
def dkwX6_tells_4 : List UInt8 := [96, 54, 4, 42, 180, 0, 13, 21, 4, 27, 79, 42, 180, 0, 13, 21, 4, 4, 96, 28, 79, 42]
abbrev dktX6_tells_4 : List UInt8 := dkwX6_tells_4 ++ dktX6_tells_5
def dkwX6_tells_3 : List UInt8 := [167, 0, 4, 3, 6, 182, 0, 80, 153, 0, 5, 3, 172, 17, 4, 77, 6, 42, 180, 0, 13, 8, 46, 104]
abbrev dktX6_tells_3 : List UInt8 := dkwX6_tells_3 ++ dktX6_tells_4
def dkwX6_tells_2 : List UInt8 := [167, 0, 4, 3, 5, 182, 0, 80, 154, 0, 27, 42, 42, 180, 0, 13, 8, 46, 16, 20, 160, 0, 7, 4]
abbrev dktX6_tells_2 : List UInt8 := dkwX6_tells_2 ++ dktX6_tells_3
def dkwX6_tells_1 : List UInt8 := [167, 0, 4, 3, 4, 182, 0, 80, 154, 0, 51, 42, 29, 3, 17, 0, 239, 184, 0, 59, 154, 0, 7, 4]
abbrev dktX6_tells_1 : List UInt8 := dkwX6_tells_1 ++ dktX6_tells_2
def dkwX6_tells_0 : List UInt8 := [42, 3, 181, 0, 3, 42, 42, 27, 7, 182, 1, 20, 154, 0, 10, 28, 184, 0, 76, 153, 0, 7, 4]
abbrev dktX6_tells_0 : List UInt8 := dkwX6_tells_0 ++ dktX6_tells_1
theorem dksX6_tells_0 : cX6_tells.data.toList.drop 0 = dktX6_tells_0 := by decide +kernel
theorem dksX6_tells_1 : cX6_tells.data.toList.drop 23 = dktX6_tells_1 := dk_seg dksX6_tells_0 23 rfl rfl
theorem dksX6_tells_2 : cX6_tells.data.toList.drop 47 = dktX6_tells_2 := dk_seg dksX6_tells_1 24 rfl rfl
theorem dksX6_tells_3 : cX6_tells.data.toList.drop 71 = dktX6_tells_3 := dk_seg dksX6_tells_2 24 rfl rfl
theorem dksX6_tells_4 : cX6_tells.data.toList.drop 95 = dktX6_tells_4 := dk_seg dksX6_tells_3 24 rfl rfl
theorem dksX6_tells_5 : cX6_tells.data.toList.drop 117 = dktX6_tells_5 := dk_seg dksX6_tells_4 22 rfl rfl
theorem dksX6_tells_6 : cX6_tells.data.toList.drop 141 = dktX6_tells_6 := dk_seg dksX6_tells_5 24 rfl rfl
theorem dX6_tells_0 : decode cX6_tells 0 = .ok (.aload_n 0, 1) := dk_42 (dk_at dksX6_tells_0 0 rfl rfl)
theorem dX6_tells_1 : decode cX6_tells 1 = .ok (.iconst 0, 1) := dk_3 (dk_at dksX6_tells_0 1 rfl rfl)
theorem dX6_tells_2 : decode cX6_tells 2 = .ok (.putfield 3, 3) := dk_181 0 3 (dk_at dksX6_tells_0 2 rfl rfl)
theorem dX6_tells_5 : decode cX6_tells 5 = .ok (.aload_n 0, 1) := dk_42 (dk_at dksX6_tells_0 5 rfl rfl)
theorem dX6_tells_6 : decode cX6_tells 6 = .ok (.aload_n 0, 1) := dk_42 (dk_at dksX6_tells_0 6 rfl rfl)
theorem dX6_tells_7 : decode cX6_tells 7 = .ok (.iload_n 1, 1) := dk_27 (dk_at dksX6_tells_0 7 rfl rfl)
theorem dX6_tells_8 : decode cX6_tells 8 = .ok (.iconst 4, 1) := dk_7 (dk_at dksX6_tells_0 8 rfl rfl)
theorem dX6_tells_9 : decode cX6_tells 9 = .ok (.invokevirtual 276, 3) := dk_182 1 20 (dk_at dksX6_tells_0 9 rfl rfl)
theorem dX6_tells_12 : decode cX6_tells 12 = .ok (.ifCond .ne 10, 3) := dk_154 0 10 (dk_at dksX6_tells_0 12 rfl rfl)
theorem dX6_tells_15 : decode cX6_tells 15 = .ok (.iload_n 2, 1) := dk_28 (dk_at dksX6_tells_0 15 rfl rfl)
theorem dX6_tells_16 : decode cX6_tells 16 = .ok (.invokestatic 76, 3) := dk_184 0 76 (dk_at dksX6_tells_0 16 rfl rfl)
theorem dX6_tells_19 : decode cX6_tells 19 = .ok (.ifCond .eq 7, 3) := dk_153 0 7 (dk_at dksX6_tells_0 19 rfl rfl)
theorem dX6_tells_22 : decode cX6_tells 22 = .ok (.iconst 1, 1) := dk_4 (dk_at dksX6_tells_0 22 rfl rfl)
theorem dX6_tells_23 : decode cX6_tells 23 = .ok (.goto 4, 3) := dk_167 0 4 (dk_at dksX6_tells_1 0 rfl rfl)
theorem dX6_tells_26 : decode cX6_tells 26 = .ok (.iconst 0, 1) := dk_3 (dk_at dksX6_tells_1 3 rfl rfl)
theorem dX6_tells_27 : decode cX6_tells 27 = .ok (.iconst 1, 1) := dk_4 (dk_at dksX6_tells_1 4 rfl rfl)
theorem dX6_tells_28 : decode cX6_tells 28 = .ok (.invokevirtual 80, 3) := dk_182 0 80 (dk_at dksX6_tells_1 5 rfl rfl)
theorem dX6_tells_31 : decode cX6_tells 31 = .ok (.ifCond .ne 51, 3) := dk_154 0 51 (dk_at dksX6_tells_1 8 rfl rfl)
theorem dX6_tells_34 : decode cX6_tells 34 = .ok (.aload_n 0, 1) := dk_42 (dk_at dksX6_tells_1 11 rfl rfl)
theorem dX6_tells_35 : decode cX6_tells 35 = .ok (.iload_n 3, 1) := dk_29 (dk_at dksX6_tells_1 12 rfl rfl)
theorem dX6_tells_36 : decode cX6_tells 36 = .ok (.iconst 0, 1) := dk_3 (dk_at dksX6_tells_1 13 rfl rfl)
theorem dX6_tells_37 : decode cX6_tells 37 = .ok (.sipush 239, 3) := dk_17 0 239 (dk_at dksX6_tells_1 14 rfl rfl)
theorem dX6_tells_40 : decode cX6_tells 40 = .ok (.invokestatic 59, 3) := dk_184 0 59 (dk_at dksX6_tells_1 17 rfl rfl)
theorem dX6_tells_43 : decode cX6_tells 43 = .ok (.ifCond .ne 7, 3) := dk_154 0 7 (dk_at dksX6_tells_1 20 rfl rfl)
theorem dX6_tells_46 : decode cX6_tells 46 = .ok (.iconst 1, 1) := dk_4 (dk_at dksX6_tells_1 23 rfl rfl)
theorem dX6_tells_47 : decode cX6_tells 47 = .ok (.goto 4, 3) := dk_167 0 4 (dk_at dksX6_tells_2 0 rfl rfl)
theorem dX6_tells_50 : decode cX6_tells 50 = .ok (.iconst 0, 1) := dk_3 (dk_at dksX6_tells_2 3 rfl rfl)
theorem dX6_tells_51 : decode cX6_tells 51 = .ok (.iconst 2, 1) := dk_5 (dk_at dksX6_tells_2 4 rfl rfl)
theorem dX6_tells_52 : decode cX6_tells 52 = .ok (.invokevirtual 80, 3) := dk_182 0 80 (dk_at dksX6_tells_2 5 rfl rfl)
theorem dX6_tells_55 : decode cX6_tells 55 = .ok (.ifCond .ne 27, 3) := dk_154 0 27 (dk_at dksX6_tells_2 8 rfl rfl)
theorem dX6_tells_58 : decode cX6_tells 58 = .ok (.aload_n 0, 1) := dk_42 (dk_at dksX6_tells_2 11 rfl rfl)
theorem dX6_tells_59 : decode cX6_tells 59 = .ok (.aload_n 0, 1) := dk_42 (dk_at dksX6_tells_2 12 rfl rfl)
theorem dX6_tells_60 : decode cX6_tells 60 = .ok (.getfield 13, 3) := dk_180 0 13 (dk_at dksX6_tells_2 13 rfl rfl)
theorem dX6_tells_63 : decode cX6_tells 63 = .ok (.iconst 5, 1) := dk_8 (dk_at dksX6_tells_2 16 rfl rfl)
theorem dX6_tells_64 : decode cX6_tells 64 = .ok (.iaload, 1) := dk_46 (dk_at dksX6_tells_2 17 rfl rfl)
theorem dX6_tells_65 : decode cX6_tells 65 = .ok (.bipush 20, 2) := dk_16 20 (dk_at dksX6_tells_2 18 rfl rfl)
theorem dX6_tells_67 : decode cX6_tells 67 = .ok (.if_icmp .ne 7, 3) := dk_160 0 7 (dk_at dksX6_tells_2 20 rfl rfl)
theorem dX6_tells_70 : decode cX6_tells 70 = .ok (.iconst 1, 1) := dk_4 (dk_at dksX6_tells_2 23 rfl rfl)
theorem dX6_tells_71 : decode cX6_tells 71 = .ok (.goto 4, 3) := dk_167 0 4 (dk_at dksX6_tells_3 0 rfl rfl)
theorem dX6_tells_74 : decode cX6_tells 74 = .ok (.iconst 0, 1) := dk_3 (dk_at dksX6_tells_3 3 rfl rfl)
theorem dX6_tells_75 : decode cX6_tells 75 = .ok (.iconst 3, 1) := dk_6 (dk_at dksX6_tells_3 4 rfl rfl)
theorem dX6_tells_76 : decode cX6_tells 76 = .ok (.invokevirtual 80, 3) := dk_182 0 80 (dk_at dksX6_tells_3 5 rfl rfl)
theorem dX6_tells_79 : decode cX6_tells 79 = .ok (.ifCond .eq 5, 3) := dk_153 0 5 (dk_at dksX6_tells_3 8 rfl rfl)
theorem dX6_tells_82 : decode cX6_tells 82 = .ok (.iconst 0, 1) := dk_3 (dk_at dksX6_tells_3 11 rfl rfl)
theorem dX6_tells_83 : decode cX6_tells 83 = .ok (.ireturn, 1) := dk_172 (dk_at dksX6_tells_3 12 rfl rfl)
theorem dX6_tells_84 : decode cX6_tells 84 = .ok (.sipush 1101, 3) := dk_17 4 77 (dk_at dksX6_tells_3 13 rfl rfl)
theorem dX6_tells_87 : decode cX6_tells 87 = .ok (.iconst 3, 1) := dk_6 (dk_at dksX6_tells_3 16 rfl rfl)
theorem dX6_tells_88 : decode cX6_tells 88 = .ok (.aload_n 0, 1) := dk_42 (dk_at dksX6_tells_3 17 rfl rfl)
theorem dX6_tells_89 : decode cX6_tells 89 = .ok (.getfield 13, 3) := dk_180 0 13 (dk_at dksX6_tells_3 18 rfl rfl)
theorem dX6_tells_92 : decode cX6_tells 92 = .ok (.iconst 5, 1) := dk_8 (dk_at dksX6_tells_3 21 rfl rfl)
theorem dX6_tells_93 : decode cX6_tells 93 = .ok (.iaload, 1) := dk_46 (dk_at dksX6_tells_3 22 rfl rfl)
theorem dX6_tells_94 : decode cX6_tells 94 = .ok (.imul, 1) := dk_104 (dk_at dksX6_tells_3 23 rfl rfl)
theorem dX6_tells_95 : decode cX6_tells 95 = .ok (.iadd, 1) := dk_96 (dk_at dksX6_tells_4 0 rfl rfl)
theorem dX6_tells_96 : decode cX6_tells 96 = .ok (.istore 4, 2) := dk_54 4 (dk_at dksX6_tells_4 1 rfl rfl)
theorem dX6_tells_98 : decode cX6_tells 98 = .ok (.aload_n 0, 1) := dk_42 (dk_at dksX6_tells_4 3 rfl rfl)
theorem dX6_tells_99 : decode cX6_tells 99 = .ok (.getfield 13, 3) := dk_180 0 13 (dk_at dksX6_tells_4 4 rfl rfl)
theorem dX6_tells_102 : decode cX6_tells 102 = .ok (.iload 4, 2) := dk_21 4 (dk_at dksX6_tells_4 7 rfl rfl)
theorem dX6_tells_104 : decode cX6_tells 104 = .ok (.iload_n 1, 1) := dk_27 (dk_at dksX6_tells_4 9 rfl rfl)
theorem dX6_tells_105 : decode cX6_tells 105 = .ok (.iastore, 1) := dk_79 (dk_at dksX6_tells_4 10 rfl rfl)
theorem dX6_tells_106 : decode cX6_tells 106 = .ok (.aload_n 0, 1) := dk_42 (dk_at dksX6_tells_4 11 rfl rfl)
theorem dX6_tells_107 : decode cX6_tells 107 = .ok (.getfield 13, 3) := dk_180 0 13 (dk_at dksX6_tells_4 12 rfl rfl)
theorem dX6_tells_110 : decode cX6_tells 110 = .ok (.iload 4, 2) := dk_21 4 (dk_at dksX6_tells_4 15 rfl rfl)
theorem dX6_tells_112 : decode cX6_tells 112 = .ok (.iconst 1, 1) := dk_4 (dk_at dksX6_tells_4 17 rfl rfl)
theorem dX6_tells_113 : decode cX6_tells 113 = .ok (.iadd, 1) := dk_96 (dk_at dksX6_tells_4 18 rfl rfl)
theorem dX6_tells_114 : decode cX6_tells 114 = .ok (.iload_n 2, 1) := dk_28 (dk_at dksX6_tells_4 19 rfl rfl)
theorem dX6_tells_115 : decode cX6_tells 115 = .ok (.iastore, 1) := dk_79 (dk_at dksX6_tells_4 20 rfl rfl)
theorem dX6_tells_116 : decode cX6_tells 116 = .ok (.aload_n 0, 1) := dk_42 (dk_at dksX6_tells_4 21 rfl rfl)
theorem dX6_tells_117 : decode cX6_tells 117 = .ok (.getfield 13, 3) := dk_180 0 13 (dk_at dksX6_tells_5 0 rfl rfl)
theorem dX6_tells_120 : decode cX6_tells 120 = .ok (.iload 4, 2) := dk_21 4 (dk_at dksX6_tells_5 3 rfl rfl)
theorem dX6_tells_122 : decode cX6_tells 122 = .ok (.iconst 2, 1) := dk_5 (dk_at dksX6_tells_5 5 rfl rfl)
theorem dX6_tells_123 : decode cX6_tells 123 = .ok (.iadd, 1) := dk_96 (dk_at dksX6_tells_5 6 rfl rfl)
theorem dX6_tells_124 : decode cX6_tells 124 = .ok (.iload_n 3, 1) := dk_29 (dk_at dksX6_tells_5 7 rfl rfl)
theorem dX6_tells_125 : decode cX6_tells 125 = .ok (.iastore, 1) := dk_79 (dk_at dksX6_tells_5 8 rfl rfl)
theorem dX6_tells_126 : decode cX6_tells 126 = .ok (.aload_n 0, 1) := dk_42 (dk_at dksX6_tells_5 9 rfl rfl)
theorem dX6_tells_127 : decode cX6_tells 127 = .ok (.getfield 13, 3) := dk_180 0 13 (dk_at dksX6_tells_5 10 rfl rfl)
theorem dX6_tells_130 : decode cX6_tells 130 = .ok (.iconst 5, 1) := dk_8 (dk_at dksX6_tells_5 13 rfl rfl)
theorem dX6_tells_131 : decode cX6_tells 131 = .ok (.dup2, 1) := dk_92 (dk_at dksX6_tells_5 14 rfl rfl)
theorem dX6_tells_132 : decode cX6_tells 132 = .ok (.iaload, 1) := dk_46 (dk_at dksX6_tells_5 15 rfl rfl)
theorem dX6_tells_133 : decode cX6_tells 133 = .ok (.iconst 1, 1) := dk_4 (dk_at dksX6_tells_5 16 rfl rfl)
theorem dX6_tells_134 : decode cX6_tells 134 = .ok (.iadd, 1) := dk_96 (dk_at dksX6_tells_5 17 rfl rfl)
theorem dX6_tells_135 : decode cX6_tells 135 = .ok (.iastore, 1) := dk_79 (dk_at dksX6_tells_5 18 rfl rfl)
theorem dX6_tells_136 : decode cX6_tells 136 = .ok (.aload_n 0, 1) := dk_42 (dk_at dksX6_tells_5 19 rfl rfl)
theorem dX6_tells_137 : decode cX6_tells 137 = .ok (.getfield 13, 3) := dk_180 0 13 (dk_at dksX6_tells_5 20 rfl rfl)
theorem dX6_tells_140 : decode cX6_tells 140 = .ok (.iconst 5, 1) := dk_8 (dk_at dksX6_tells_5 23 rfl rfl)
theorem dX6_tells_141 : decode cX6_tells 141 = .ok (.iaload, 1) := dk_46 (dk_at dksX6_tells_6 0 rfl rfl)
theorem dX6_tells_142 : decode cX6_tells 142 = .ok (.iconst 1, 1) := dk_4 (dk_at dksX6_tells_6 1 rfl rfl)
theorem dX6_tells_143 : decode cX6_tells 143 = .ok (.isub, 1) := dk_100 (dk_at dksX6_tells_6 2 rfl rfl)
theorem dX6_tells_144 : decode cX6_tells 144 = .ok (.ireturn, 1) := dk_172 (dk_at dksX6_tells_6 3 rfl rfl)
abbrev cX6_could : ByteArray := prog_30_method_110_code
def yX6_could : MethodName := ⟨RX6, "could", "(IZ)Z"⟩
def dkwX6_could_1 : List UInt8 := [27, 182, 1, 160, 153, 0, 18, 167, 0, 11, 42, 27, 182, 1, 157, 153, 0, 7, 4, 167, 0, 4, 3, 172]
abbrev dktX6_could_1 : List UInt8 := dkwX6_could_1 ++ []
def dkwX6_could_0 : List UInt8 := [42, 3, 181, 0, 3, 42, 42, 27, 8, 182, 1, 20, 4, 182, 0, 80, 154, 0, 30, 28, 153, 0, 14, 42]
abbrev dktX6_could_0 : List UInt8 := dkwX6_could_0 ++ dktX6_could_1
theorem dksX6_could_0 : cX6_could.data.toList.drop 0 = dktX6_could_0 := by decide +kernel
theorem dksX6_could_1 : cX6_could.data.toList.drop 24 = dktX6_could_1 := dk_seg dksX6_could_0 24 rfl rfl
theorem dX6_could_0 : decode cX6_could 0 = .ok (.aload_n 0, 1) := dk_42 (dk_at dksX6_could_0 0 rfl rfl)
theorem dX6_could_1 : decode cX6_could 1 = .ok (.iconst 0, 1) := dk_3 (dk_at dksX6_could_0 1 rfl rfl)
theorem dX6_could_2 : decode cX6_could 2 = .ok (.putfield 3, 3) := dk_181 0 3 (dk_at dksX6_could_0 2 rfl rfl)
theorem dX6_could_5 : decode cX6_could 5 = .ok (.aload_n 0, 1) := dk_42 (dk_at dksX6_could_0 5 rfl rfl)
theorem dX6_could_6 : decode cX6_could 6 = .ok (.aload_n 0, 1) := dk_42 (dk_at dksX6_could_0 6 rfl rfl)
theorem dX6_could_7 : decode cX6_could 7 = .ok (.iload_n 1, 1) := dk_27 (dk_at dksX6_could_0 7 rfl rfl)
theorem dX6_could_8 : decode cX6_could 8 = .ok (.iconst 5, 1) := dk_8 (dk_at dksX6_could_0 8 rfl rfl)
theorem dX6_could_9 : decode cX6_could 9 = .ok (.invokevirtual 276, 3) := dk_182 1 20 (dk_at dksX6_could_0 9 rfl rfl)
theorem dX6_could_12 : decode cX6_could 12 = .ok (.iconst 1, 1) := dk_4 (dk_at dksX6_could_0 12 rfl rfl)
theorem dX6_could_13 : decode cX6_could 13 = .ok (.invokevirtual 80, 3) := dk_182 0 80 (dk_at dksX6_could_0 13 rfl rfl)
theorem dX6_could_16 : decode cX6_could 16 = .ok (.ifCond .ne 30, 3) := dk_154 0 30 (dk_at dksX6_could_0 16 rfl rfl)
theorem dX6_could_19 : decode cX6_could 19 = .ok (.iload_n 2, 1) := dk_28 (dk_at dksX6_could_0 19 rfl rfl)
theorem dX6_could_20 : decode cX6_could 20 = .ok (.ifCond .eq 14, 3) := dk_153 0 14 (dk_at dksX6_could_0 20 rfl rfl)
theorem dX6_could_23 : decode cX6_could 23 = .ok (.aload_n 0, 1) := dk_42 (dk_at dksX6_could_0 23 rfl rfl)
theorem dX6_could_24 : decode cX6_could 24 = .ok (.iload_n 1, 1) := dk_27 (dk_at dksX6_could_1 0 rfl rfl)
theorem dX6_could_25 : decode cX6_could 25 = .ok (.invokevirtual 416, 3) := dk_182 1 160 (dk_at dksX6_could_1 1 rfl rfl)
theorem dX6_could_28 : decode cX6_could 28 = .ok (.ifCond .eq 18, 3) := dk_153 0 18 (dk_at dksX6_could_1 4 rfl rfl)
theorem dX6_could_31 : decode cX6_could 31 = .ok (.goto 11, 3) := dk_167 0 11 (dk_at dksX6_could_1 7 rfl rfl)
theorem dX6_could_34 : decode cX6_could 34 = .ok (.aload_n 0, 1) := dk_42 (dk_at dksX6_could_1 10 rfl rfl)
theorem dX6_could_35 : decode cX6_could 35 = .ok (.iload_n 1, 1) := dk_27 (dk_at dksX6_could_1 11 rfl rfl)
theorem dX6_could_36 : decode cX6_could 36 = .ok (.invokevirtual 413, 3) := dk_182 1 157 (dk_at dksX6_could_1 12 rfl rfl)
theorem dX6_could_39 : decode cX6_could 39 = .ok (.ifCond .eq 7, 3) := dk_153 0 7 (dk_at dksX6_could_1 15 rfl rfl)
theorem dX6_could_42 : decode cX6_could 42 = .ok (.iconst 1, 1) := dk_4 (dk_at dksX6_could_1 18 rfl rfl)
theorem dX6_could_43 : decode cX6_could 43 = .ok (.goto 4, 3) := dk_167 0 4 (dk_at dksX6_could_1 19 rfl rfl)
theorem dX6_could_46 : decode cX6_could 46 = .ok (.iconst 0, 1) := dk_3 (dk_at dksX6_could_1 22 rfl rfl)
theorem dX6_could_47 : decode cX6_could 47 = .ok (.ireturn, 1) := dk_172 (dk_at dksX6_could_1 23 rfl rfl)
abbrev cX6_fitsAll : ByteArray := prog_30_method_109_code
def yX6_fitsAll : MethodName := ⟨RX6, "fitsAll", "(I)Z"⟩
def dkwX6_fitsAll_3 : List UInt8 := [27, 182, 1, 157, 153, 0, 7, 4, 167, 0, 4, 3, 172]
abbrev dktX6_fitsAll_3 : List UInt8 := dkwX6_fitsAll_3 ++ []
def dkwX6_fitsAll_2 : List UInt8 := [184, 0, 90, 4, 163, 0, 7, 4, 167, 0, 4, 3, 61, 132, 3, 1, 167, 255, 199, 28, 153, 0, 15, 42]
abbrev dktX6_fitsAll_2 : List UInt8 := dkwX6_fitsAll_2 ++ dktX6_fitsAll_3
def dkwX6_fitsAll_1 : List UInt8 := [154, 0, 34, 42, 29, 182, 1, 80, 153, 0, 26, 42, 29, 4, 182, 1, 67, 42, 27, 4, 182, 1, 151]
abbrev dktX6_fitsAll_1 : List UInt8 := dkwX6_fitsAll_1 ++ dktX6_fitsAll_2
def dkwX6_fitsAll_0 : List UInt8 := [3, 61, 3, 62, 29, 42, 182, 1, 77, 162, 0, 55, 28, 154, 0, 39, 42, 29, 6, 182, 1, 73]
abbrev dktX6_fitsAll_0 : List UInt8 := dkwX6_fitsAll_0 ++ dktX6_fitsAll_1
theorem dksX6_fitsAll_0 : cX6_fitsAll.data.toList.drop 0 = dktX6_fitsAll_0 := by decide +kernel
theorem dksX6_fitsAll_1 : cX6_fitsAll.data.toList.drop 22 = dktX6_fitsAll_1 := dk_seg dksX6_fitsAll_0 22 rfl rfl
theorem dksX6_fitsAll_2 : cX6_fitsAll.data.toList.drop 45 = dktX6_fitsAll_2 := dk_seg dksX6_fitsAll_1 23 rfl rfl
theorem dksX6_fitsAll_3 : cX6_fitsAll.data.toList.drop 69 = dktX6_fitsAll_3 := dk_seg dksX6_fitsAll_2 24 rfl rfl
theorem dX6_fitsAll_0 : decode cX6_fitsAll 0 = .ok (.iconst 0, 1) := dk_3 (dk_at dksX6_fitsAll_0 0 rfl rfl)
theorem dX6_fitsAll_1 : decode cX6_fitsAll 1 = .ok (.istore_n 2, 1) := dk_61 (dk_at dksX6_fitsAll_0 1 rfl rfl)
theorem dX6_fitsAll_2 : decode cX6_fitsAll 2 = .ok (.iconst 0, 1) := dk_3 (dk_at dksX6_fitsAll_0 2 rfl rfl)
theorem dX6_fitsAll_3 : decode cX6_fitsAll 3 = .ok (.istore_n 3, 1) := dk_62 (dk_at dksX6_fitsAll_0 3 rfl rfl)
theorem dX6_fitsAll_4 : decode cX6_fitsAll 4 = .ok (.iload_n 3, 1) := dk_29 (dk_at dksX6_fitsAll_0 4 rfl rfl)
theorem dX6_fitsAll_5 : decode cX6_fitsAll 5 = .ok (.aload_n 0, 1) := dk_42 (dk_at dksX6_fitsAll_0 5 rfl rfl)
theorem dX6_fitsAll_6 : decode cX6_fitsAll 6 = .ok (.invokevirtual 333, 3) := dk_182 1 77 (dk_at dksX6_fitsAll_0 6 rfl rfl)
theorem dX6_fitsAll_9 : decode cX6_fitsAll 9 = .ok (.if_icmp .ge 55, 3) := dk_162 0 55 (dk_at dksX6_fitsAll_0 9 rfl rfl)
theorem dX6_fitsAll_12 : decode cX6_fitsAll 12 = .ok (.iload_n 2, 1) := dk_28 (dk_at dksX6_fitsAll_0 12 rfl rfl)
theorem dX6_fitsAll_13 : decode cX6_fitsAll 13 = .ok (.ifCond .ne 39, 3) := dk_154 0 39 (dk_at dksX6_fitsAll_0 13 rfl rfl)
theorem dX6_fitsAll_16 : decode cX6_fitsAll 16 = .ok (.aload_n 0, 1) := dk_42 (dk_at dksX6_fitsAll_0 16 rfl rfl)
theorem dX6_fitsAll_17 : decode cX6_fitsAll 17 = .ok (.iload_n 3, 1) := dk_29 (dk_at dksX6_fitsAll_0 17 rfl rfl)
theorem dX6_fitsAll_18 : decode cX6_fitsAll 18 = .ok (.iconst 3, 1) := dk_6 (dk_at dksX6_fitsAll_0 18 rfl rfl)
theorem dX6_fitsAll_19 : decode cX6_fitsAll 19 = .ok (.invokevirtual 329, 3) := dk_182 1 73 (dk_at dksX6_fitsAll_0 19 rfl rfl)
theorem dX6_fitsAll_22 : decode cX6_fitsAll 22 = .ok (.ifCond .ne 34, 3) := dk_154 0 34 (dk_at dksX6_fitsAll_1 0 rfl rfl)
theorem dX6_fitsAll_25 : decode cX6_fitsAll 25 = .ok (.aload_n 0, 1) := dk_42 (dk_at dksX6_fitsAll_1 3 rfl rfl)
theorem dX6_fitsAll_26 : decode cX6_fitsAll 26 = .ok (.iload_n 3, 1) := dk_29 (dk_at dksX6_fitsAll_1 4 rfl rfl)
theorem dX6_fitsAll_27 : decode cX6_fitsAll 27 = .ok (.invokevirtual 336, 3) := dk_182 1 80 (dk_at dksX6_fitsAll_1 5 rfl rfl)
theorem dX6_fitsAll_30 : decode cX6_fitsAll 30 = .ok (.ifCond .eq 26, 3) := dk_153 0 26 (dk_at dksX6_fitsAll_1 8 rfl rfl)
theorem dX6_fitsAll_33 : decode cX6_fitsAll 33 = .ok (.aload_n 0, 1) := dk_42 (dk_at dksX6_fitsAll_1 11 rfl rfl)
theorem dX6_fitsAll_34 : decode cX6_fitsAll 34 = .ok (.iload_n 3, 1) := dk_29 (dk_at dksX6_fitsAll_1 12 rfl rfl)
theorem dX6_fitsAll_35 : decode cX6_fitsAll 35 = .ok (.iconst 1, 1) := dk_4 (dk_at dksX6_fitsAll_1 13 rfl rfl)
theorem dX6_fitsAll_36 : decode cX6_fitsAll 36 = .ok (.invokevirtual 323, 3) := dk_182 1 67 (dk_at dksX6_fitsAll_1 14 rfl rfl)
theorem dX6_fitsAll_39 : decode cX6_fitsAll 39 = .ok (.aload_n 0, 1) := dk_42 (dk_at dksX6_fitsAll_1 17 rfl rfl)
theorem dX6_fitsAll_40 : decode cX6_fitsAll 40 = .ok (.iload_n 1, 1) := dk_27 (dk_at dksX6_fitsAll_1 18 rfl rfl)
theorem dX6_fitsAll_41 : decode cX6_fitsAll 41 = .ok (.iconst 1, 1) := dk_4 (dk_at dksX6_fitsAll_1 19 rfl rfl)
theorem dX6_fitsAll_42 : decode cX6_fitsAll 42 = .ok (.invokevirtual 407, 3) := dk_182 1 151 (dk_at dksX6_fitsAll_1 20 rfl rfl)
theorem dX6_fitsAll_45 : decode cX6_fitsAll 45 = .ok (.invokestatic 90, 3) := dk_184 0 90 (dk_at dksX6_fitsAll_2 0 rfl rfl)
theorem dX6_fitsAll_48 : decode cX6_fitsAll 48 = .ok (.iconst 1, 1) := dk_4 (dk_at dksX6_fitsAll_2 3 rfl rfl)
theorem dX6_fitsAll_49 : decode cX6_fitsAll 49 = .ok (.if_icmp .gt 7, 3) := dk_163 0 7 (dk_at dksX6_fitsAll_2 4 rfl rfl)
theorem dX6_fitsAll_52 : decode cX6_fitsAll 52 = .ok (.iconst 1, 1) := dk_4 (dk_at dksX6_fitsAll_2 7 rfl rfl)
theorem dX6_fitsAll_53 : decode cX6_fitsAll 53 = .ok (.goto 4, 3) := dk_167 0 4 (dk_at dksX6_fitsAll_2 8 rfl rfl)
theorem dX6_fitsAll_56 : decode cX6_fitsAll 56 = .ok (.iconst 0, 1) := dk_3 (dk_at dksX6_fitsAll_2 11 rfl rfl)
theorem dX6_fitsAll_57 : decode cX6_fitsAll 57 = .ok (.istore_n 2, 1) := dk_61 (dk_at dksX6_fitsAll_2 12 rfl rfl)
theorem dX6_fitsAll_58 : decode cX6_fitsAll 58 = .ok (.iinc 3 1, 3) := dk_132 3 1 (dk_at dksX6_fitsAll_2 13 rfl rfl)
theorem dX6_fitsAll_61 : decode cX6_fitsAll 61 = .ok (.goto (-57), 3) := dk_167 255 199 (dk_at dksX6_fitsAll_2 16 rfl rfl)
theorem dX6_fitsAll_64 : decode cX6_fitsAll 64 = .ok (.iload_n 2, 1) := dk_28 (dk_at dksX6_fitsAll_2 19 rfl rfl)
theorem dX6_fitsAll_65 : decode cX6_fitsAll 65 = .ok (.ifCond .eq 15, 3) := dk_153 0 15 (dk_at dksX6_fitsAll_2 20 rfl rfl)
theorem dX6_fitsAll_68 : decode cX6_fitsAll 68 = .ok (.aload_n 0, 1) := dk_42 (dk_at dksX6_fitsAll_2 23 rfl rfl)
theorem dX6_fitsAll_69 : decode cX6_fitsAll 69 = .ok (.iload_n 1, 1) := dk_27 (dk_at dksX6_fitsAll_3 0 rfl rfl)
theorem dX6_fitsAll_70 : decode cX6_fitsAll 70 = .ok (.invokevirtual 413, 3) := dk_182 1 157 (dk_at dksX6_fitsAll_3 1 rfl rfl)
theorem dX6_fitsAll_73 : decode cX6_fitsAll 73 = .ok (.ifCond .eq 7, 3) := dk_153 0 7 (dk_at dksX6_fitsAll_3 4 rfl rfl)
theorem dX6_fitsAll_76 : decode cX6_fitsAll 76 = .ok (.iconst 1, 1) := dk_4 (dk_at dksX6_fitsAll_3 7 rfl rfl)
theorem dX6_fitsAll_77 : decode cX6_fitsAll 77 = .ok (.goto 4, 3) := dk_167 0 4 (dk_at dksX6_fitsAll_3 8 rfl rfl)
theorem dX6_fitsAll_80 : decode cX6_fitsAll 80 = .ok (.iconst 0, 1) := dk_3 (dk_at dksX6_fitsAll_3 11 rfl rfl)
theorem dX6_fitsAll_81 : decode cX6_fitsAll 81 = .ok (.ireturn, 1) := dk_172 (dk_at dksX6_fitsAll_3 12 rfl rfl)
abbrev cX6_ofTelling : ByteArray := prog_30_method_105_code
def yX6_ofTelling : MethodName := ⟨RX6, "ofTelling", "(II)I"⟩
def dkwX6_ofTelling_0 : List UInt8 := [42, 180, 0, 13, 17, 4, 77, 6, 27, 104, 96, 28, 96, 46, 172]
abbrev dktX6_ofTelling_0 : List UInt8 := dkwX6_ofTelling_0 ++ []
theorem dksX6_ofTelling_0 : cX6_ofTelling.data.toList.drop 0 = dktX6_ofTelling_0 := by decide +kernel
theorem dX6_ofTelling_0 : decode cX6_ofTelling 0 = .ok (.aload_n 0, 1) := dk_42 (dk_at dksX6_ofTelling_0 0 rfl rfl)
theorem dX6_ofTelling_1 : decode cX6_ofTelling 1 = .ok (.getfield 13, 3) := dk_180 0 13 (dk_at dksX6_ofTelling_0 1 rfl rfl)
theorem dX6_ofTelling_4 : decode cX6_ofTelling 4 = .ok (.sipush 1101, 3) := dk_17 4 77 (dk_at dksX6_ofTelling_0 4 rfl rfl)
theorem dX6_ofTelling_7 : decode cX6_ofTelling 7 = .ok (.iconst 3, 1) := dk_6 (dk_at dksX6_ofTelling_0 7 rfl rfl)
theorem dX6_ofTelling_8 : decode cX6_ofTelling 8 = .ok (.iload_n 1, 1) := dk_27 (dk_at dksX6_ofTelling_0 8 rfl rfl)
theorem dX6_ofTelling_9 : decode cX6_ofTelling 9 = .ok (.imul, 1) := dk_104 (dk_at dksX6_ofTelling_0 9 rfl rfl)
theorem dX6_ofTelling_10 : decode cX6_ofTelling 10 = .ok (.iadd, 1) := dk_96 (dk_at dksX6_ofTelling_0 10 rfl rfl)
theorem dX6_ofTelling_11 : decode cX6_ofTelling 11 = .ok (.iload_n 2, 1) := dk_28 (dk_at dksX6_ofTelling_0 11 rfl rfl)
theorem dX6_ofTelling_12 : decode cX6_ofTelling 12 = .ok (.iadd, 1) := dk_96 (dk_at dksX6_ofTelling_0 12 rfl rfl)
theorem dX6_ofTelling_13 : decode cX6_ofTelling 13 = .ok (.iaload, 1) := dk_46 (dk_at dksX6_ofTelling_0 13 rfl rfl)
theorem dX6_ofTelling_14 : decode cX6_ofTelling 14 = .ok (.ireturn, 1) := dk_172 (dk_at dksX6_ofTelling_0 14 rfl rfl)
abbrev cX6_couldBe : ByteArray := prog_30_method_108_code
def yX6_couldBe : MethodName := ⟨RX6, "couldBe", "(I)Z"⟩
def dkwX6_couldBe_2 : List UInt8 := [182, 0, 96, 153, 0, 7, 4, 167, 0, 4, 3, 172]
abbrev dktX6_couldBe_2 : List UInt8 := dkwX6_couldBe_2 ++ []
def dkwX6_couldBe_1 : List UInt8 := [182, 1, 154, 184, 0, 59, 153, 0, 26, 42, 42, 28, 3, 182, 1, 154, 42, 27, 4, 182, 1, 151]
abbrev dktX6_couldBe_1 : List UInt8 := dkwX6_couldBe_1 ++ dktX6_couldBe_2
def dkwX6_couldBe_0 : List UInt8 := [42, 27, 3, 182, 1, 151, 61, 42, 27, 5, 182, 1, 151, 42, 28, 4, 182, 1, 154, 42, 28, 5]
abbrev dktX6_couldBe_0 : List UInt8 := dkwX6_couldBe_0 ++ dktX6_couldBe_1
theorem dksX6_couldBe_0 : cX6_couldBe.data.toList.drop 0 = dktX6_couldBe_0 := by decide +kernel
theorem dksX6_couldBe_1 : cX6_couldBe.data.toList.drop 22 = dktX6_couldBe_1 := dk_seg dksX6_couldBe_0 22 rfl rfl
theorem dksX6_couldBe_2 : cX6_couldBe.data.toList.drop 44 = dktX6_couldBe_2 := dk_seg dksX6_couldBe_1 22 rfl rfl
theorem dX6_couldBe_0 : decode cX6_couldBe 0 = .ok (.aload_n 0, 1) := dk_42 (dk_at dksX6_couldBe_0 0 rfl rfl)
theorem dX6_couldBe_1 : decode cX6_couldBe 1 = .ok (.iload_n 1, 1) := dk_27 (dk_at dksX6_couldBe_0 1 rfl rfl)
theorem dX6_couldBe_2 : decode cX6_couldBe 2 = .ok (.iconst 0, 1) := dk_3 (dk_at dksX6_couldBe_0 2 rfl rfl)
theorem dX6_couldBe_3 : decode cX6_couldBe 3 = .ok (.invokevirtual 407, 3) := dk_182 1 151 (dk_at dksX6_couldBe_0 3 rfl rfl)
theorem dX6_couldBe_6 : decode cX6_couldBe 6 = .ok (.istore_n 2, 1) := dk_61 (dk_at dksX6_couldBe_0 6 rfl rfl)
theorem dX6_couldBe_7 : decode cX6_couldBe 7 = .ok (.aload_n 0, 1) := dk_42 (dk_at dksX6_couldBe_0 7 rfl rfl)
theorem dX6_couldBe_8 : decode cX6_couldBe 8 = .ok (.iload_n 1, 1) := dk_27 (dk_at dksX6_couldBe_0 8 rfl rfl)
theorem dX6_couldBe_9 : decode cX6_couldBe 9 = .ok (.iconst 2, 1) := dk_5 (dk_at dksX6_couldBe_0 9 rfl rfl)
theorem dX6_couldBe_10 : decode cX6_couldBe 10 = .ok (.invokevirtual 407, 3) := dk_182 1 151 (dk_at dksX6_couldBe_0 10 rfl rfl)
theorem dX6_couldBe_13 : decode cX6_couldBe 13 = .ok (.aload_n 0, 1) := dk_42 (dk_at dksX6_couldBe_0 13 rfl rfl)
theorem dX6_couldBe_14 : decode cX6_couldBe 14 = .ok (.iload_n 2, 1) := dk_28 (dk_at dksX6_couldBe_0 14 rfl rfl)
theorem dX6_couldBe_15 : decode cX6_couldBe 15 = .ok (.iconst 1, 1) := dk_4 (dk_at dksX6_couldBe_0 15 rfl rfl)
theorem dX6_couldBe_16 : decode cX6_couldBe 16 = .ok (.invokevirtual 410, 3) := dk_182 1 154 (dk_at dksX6_couldBe_0 16 rfl rfl)
theorem dX6_couldBe_19 : decode cX6_couldBe 19 = .ok (.aload_n 0, 1) := dk_42 (dk_at dksX6_couldBe_0 19 rfl rfl)
theorem dX6_couldBe_20 : decode cX6_couldBe 20 = .ok (.iload_n 2, 1) := dk_28 (dk_at dksX6_couldBe_0 20 rfl rfl)
theorem dX6_couldBe_21 : decode cX6_couldBe 21 = .ok (.iconst 2, 1) := dk_5 (dk_at dksX6_couldBe_0 21 rfl rfl)
theorem dX6_couldBe_22 : decode cX6_couldBe 22 = .ok (.invokevirtual 410, 3) := dk_182 1 154 (dk_at dksX6_couldBe_1 0 rfl rfl)
theorem dX6_couldBe_25 : decode cX6_couldBe 25 = .ok (.invokestatic 59, 3) := dk_184 0 59 (dk_at dksX6_couldBe_1 3 rfl rfl)
theorem dX6_couldBe_28 : decode cX6_couldBe 28 = .ok (.ifCond .eq 26, 3) := dk_153 0 26 (dk_at dksX6_couldBe_1 6 rfl rfl)
theorem dX6_couldBe_31 : decode cX6_couldBe 31 = .ok (.aload_n 0, 1) := dk_42 (dk_at dksX6_couldBe_1 9 rfl rfl)
theorem dX6_couldBe_32 : decode cX6_couldBe 32 = .ok (.aload_n 0, 1) := dk_42 (dk_at dksX6_couldBe_1 10 rfl rfl)
theorem dX6_couldBe_33 : decode cX6_couldBe 33 = .ok (.iload_n 2, 1) := dk_28 (dk_at dksX6_couldBe_1 11 rfl rfl)
theorem dX6_couldBe_34 : decode cX6_couldBe 34 = .ok (.iconst 0, 1) := dk_3 (dk_at dksX6_couldBe_1 12 rfl rfl)
theorem dX6_couldBe_35 : decode cX6_couldBe 35 = .ok (.invokevirtual 410, 3) := dk_182 1 154 (dk_at dksX6_couldBe_1 13 rfl rfl)
theorem dX6_couldBe_38 : decode cX6_couldBe 38 = .ok (.aload_n 0, 1) := dk_42 (dk_at dksX6_couldBe_1 16 rfl rfl)
theorem dX6_couldBe_39 : decode cX6_couldBe 39 = .ok (.iload_n 1, 1) := dk_27 (dk_at dksX6_couldBe_1 17 rfl rfl)
theorem dX6_couldBe_40 : decode cX6_couldBe 40 = .ok (.iconst 1, 1) := dk_4 (dk_at dksX6_couldBe_1 18 rfl rfl)
theorem dX6_couldBe_41 : decode cX6_couldBe 41 = .ok (.invokevirtual 407, 3) := dk_182 1 151 (dk_at dksX6_couldBe_1 19 rfl rfl)
theorem dX6_couldBe_44 : decode cX6_couldBe 44 = .ok (.invokevirtual 96, 3) := dk_182 0 96 (dk_at dksX6_couldBe_2 0 rfl rfl)
theorem dX6_couldBe_47 : decode cX6_couldBe 47 = .ok (.ifCond .eq 7, 3) := dk_153 0 7 (dk_at dksX6_couldBe_2 3 rfl rfl)
theorem dX6_couldBe_50 : decode cX6_couldBe 50 = .ok (.iconst 1, 1) := dk_4 (dk_at dksX6_couldBe_2 6 rfl rfl)
theorem dX6_couldBe_51 : decode cX6_couldBe 51 = .ok (.goto 4, 3) := dk_167 0 4 (dk_at dksX6_couldBe_2 7 rfl rfl)
theorem dX6_couldBe_54 : decode cX6_couldBe 54 = .ok (.iconst 0, 1) := dk_3 (dk_at dksX6_couldBe_2 10 rfl rfl)
theorem dX6_couldBe_55 : decode cX6_couldBe 55 = .ok (.ireturn, 1) := dk_172 (dk_at dksX6_couldBe_2 11 rfl rfl)
abbrev cX6_ofTeller : ByteArray := prog_30_method_104_code
def yX6_ofTeller : MethodName := ⟨RX6, "ofTeller", "(II)I"⟩
def dkwX6_ofTeller_0 : List UInt8 := [42, 180, 0, 13, 17, 4, 45, 7, 27, 104, 96, 28, 96, 46, 172]
abbrev dktX6_ofTeller_0 : List UInt8 := dkwX6_ofTeller_0 ++ []
theorem dksX6_ofTeller_0 : cX6_ofTeller.data.toList.drop 0 = dktX6_ofTeller_0 := by decide +kernel
theorem dX6_ofTeller_0 : decode cX6_ofTeller 0 = .ok (.aload_n 0, 1) := dk_42 (dk_at dksX6_ofTeller_0 0 rfl rfl)
theorem dX6_ofTeller_1 : decode cX6_ofTeller 1 = .ok (.getfield 13, 3) := dk_180 0 13 (dk_at dksX6_ofTeller_0 1 rfl rfl)
theorem dX6_ofTeller_4 : decode cX6_ofTeller 4 = .ok (.sipush 1069, 3) := dk_17 4 45 (dk_at dksX6_ofTeller_0 4 rfl rfl)
theorem dX6_ofTeller_7 : decode cX6_ofTeller 7 = .ok (.iconst 4, 1) := dk_7 (dk_at dksX6_ofTeller_0 7 rfl rfl)
theorem dX6_ofTeller_8 : decode cX6_ofTeller 8 = .ok (.iload_n 1, 1) := dk_27 (dk_at dksX6_ofTeller_0 8 rfl rfl)
theorem dX6_ofTeller_9 : decode cX6_ofTeller 9 = .ok (.imul, 1) := dk_104 (dk_at dksX6_ofTeller_0 9 rfl rfl)
theorem dX6_ofTeller_10 : decode cX6_ofTeller 10 = .ok (.iadd, 1) := dk_96 (dk_at dksX6_ofTeller_0 10 rfl rfl)
theorem dX6_ofTeller_11 : decode cX6_ofTeller 11 = .ok (.iload_n 2, 1) := dk_28 (dk_at dksX6_ofTeller_0 11 rfl rfl)
theorem dX6_ofTeller_12 : decode cX6_ofTeller 12 = .ok (.iadd, 1) := dk_96 (dk_at dksX6_ofTeller_0 12 rfl rfl)
theorem dX6_ofTeller_13 : decode cX6_ofTeller 13 = .ok (.iaload, 1) := dk_46 (dk_at dksX6_ofTeller_0 13 rfl rfl)
theorem dX6_ofTeller_14 : decode cX6_ofTeller 14 = .ok (.ireturn, 1) := dk_172 (dk_at dksX6_ofTeller_0 14 rfl rfl)
abbrev cX6_talked : ByteArray := prog_30_method_112_code
def yX6_talked : MethodName := ⟨RX6, "talked", "(II)Z"⟩
def dkwX6_talked_2 : List UInt8 := [167, 0, 4, 3, 172]
abbrev dktX6_talked_2 : List UInt8 := dkwX6_talked_2 ++ []
def dkwX6_talked_1 : List UInt8 := [4, 167, 0, 4, 3, 4, 182, 0, 80, 154, 0, 16, 42, 27, 28, 182, 1, 163, 153, 0, 7, 4]
abbrev dktX6_talked_1 : List UInt8 := dkwX6_talked_1 ++ dktX6_talked_2
def dkwX6_talked_0 : List UInt8 := [42, 3, 181, 0, 3, 42, 42, 27, 7, 182, 1, 20, 154, 0, 12, 42, 28, 7, 182, 1, 20, 153, 0, 7]
abbrev dktX6_talked_0 : List UInt8 := dkwX6_talked_0 ++ dktX6_talked_1
theorem dksX6_talked_0 : cX6_talked.data.toList.drop 0 = dktX6_talked_0 := by decide +kernel
theorem dksX6_talked_1 : cX6_talked.data.toList.drop 24 = dktX6_talked_1 := dk_seg dksX6_talked_0 24 rfl rfl
theorem dksX6_talked_2 : cX6_talked.data.toList.drop 46 = dktX6_talked_2 := dk_seg dksX6_talked_1 22 rfl rfl
theorem dX6_talked_0 : decode cX6_talked 0 = .ok (.aload_n 0, 1) := dk_42 (dk_at dksX6_talked_0 0 rfl rfl)
theorem dX6_talked_1 : decode cX6_talked 1 = .ok (.iconst 0, 1) := dk_3 (dk_at dksX6_talked_0 1 rfl rfl)
theorem dX6_talked_2 : decode cX6_talked 2 = .ok (.putfield 3, 3) := dk_181 0 3 (dk_at dksX6_talked_0 2 rfl rfl)
theorem dX6_talked_5 : decode cX6_talked 5 = .ok (.aload_n 0, 1) := dk_42 (dk_at dksX6_talked_0 5 rfl rfl)
theorem dX6_talked_6 : decode cX6_talked 6 = .ok (.aload_n 0, 1) := dk_42 (dk_at dksX6_talked_0 6 rfl rfl)
theorem dX6_talked_7 : decode cX6_talked 7 = .ok (.iload_n 1, 1) := dk_27 (dk_at dksX6_talked_0 7 rfl rfl)
theorem dX6_talked_8 : decode cX6_talked 8 = .ok (.iconst 4, 1) := dk_7 (dk_at dksX6_talked_0 8 rfl rfl)
theorem dX6_talked_9 : decode cX6_talked 9 = .ok (.invokevirtual 276, 3) := dk_182 1 20 (dk_at dksX6_talked_0 9 rfl rfl)
theorem dX6_talked_12 : decode cX6_talked 12 = .ok (.ifCond .ne 12, 3) := dk_154 0 12 (dk_at dksX6_talked_0 12 rfl rfl)
theorem dX6_talked_15 : decode cX6_talked 15 = .ok (.aload_n 0, 1) := dk_42 (dk_at dksX6_talked_0 15 rfl rfl)
theorem dX6_talked_16 : decode cX6_talked 16 = .ok (.iload_n 2, 1) := dk_28 (dk_at dksX6_talked_0 16 rfl rfl)
theorem dX6_talked_17 : decode cX6_talked 17 = .ok (.iconst 4, 1) := dk_7 (dk_at dksX6_talked_0 17 rfl rfl)
theorem dX6_talked_18 : decode cX6_talked 18 = .ok (.invokevirtual 276, 3) := dk_182 1 20 (dk_at dksX6_talked_0 18 rfl rfl)
theorem dX6_talked_21 : decode cX6_talked 21 = .ok (.ifCond .eq 7, 3) := dk_153 0 7 (dk_at dksX6_talked_0 21 rfl rfl)
theorem dX6_talked_24 : decode cX6_talked 24 = .ok (.iconst 1, 1) := dk_4 (dk_at dksX6_talked_1 0 rfl rfl)
theorem dX6_talked_25 : decode cX6_talked 25 = .ok (.goto 4, 3) := dk_167 0 4 (dk_at dksX6_talked_1 1 rfl rfl)
theorem dX6_talked_28 : decode cX6_talked 28 = .ok (.iconst 0, 1) := dk_3 (dk_at dksX6_talked_1 4 rfl rfl)
theorem dX6_talked_29 : decode cX6_talked 29 = .ok (.iconst 1, 1) := dk_4 (dk_at dksX6_talked_1 5 rfl rfl)
theorem dX6_talked_30 : decode cX6_talked 30 = .ok (.invokevirtual 80, 3) := dk_182 0 80 (dk_at dksX6_talked_1 6 rfl rfl)
theorem dX6_talked_33 : decode cX6_talked 33 = .ok (.ifCond .ne 16, 3) := dk_154 0 16 (dk_at dksX6_talked_1 9 rfl rfl)
theorem dX6_talked_36 : decode cX6_talked 36 = .ok (.aload_n 0, 1) := dk_42 (dk_at dksX6_talked_1 12 rfl rfl)
theorem dX6_talked_37 : decode cX6_talked 37 = .ok (.iload_n 1, 1) := dk_27 (dk_at dksX6_talked_1 13 rfl rfl)
theorem dX6_talked_38 : decode cX6_talked 38 = .ok (.iload_n 2, 1) := dk_28 (dk_at dksX6_talked_1 14 rfl rfl)
theorem dX6_talked_39 : decode cX6_talked 39 = .ok (.invokevirtual 419, 3) := dk_182 1 163 (dk_at dksX6_talked_1 15 rfl rfl)
theorem dX6_talked_42 : decode cX6_talked 42 = .ok (.ifCond .eq 7, 3) := dk_153 0 7 (dk_at dksX6_talked_1 18 rfl rfl)
theorem dX6_talked_45 : decode cX6_talked 45 = .ok (.iconst 1, 1) := dk_4 (dk_at dksX6_talked_1 21 rfl rfl)
theorem dX6_talked_46 : decode cX6_talked 46 = .ok (.goto 4, 3) := dk_167 0 4 (dk_at dksX6_talked_2 0 rfl rfl)
theorem dX6_talked_49 : decode cX6_talked 49 = .ok (.iconst 0, 1) := dk_3 (dk_at dksX6_talked_2 3 rfl rfl)
theorem dX6_talked_50 : decode cX6_talked 50 = .ok (.ireturn, 1) := dk_172 (dk_at dksX6_talked_2 4 rfl rfl)
abbrev cX6_mayHaveTalked : ByteArray := prog_30_method_111_code
def yX6_mayHaveTalked : MethodName := ⟨RX6, "mayHaveTalked", "(II)Z"⟩
def dkwX6_mayHaveTalked_5 : List UInt8 := [167, 0, 4, 3, 172]
abbrev dktX6_mayHaveTalked_5 : List UInt8 := dkwX6_mayHaveTalked_5 ++ []
def dkwX6_mayHaveTalked_4 : List UInt8 := [153, 0, 27, 27, 28, 159, 0, 22, 42, 27, 6, 182, 1, 154, 42, 28, 6, 182, 1, 154, 160, 0, 7, 4]
abbrev dktX6_mayHaveTalked_4 : List UInt8 := dkwX6_mayHaveTalked_4 ++ dktX6_mayHaveTalked_5
def dkwX6_mayHaveTalked_3 : List UInt8 := [160, 0, 7, 4, 167, 0, 4, 3, 62, 132, 5, 1, 167, 255, 193, 132, 4, 1, 167, 255, 173, 29]
abbrev dktX6_mayHaveTalked_3 : List UInt8 := dkwX6_mayHaveTalked_3 ++ dktX6_mayHaveTalked_4
def dkwX6_mayHaveTalked_2 : List UInt8 := [21, 5, 3, 182, 1, 151, 28, 160, 0, 24, 42, 21, 4, 4, 182, 1, 151, 42, 21, 5, 4, 182, 1, 151]
abbrev dktX6_mayHaveTalked_2 : List UInt8 := dkwX6_mayHaveTalked_2 ++ dktX6_mayHaveTalked_3
def dkwX6_mayHaveTalked_1 : List UInt8 := [180, 0, 13, 8, 46, 162, 0, 58, 29, 154, 0, 42, 42, 21, 4, 3, 182, 1, 151, 27, 160, 0, 35, 42]
abbrev dktX6_mayHaveTalked_1 : List UInt8 := dkwX6_mayHaveTalked_1 ++ dktX6_mayHaveTalked_2
def dkwX6_mayHaveTalked_0 : List UInt8 := [3, 62, 3, 54, 4, 21, 4, 42, 180, 0, 13, 8, 46, 162, 0, 78, 3, 54, 5, 21, 5, 42]
abbrev dktX6_mayHaveTalked_0 : List UInt8 := dkwX6_mayHaveTalked_0 ++ dktX6_mayHaveTalked_1
theorem dksX6_mayHaveTalked_0 : cX6_mayHaveTalked.data.toList.drop 0 = dktX6_mayHaveTalked_0 := by decide +kernel
theorem dksX6_mayHaveTalked_1 : cX6_mayHaveTalked.data.toList.drop 22 = dktX6_mayHaveTalked_1 := dk_seg dksX6_mayHaveTalked_0 22 rfl rfl
theorem dksX6_mayHaveTalked_2 : cX6_mayHaveTalked.data.toList.drop 46 = dktX6_mayHaveTalked_2 := dk_seg dksX6_mayHaveTalked_1 24 rfl rfl
theorem dksX6_mayHaveTalked_3 : cX6_mayHaveTalked.data.toList.drop 70 = dktX6_mayHaveTalked_3 := dk_seg dksX6_mayHaveTalked_2 24 rfl rfl
theorem dksX6_mayHaveTalked_4 : cX6_mayHaveTalked.data.toList.drop 92 = dktX6_mayHaveTalked_4 := dk_seg dksX6_mayHaveTalked_3 22 rfl rfl
theorem dksX6_mayHaveTalked_5 : cX6_mayHaveTalked.data.toList.drop 116 = dktX6_mayHaveTalked_5 := dk_seg dksX6_mayHaveTalked_4 24 rfl rfl
theorem dX6_mayHaveTalked_0 : decode cX6_mayHaveTalked 0 = .ok (.iconst 0, 1) := dk_3 (dk_at dksX6_mayHaveTalked_0 0 rfl rfl)
theorem dX6_mayHaveTalked_1 : decode cX6_mayHaveTalked 1 = .ok (.istore_n 3, 1) := dk_62 (dk_at dksX6_mayHaveTalked_0 1 rfl rfl)
theorem dX6_mayHaveTalked_2 : decode cX6_mayHaveTalked 2 = .ok (.iconst 0, 1) := dk_3 (dk_at dksX6_mayHaveTalked_0 2 rfl rfl)
theorem dX6_mayHaveTalked_3 : decode cX6_mayHaveTalked 3 = .ok (.istore 4, 2) := dk_54 4 (dk_at dksX6_mayHaveTalked_0 3 rfl rfl)
theorem dX6_mayHaveTalked_5 : decode cX6_mayHaveTalked 5 = .ok (.iload 4, 2) := dk_21 4 (dk_at dksX6_mayHaveTalked_0 5 rfl rfl)
theorem dX6_mayHaveTalked_7 : decode cX6_mayHaveTalked 7 = .ok (.aload_n 0, 1) := dk_42 (dk_at dksX6_mayHaveTalked_0 7 rfl rfl)
theorem dX6_mayHaveTalked_8 : decode cX6_mayHaveTalked 8 = .ok (.getfield 13, 3) := dk_180 0 13 (dk_at dksX6_mayHaveTalked_0 8 rfl rfl)
theorem dX6_mayHaveTalked_11 : decode cX6_mayHaveTalked 11 = .ok (.iconst 5, 1) := dk_8 (dk_at dksX6_mayHaveTalked_0 11 rfl rfl)
theorem dX6_mayHaveTalked_12 : decode cX6_mayHaveTalked 12 = .ok (.iaload, 1) := dk_46 (dk_at dksX6_mayHaveTalked_0 12 rfl rfl)
theorem dX6_mayHaveTalked_13 : decode cX6_mayHaveTalked 13 = .ok (.if_icmp .ge 78, 3) := dk_162 0 78 (dk_at dksX6_mayHaveTalked_0 13 rfl rfl)
theorem dX6_mayHaveTalked_16 : decode cX6_mayHaveTalked 16 = .ok (.iconst 0, 1) := dk_3 (dk_at dksX6_mayHaveTalked_0 16 rfl rfl)
theorem dX6_mayHaveTalked_17 : decode cX6_mayHaveTalked 17 = .ok (.istore 5, 2) := dk_54 5 (dk_at dksX6_mayHaveTalked_0 17 rfl rfl)
theorem dX6_mayHaveTalked_19 : decode cX6_mayHaveTalked 19 = .ok (.iload 5, 2) := dk_21 5 (dk_at dksX6_mayHaveTalked_0 19 rfl rfl)
theorem dX6_mayHaveTalked_21 : decode cX6_mayHaveTalked 21 = .ok (.aload_n 0, 1) := dk_42 (dk_at dksX6_mayHaveTalked_0 21 rfl rfl)
theorem dX6_mayHaveTalked_22 : decode cX6_mayHaveTalked 22 = .ok (.getfield 13, 3) := dk_180 0 13 (dk_at dksX6_mayHaveTalked_1 0 rfl rfl)
theorem dX6_mayHaveTalked_25 : decode cX6_mayHaveTalked 25 = .ok (.iconst 5, 1) := dk_8 (dk_at dksX6_mayHaveTalked_1 3 rfl rfl)
theorem dX6_mayHaveTalked_26 : decode cX6_mayHaveTalked 26 = .ok (.iaload, 1) := dk_46 (dk_at dksX6_mayHaveTalked_1 4 rfl rfl)
theorem dX6_mayHaveTalked_27 : decode cX6_mayHaveTalked 27 = .ok (.if_icmp .ge 58, 3) := dk_162 0 58 (dk_at dksX6_mayHaveTalked_1 5 rfl rfl)
theorem dX6_mayHaveTalked_30 : decode cX6_mayHaveTalked 30 = .ok (.iload_n 3, 1) := dk_29 (dk_at dksX6_mayHaveTalked_1 8 rfl rfl)
theorem dX6_mayHaveTalked_31 : decode cX6_mayHaveTalked 31 = .ok (.ifCond .ne 42, 3) := dk_154 0 42 (dk_at dksX6_mayHaveTalked_1 9 rfl rfl)
theorem dX6_mayHaveTalked_34 : decode cX6_mayHaveTalked 34 = .ok (.aload_n 0, 1) := dk_42 (dk_at dksX6_mayHaveTalked_1 12 rfl rfl)
theorem dX6_mayHaveTalked_35 : decode cX6_mayHaveTalked 35 = .ok (.iload 4, 2) := dk_21 4 (dk_at dksX6_mayHaveTalked_1 13 rfl rfl)
theorem dX6_mayHaveTalked_37 : decode cX6_mayHaveTalked 37 = .ok (.iconst 0, 1) := dk_3 (dk_at dksX6_mayHaveTalked_1 15 rfl rfl)
theorem dX6_mayHaveTalked_38 : decode cX6_mayHaveTalked 38 = .ok (.invokevirtual 407, 3) := dk_182 1 151 (dk_at dksX6_mayHaveTalked_1 16 rfl rfl)
theorem dX6_mayHaveTalked_41 : decode cX6_mayHaveTalked 41 = .ok (.iload_n 1, 1) := dk_27 (dk_at dksX6_mayHaveTalked_1 19 rfl rfl)
theorem dX6_mayHaveTalked_42 : decode cX6_mayHaveTalked 42 = .ok (.if_icmp .ne 35, 3) := dk_160 0 35 (dk_at dksX6_mayHaveTalked_1 20 rfl rfl)
theorem dX6_mayHaveTalked_45 : decode cX6_mayHaveTalked 45 = .ok (.aload_n 0, 1) := dk_42 (dk_at dksX6_mayHaveTalked_1 23 rfl rfl)
theorem dX6_mayHaveTalked_46 : decode cX6_mayHaveTalked 46 = .ok (.iload 5, 2) := dk_21 5 (dk_at dksX6_mayHaveTalked_2 0 rfl rfl)
theorem dX6_mayHaveTalked_48 : decode cX6_mayHaveTalked 48 = .ok (.iconst 0, 1) := dk_3 (dk_at dksX6_mayHaveTalked_2 2 rfl rfl)
theorem dX6_mayHaveTalked_49 : decode cX6_mayHaveTalked 49 = .ok (.invokevirtual 407, 3) := dk_182 1 151 (dk_at dksX6_mayHaveTalked_2 3 rfl rfl)
theorem dX6_mayHaveTalked_52 : decode cX6_mayHaveTalked 52 = .ok (.iload_n 2, 1) := dk_28 (dk_at dksX6_mayHaveTalked_2 6 rfl rfl)
theorem dX6_mayHaveTalked_53 : decode cX6_mayHaveTalked 53 = .ok (.if_icmp .ne 24, 3) := dk_160 0 24 (dk_at dksX6_mayHaveTalked_2 7 rfl rfl)
theorem dX6_mayHaveTalked_56 : decode cX6_mayHaveTalked 56 = .ok (.aload_n 0, 1) := dk_42 (dk_at dksX6_mayHaveTalked_2 10 rfl rfl)
theorem dX6_mayHaveTalked_57 : decode cX6_mayHaveTalked 57 = .ok (.iload 4, 2) := dk_21 4 (dk_at dksX6_mayHaveTalked_2 11 rfl rfl)
theorem dX6_mayHaveTalked_59 : decode cX6_mayHaveTalked 59 = .ok (.iconst 1, 1) := dk_4 (dk_at dksX6_mayHaveTalked_2 13 rfl rfl)
theorem dX6_mayHaveTalked_60 : decode cX6_mayHaveTalked 60 = .ok (.invokevirtual 407, 3) := dk_182 1 151 (dk_at dksX6_mayHaveTalked_2 14 rfl rfl)
theorem dX6_mayHaveTalked_63 : decode cX6_mayHaveTalked 63 = .ok (.aload_n 0, 1) := dk_42 (dk_at dksX6_mayHaveTalked_2 17 rfl rfl)
theorem dX6_mayHaveTalked_64 : decode cX6_mayHaveTalked 64 = .ok (.iload 5, 2) := dk_21 5 (dk_at dksX6_mayHaveTalked_2 18 rfl rfl)
theorem dX6_mayHaveTalked_66 : decode cX6_mayHaveTalked 66 = .ok (.iconst 1, 1) := dk_4 (dk_at dksX6_mayHaveTalked_2 20 rfl rfl)
theorem dX6_mayHaveTalked_67 : decode cX6_mayHaveTalked 67 = .ok (.invokevirtual 407, 3) := dk_182 1 151 (dk_at dksX6_mayHaveTalked_2 21 rfl rfl)
theorem dX6_mayHaveTalked_70 : decode cX6_mayHaveTalked 70 = .ok (.if_icmp .ne 7, 3) := dk_160 0 7 (dk_at dksX6_mayHaveTalked_3 0 rfl rfl)
theorem dX6_mayHaveTalked_73 : decode cX6_mayHaveTalked 73 = .ok (.iconst 1, 1) := dk_4 (dk_at dksX6_mayHaveTalked_3 3 rfl rfl)
theorem dX6_mayHaveTalked_74 : decode cX6_mayHaveTalked 74 = .ok (.goto 4, 3) := dk_167 0 4 (dk_at dksX6_mayHaveTalked_3 4 rfl rfl)
theorem dX6_mayHaveTalked_77 : decode cX6_mayHaveTalked 77 = .ok (.iconst 0, 1) := dk_3 (dk_at dksX6_mayHaveTalked_3 7 rfl rfl)
theorem dX6_mayHaveTalked_78 : decode cX6_mayHaveTalked 78 = .ok (.istore_n 3, 1) := dk_62 (dk_at dksX6_mayHaveTalked_3 8 rfl rfl)
theorem dX6_mayHaveTalked_79 : decode cX6_mayHaveTalked 79 = .ok (.iinc 5 1, 3) := dk_132 5 1 (dk_at dksX6_mayHaveTalked_3 9 rfl rfl)
theorem dX6_mayHaveTalked_82 : decode cX6_mayHaveTalked 82 = .ok (.goto (-63), 3) := dk_167 255 193 (dk_at dksX6_mayHaveTalked_3 12 rfl rfl)
theorem dX6_mayHaveTalked_85 : decode cX6_mayHaveTalked 85 = .ok (.iinc 4 1, 3) := dk_132 4 1 (dk_at dksX6_mayHaveTalked_3 15 rfl rfl)
theorem dX6_mayHaveTalked_88 : decode cX6_mayHaveTalked 88 = .ok (.goto (-83), 3) := dk_167 255 173 (dk_at dksX6_mayHaveTalked_3 18 rfl rfl)
theorem dX6_mayHaveTalked_91 : decode cX6_mayHaveTalked 91 = .ok (.iload_n 3, 1) := dk_29 (dk_at dksX6_mayHaveTalked_3 21 rfl rfl)
theorem dX6_mayHaveTalked_92 : decode cX6_mayHaveTalked 92 = .ok (.ifCond .eq 27, 3) := dk_153 0 27 (dk_at dksX6_mayHaveTalked_4 0 rfl rfl)
theorem dX6_mayHaveTalked_95 : decode cX6_mayHaveTalked 95 = .ok (.iload_n 1, 1) := dk_27 (dk_at dksX6_mayHaveTalked_4 3 rfl rfl)
theorem dX6_mayHaveTalked_96 : decode cX6_mayHaveTalked 96 = .ok (.iload_n 2, 1) := dk_28 (dk_at dksX6_mayHaveTalked_4 4 rfl rfl)
theorem dX6_mayHaveTalked_97 : decode cX6_mayHaveTalked 97 = .ok (.if_icmp .eq 22, 3) := dk_159 0 22 (dk_at dksX6_mayHaveTalked_4 5 rfl rfl)
theorem dX6_mayHaveTalked_100 : decode cX6_mayHaveTalked 100 = .ok (.aload_n 0, 1) := dk_42 (dk_at dksX6_mayHaveTalked_4 8 rfl rfl)
theorem dX6_mayHaveTalked_101 : decode cX6_mayHaveTalked 101 = .ok (.iload_n 1, 1) := dk_27 (dk_at dksX6_mayHaveTalked_4 9 rfl rfl)
theorem dX6_mayHaveTalked_102 : decode cX6_mayHaveTalked 102 = .ok (.iconst 3, 1) := dk_6 (dk_at dksX6_mayHaveTalked_4 10 rfl rfl)
theorem dX6_mayHaveTalked_103 : decode cX6_mayHaveTalked 103 = .ok (.invokevirtual 410, 3) := dk_182 1 154 (dk_at dksX6_mayHaveTalked_4 11 rfl rfl)
theorem dX6_mayHaveTalked_106 : decode cX6_mayHaveTalked 106 = .ok (.aload_n 0, 1) := dk_42 (dk_at dksX6_mayHaveTalked_4 14 rfl rfl)
theorem dX6_mayHaveTalked_107 : decode cX6_mayHaveTalked 107 = .ok (.iload_n 2, 1) := dk_28 (dk_at dksX6_mayHaveTalked_4 15 rfl rfl)
theorem dX6_mayHaveTalked_108 : decode cX6_mayHaveTalked 108 = .ok (.iconst 3, 1) := dk_6 (dk_at dksX6_mayHaveTalked_4 16 rfl rfl)
theorem dX6_mayHaveTalked_109 : decode cX6_mayHaveTalked 109 = .ok (.invokevirtual 410, 3) := dk_182 1 154 (dk_at dksX6_mayHaveTalked_4 17 rfl rfl)
theorem dX6_mayHaveTalked_112 : decode cX6_mayHaveTalked 112 = .ok (.if_icmp .ne 7, 3) := dk_160 0 7 (dk_at dksX6_mayHaveTalked_4 20 rfl rfl)
theorem dX6_mayHaveTalked_115 : decode cX6_mayHaveTalked 115 = .ok (.iconst 1, 1) := dk_4 (dk_at dksX6_mayHaveTalked_4 23 rfl rfl)
theorem dX6_mayHaveTalked_116 : decode cX6_mayHaveTalked 116 = .ok (.goto 4, 3) := dk_167 0 4 (dk_at dksX6_mayHaveTalked_5 0 rfl rfl)
theorem dX6_mayHaveTalked_119 : decode cX6_mayHaveTalked 119 = .ok (.iconst 0, 1) := dk_3 (dk_at dksX6_mayHaveTalked_5 3 rfl rfl)
theorem dX6_mayHaveTalked_120 : decode cX6_mayHaveTalked 120 = .ok (.ireturn, 1) := dk_172 (dk_at dksX6_mayHaveTalked_5 4 rfl rfl)
abbrev cX6_apart : ByteArray := prog_30_method_113_code
def yX6_apart : MethodName := ⟨RX6, "apart", "()I"⟩
def dkwX6_apart_7 : List UInt8 := [167, 255, 147, 28, 172]
abbrev dktX6_apart_7 : List UInt8 := dkwX6_apart_7 ++ []
def dkwX6_apart_6 : List UInt8 := [167, 255, 209, 132, 5, 1, 167, 255, 193, 21, 4, 153, 0, 8, 29, 184, 1, 95, 61, 132, 3, 1]
abbrev dktX6_apart_6 : List UInt8 := dkwX6_apart_6 ++ dktX6_apart_7
def dkwX6_apart_5 : List UInt8 := [153, 0, 14, 42, 21, 5, 21, 6, 182, 1, 163, 154, 0, 7, 4, 167, 0, 4, 3, 54, 4, 132, 6, 1]
abbrev dktX6_apart_5 : List UInt8 := dkwX6_apart_5 ++ dktX6_apart_6
def dkwX6_apart_4 : List UInt8 := [21, 6, 21, 5, 162, 0, 46, 21, 4, 153, 0, 32, 29, 21, 5, 122, 29, 21, 6, 122, 126, 4, 126]
abbrev dktX6_apart_4 : List UInt8 := dkwX6_apart_4 ++ dktX6_apart_5
def dkwX6_apart_3 : List UInt8 := [28, 163, 0, 6, 167, 0, 85, 4, 54, 4, 3, 54, 5, 21, 5, 16, 8, 162, 0, 62, 3, 54, 6]
abbrev dktX6_apart_3 : List UInt8 := dkwX6_apart_3 ++ dktX6_apart_4
def dkwX6_apart_2 : List UInt8 := [167, 255, 220, 3, 61, 3, 62, 29, 27, 163, 0, 110, 29, 27, 2, 130, 126, 154, 0, 96, 29, 184, 1, 95]
abbrev dktX6_apart_2 : List UInt8 := dkwX6_apart_2 ++ dktX6_apart_3
def dkwX6_apart_1 : List UInt8 := [182, 1, 160, 153, 0, 14, 4, 42, 28, 3, 182, 1, 151, 120, 167, 0, 4, 3, 128, 60, 132, 2, 1]
abbrev dktX6_apart_1 : List UInt8 := dkwX6_apart_1 ++ dktX6_apart_2
def dkwX6_apart_0 : List UInt8 := [42, 3, 181, 0, 3, 3, 60, 3, 61, 28, 42, 180, 0, 13, 8, 46, 162, 0, 32, 27, 42, 28]
abbrev dktX6_apart_0 : List UInt8 := dkwX6_apart_0 ++ dktX6_apart_1
theorem dksX6_apart_0 : cX6_apart.data.toList.drop 0 = dktX6_apart_0 := by decide +kernel
theorem dksX6_apart_1 : cX6_apart.data.toList.drop 22 = dktX6_apart_1 := dk_seg dksX6_apart_0 22 rfl rfl
theorem dksX6_apart_2 : cX6_apart.data.toList.drop 45 = dktX6_apart_2 := dk_seg dksX6_apart_1 23 rfl rfl
theorem dksX6_apart_3 : cX6_apart.data.toList.drop 69 = dktX6_apart_3 := dk_seg dksX6_apart_2 24 rfl rfl
theorem dksX6_apart_4 : cX6_apart.data.toList.drop 92 = dktX6_apart_4 := dk_seg dksX6_apart_3 23 rfl rfl
theorem dksX6_apart_5 : cX6_apart.data.toList.drop 115 = dktX6_apart_5 := dk_seg dksX6_apart_4 23 rfl rfl
theorem dksX6_apart_6 : cX6_apart.data.toList.drop 139 = dktX6_apart_6 := dk_seg dksX6_apart_5 24 rfl rfl
theorem dksX6_apart_7 : cX6_apart.data.toList.drop 161 = dktX6_apart_7 := dk_seg dksX6_apart_6 22 rfl rfl
theorem dX6_apart_0 : decode cX6_apart 0 = .ok (.aload_n 0, 1) := dk_42 (dk_at dksX6_apart_0 0 rfl rfl)
theorem dX6_apart_1 : decode cX6_apart 1 = .ok (.iconst 0, 1) := dk_3 (dk_at dksX6_apart_0 1 rfl rfl)
theorem dX6_apart_2 : decode cX6_apart 2 = .ok (.putfield 3, 3) := dk_181 0 3 (dk_at dksX6_apart_0 2 rfl rfl)
theorem dX6_apart_5 : decode cX6_apart 5 = .ok (.iconst 0, 1) := dk_3 (dk_at dksX6_apart_0 5 rfl rfl)
theorem dX6_apart_6 : decode cX6_apart 6 = .ok (.istore_n 1, 1) := dk_60 (dk_at dksX6_apart_0 6 rfl rfl)
theorem dX6_apart_7 : decode cX6_apart 7 = .ok (.iconst 0, 1) := dk_3 (dk_at dksX6_apart_0 7 rfl rfl)
theorem dX6_apart_8 : decode cX6_apart 8 = .ok (.istore_n 2, 1) := dk_61 (dk_at dksX6_apart_0 8 rfl rfl)
theorem dX6_apart_9 : decode cX6_apart 9 = .ok (.iload_n 2, 1) := dk_28 (dk_at dksX6_apart_0 9 rfl rfl)
theorem dX6_apart_10 : decode cX6_apart 10 = .ok (.aload_n 0, 1) := dk_42 (dk_at dksX6_apart_0 10 rfl rfl)
theorem dX6_apart_11 : decode cX6_apart 11 = .ok (.getfield 13, 3) := dk_180 0 13 (dk_at dksX6_apart_0 11 rfl rfl)
theorem dX6_apart_14 : decode cX6_apart 14 = .ok (.iconst 5, 1) := dk_8 (dk_at dksX6_apart_0 14 rfl rfl)
theorem dX6_apart_15 : decode cX6_apart 15 = .ok (.iaload, 1) := dk_46 (dk_at dksX6_apart_0 15 rfl rfl)
theorem dX6_apart_16 : decode cX6_apart 16 = .ok (.if_icmp .ge 32, 3) := dk_162 0 32 (dk_at dksX6_apart_0 16 rfl rfl)
theorem dX6_apart_19 : decode cX6_apart 19 = .ok (.iload_n 1, 1) := dk_27 (dk_at dksX6_apart_0 19 rfl rfl)
theorem dX6_apart_20 : decode cX6_apart 20 = .ok (.aload_n 0, 1) := dk_42 (dk_at dksX6_apart_0 20 rfl rfl)
theorem dX6_apart_21 : decode cX6_apart 21 = .ok (.iload_n 2, 1) := dk_28 (dk_at dksX6_apart_0 21 rfl rfl)
theorem dX6_apart_22 : decode cX6_apart 22 = .ok (.invokevirtual 416, 3) := dk_182 1 160 (dk_at dksX6_apart_1 0 rfl rfl)
theorem dX6_apart_25 : decode cX6_apart 25 = .ok (.ifCond .eq 14, 3) := dk_153 0 14 (dk_at dksX6_apart_1 3 rfl rfl)
theorem dX6_apart_28 : decode cX6_apart 28 = .ok (.iconst 1, 1) := dk_4 (dk_at dksX6_apart_1 6 rfl rfl)
theorem dX6_apart_29 : decode cX6_apart 29 = .ok (.aload_n 0, 1) := dk_42 (dk_at dksX6_apart_1 7 rfl rfl)
theorem dX6_apart_30 : decode cX6_apart 30 = .ok (.iload_n 2, 1) := dk_28 (dk_at dksX6_apart_1 8 rfl rfl)
theorem dX6_apart_31 : decode cX6_apart 31 = .ok (.iconst 0, 1) := dk_3 (dk_at dksX6_apart_1 9 rfl rfl)
theorem dX6_apart_32 : decode cX6_apart 32 = .ok (.invokevirtual 407, 3) := dk_182 1 151 (dk_at dksX6_apart_1 10 rfl rfl)
theorem dX6_apart_35 : decode cX6_apart 35 = .ok (.ishl, 1) := dk_120 (dk_at dksX6_apart_1 13 rfl rfl)
theorem dX6_apart_36 : decode cX6_apart 36 = .ok (.goto 4, 3) := dk_167 0 4 (dk_at dksX6_apart_1 14 rfl rfl)
theorem dX6_apart_39 : decode cX6_apart 39 = .ok (.iconst 0, 1) := dk_3 (dk_at dksX6_apart_1 17 rfl rfl)
theorem dX6_apart_40 : decode cX6_apart 40 = .ok (.ior, 1) := dk_128 (dk_at dksX6_apart_1 18 rfl rfl)
theorem dX6_apart_41 : decode cX6_apart 41 = .ok (.istore_n 1, 1) := dk_60 (dk_at dksX6_apart_1 19 rfl rfl)
theorem dX6_apart_42 : decode cX6_apart 42 = .ok (.iinc 2 1, 3) := dk_132 2 1 (dk_at dksX6_apart_1 20 rfl rfl)
theorem dX6_apart_45 : decode cX6_apart 45 = .ok (.goto (-36), 3) := dk_167 255 220 (dk_at dksX6_apart_2 0 rfl rfl)
theorem dX6_apart_48 : decode cX6_apart 48 = .ok (.iconst 0, 1) := dk_3 (dk_at dksX6_apart_2 3 rfl rfl)
theorem dX6_apart_49 : decode cX6_apart 49 = .ok (.istore_n 2, 1) := dk_61 (dk_at dksX6_apart_2 4 rfl rfl)
theorem dX6_apart_50 : decode cX6_apart 50 = .ok (.iconst 0, 1) := dk_3 (dk_at dksX6_apart_2 5 rfl rfl)
theorem dX6_apart_51 : decode cX6_apart 51 = .ok (.istore_n 3, 1) := dk_62 (dk_at dksX6_apart_2 6 rfl rfl)
theorem dX6_apart_52 : decode cX6_apart 52 = .ok (.iload_n 3, 1) := dk_29 (dk_at dksX6_apart_2 7 rfl rfl)
theorem dX6_apart_53 : decode cX6_apart 53 = .ok (.iload_n 1, 1) := dk_27 (dk_at dksX6_apart_2 8 rfl rfl)
theorem dX6_apart_54 : decode cX6_apart 54 = .ok (.if_icmp .gt 110, 3) := dk_163 0 110 (dk_at dksX6_apart_2 9 rfl rfl)
theorem dX6_apart_57 : decode cX6_apart 57 = .ok (.iload_n 3, 1) := dk_29 (dk_at dksX6_apart_2 12 rfl rfl)
theorem dX6_apart_58 : decode cX6_apart 58 = .ok (.iload_n 1, 1) := dk_27 (dk_at dksX6_apart_2 13 rfl rfl)
theorem dX6_apart_59 : decode cX6_apart 59 = .ok (.iconst (-1), 1) := dk_2 (dk_at dksX6_apart_2 14 rfl rfl)
theorem dX6_apart_60 : decode cX6_apart 60 = .ok (.ixor, 1) := dk_130 (dk_at dksX6_apart_2 15 rfl rfl)
theorem dX6_apart_61 : decode cX6_apart 61 = .ok (.iand, 1) := dk_126 (dk_at dksX6_apart_2 16 rfl rfl)
theorem dX6_apart_62 : decode cX6_apart 62 = .ok (.ifCond .ne 96, 3) := dk_154 0 96 (dk_at dksX6_apart_2 17 rfl rfl)
theorem dX6_apart_65 : decode cX6_apart 65 = .ok (.iload_n 3, 1) := dk_29 (dk_at dksX6_apart_2 20 rfl rfl)
theorem dX6_apart_66 : decode cX6_apart 66 = .ok (.invokestatic 351, 3) := dk_184 1 95 (dk_at dksX6_apart_2 21 rfl rfl)
theorem dX6_apart_69 : decode cX6_apart 69 = .ok (.iload_n 2, 1) := dk_28 (dk_at dksX6_apart_3 0 rfl rfl)
theorem dX6_apart_70 : decode cX6_apart 70 = .ok (.if_icmp .gt 6, 3) := dk_163 0 6 (dk_at dksX6_apart_3 1 rfl rfl)
theorem dX6_apart_73 : decode cX6_apart 73 = .ok (.goto 85, 3) := dk_167 0 85 (dk_at dksX6_apart_3 4 rfl rfl)
theorem dX6_apart_76 : decode cX6_apart 76 = .ok (.iconst 1, 1) := dk_4 (dk_at dksX6_apart_3 7 rfl rfl)
theorem dX6_apart_77 : decode cX6_apart 77 = .ok (.istore 4, 2) := dk_54 4 (dk_at dksX6_apart_3 8 rfl rfl)
theorem dX6_apart_79 : decode cX6_apart 79 = .ok (.iconst 0, 1) := dk_3 (dk_at dksX6_apart_3 10 rfl rfl)
theorem dX6_apart_80 : decode cX6_apart 80 = .ok (.istore 5, 2) := dk_54 5 (dk_at dksX6_apart_3 11 rfl rfl)
theorem dX6_apart_82 : decode cX6_apart 82 = .ok (.iload 5, 2) := dk_21 5 (dk_at dksX6_apart_3 13 rfl rfl)
theorem dX6_apart_84 : decode cX6_apart 84 = .ok (.bipush 8, 2) := dk_16 8 (dk_at dksX6_apart_3 15 rfl rfl)
theorem dX6_apart_86 : decode cX6_apart 86 = .ok (.if_icmp .ge 62, 3) := dk_162 0 62 (dk_at dksX6_apart_3 17 rfl rfl)
theorem dX6_apart_89 : decode cX6_apart 89 = .ok (.iconst 0, 1) := dk_3 (dk_at dksX6_apart_3 20 rfl rfl)
theorem dX6_apart_90 : decode cX6_apart 90 = .ok (.istore 6, 2) := dk_54 6 (dk_at dksX6_apart_3 21 rfl rfl)
theorem dX6_apart_92 : decode cX6_apart 92 = .ok (.iload 6, 2) := dk_21 6 (dk_at dksX6_apart_4 0 rfl rfl)
theorem dX6_apart_94 : decode cX6_apart 94 = .ok (.iload 5, 2) := dk_21 5 (dk_at dksX6_apart_4 2 rfl rfl)
theorem dX6_apart_96 : decode cX6_apart 96 = .ok (.if_icmp .ge 46, 3) := dk_162 0 46 (dk_at dksX6_apart_4 4 rfl rfl)
theorem dX6_apart_99 : decode cX6_apart 99 = .ok (.iload 4, 2) := dk_21 4 (dk_at dksX6_apart_4 7 rfl rfl)
theorem dX6_apart_101 : decode cX6_apart 101 = .ok (.ifCond .eq 32, 3) := dk_153 0 32 (dk_at dksX6_apart_4 9 rfl rfl)
theorem dX6_apart_104 : decode cX6_apart 104 = .ok (.iload_n 3, 1) := dk_29 (dk_at dksX6_apart_4 12 rfl rfl)
theorem dX6_apart_105 : decode cX6_apart 105 = .ok (.iload 5, 2) := dk_21 5 (dk_at dksX6_apart_4 13 rfl rfl)
theorem dX6_apart_107 : decode cX6_apart 107 = .ok (.ishr, 1) := dk_122 (dk_at dksX6_apart_4 15 rfl rfl)
theorem dX6_apart_108 : decode cX6_apart 108 = .ok (.iload_n 3, 1) := dk_29 (dk_at dksX6_apart_4 16 rfl rfl)
theorem dX6_apart_109 : decode cX6_apart 109 = .ok (.iload 6, 2) := dk_21 6 (dk_at dksX6_apart_4 17 rfl rfl)
theorem dX6_apart_111 : decode cX6_apart 111 = .ok (.ishr, 1) := dk_122 (dk_at dksX6_apart_4 19 rfl rfl)
theorem dX6_apart_112 : decode cX6_apart 112 = .ok (.iand, 1) := dk_126 (dk_at dksX6_apart_4 20 rfl rfl)
theorem dX6_apart_113 : decode cX6_apart 113 = .ok (.iconst 1, 1) := dk_4 (dk_at dksX6_apart_4 21 rfl rfl)
theorem dX6_apart_114 : decode cX6_apart 114 = .ok (.iand, 1) := dk_126 (dk_at dksX6_apart_4 22 rfl rfl)
theorem dX6_apart_115 : decode cX6_apart 115 = .ok (.ifCond .eq 14, 3) := dk_153 0 14 (dk_at dksX6_apart_5 0 rfl rfl)
theorem dX6_apart_118 : decode cX6_apart 118 = .ok (.aload_n 0, 1) := dk_42 (dk_at dksX6_apart_5 3 rfl rfl)
theorem dX6_apart_119 : decode cX6_apart 119 = .ok (.iload 5, 2) := dk_21 5 (dk_at dksX6_apart_5 4 rfl rfl)
theorem dX6_apart_121 : decode cX6_apart 121 = .ok (.iload 6, 2) := dk_21 6 (dk_at dksX6_apart_5 6 rfl rfl)
theorem dX6_apart_123 : decode cX6_apart 123 = .ok (.invokevirtual 419, 3) := dk_182 1 163 (dk_at dksX6_apart_5 8 rfl rfl)
theorem dX6_apart_126 : decode cX6_apart 126 = .ok (.ifCond .ne 7, 3) := dk_154 0 7 (dk_at dksX6_apart_5 11 rfl rfl)
theorem dX6_apart_129 : decode cX6_apart 129 = .ok (.iconst 1, 1) := dk_4 (dk_at dksX6_apart_5 14 rfl rfl)
theorem dX6_apart_130 : decode cX6_apart 130 = .ok (.goto 4, 3) := dk_167 0 4 (dk_at dksX6_apart_5 15 rfl rfl)
theorem dX6_apart_133 : decode cX6_apart 133 = .ok (.iconst 0, 1) := dk_3 (dk_at dksX6_apart_5 18 rfl rfl)
theorem dX6_apart_134 : decode cX6_apart 134 = .ok (.istore 4, 2) := dk_54 4 (dk_at dksX6_apart_5 19 rfl rfl)
theorem dX6_apart_136 : decode cX6_apart 136 = .ok (.iinc 6 1, 3) := dk_132 6 1 (dk_at dksX6_apart_5 21 rfl rfl)
theorem dX6_apart_139 : decode cX6_apart 139 = .ok (.goto (-47), 3) := dk_167 255 209 (dk_at dksX6_apart_6 0 rfl rfl)
theorem dX6_apart_142 : decode cX6_apart 142 = .ok (.iinc 5 1, 3) := dk_132 5 1 (dk_at dksX6_apart_6 3 rfl rfl)
theorem dX6_apart_145 : decode cX6_apart 145 = .ok (.goto (-63), 3) := dk_167 255 193 (dk_at dksX6_apart_6 6 rfl rfl)
theorem dX6_apart_148 : decode cX6_apart 148 = .ok (.iload 4, 2) := dk_21 4 (dk_at dksX6_apart_6 9 rfl rfl)
theorem dX6_apart_150 : decode cX6_apart 150 = .ok (.ifCond .eq 8, 3) := dk_153 0 8 (dk_at dksX6_apart_6 11 rfl rfl)
theorem dX6_apart_153 : decode cX6_apart 153 = .ok (.iload_n 3, 1) := dk_29 (dk_at dksX6_apart_6 14 rfl rfl)
theorem dX6_apart_154 : decode cX6_apart 154 = .ok (.invokestatic 351, 3) := dk_184 1 95 (dk_at dksX6_apart_6 15 rfl rfl)
theorem dX6_apart_157 : decode cX6_apart 157 = .ok (.istore_n 2, 1) := dk_61 (dk_at dksX6_apart_6 18 rfl rfl)
theorem dX6_apart_158 : decode cX6_apart 158 = .ok (.iinc 3 1, 3) := dk_132 3 1 (dk_at dksX6_apart_6 19 rfl rfl)
theorem dX6_apart_161 : decode cX6_apart 161 = .ok (.goto (-109), 3) := dk_167 255 147 (dk_at dksX6_apart_7 0 rfl rfl)
theorem dX6_apart_164 : decode cX6_apart 164 = .ok (.iload_n 2, 1) := dk_28 (dk_at dksX6_apart_7 3 rfl rfl)
theorem dX6_apart_165 : decode cX6_apart 165 = .ok (.ireturn, 1) := dk_172 (dk_at dksX6_apart_7 4 rfl rfl)
abbrev cX6_who : ByteArray := prog_30_method_115_code
def yX6_who : MethodName := ⟨RX6, "who", "(I)I"⟩
def dkwX6_who_7 : List UInt8 := [29, 172]
abbrev dktX6_who_7 : List UInt8 := dkwX6_who_7 ++ []
def dkwX6_who_6 : List UInt8 := [21, 4, 182, 1, 169, 153, 0, 10, 4, 21, 4, 120, 167, 0, 4, 3, 128, 62, 132, 4, 1, 167, 255, 225]
abbrev dktX6_who_6 : List UInt8 := dkwX6_who_6 ++ dktX6_who_7
def dkwX6_who_5 : List UInt8 := [182, 0, 80, 153, 0, 5, 3, 172, 3, 62, 3, 54, 4, 21, 4, 16, 8, 162, 0, 30, 29, 42, 28]
abbrev dktX6_who_5 : List UInt8 := dkwX6_who_5 ++ dktX6_who_6
def dkwX6_who_4 : List UInt8 := [4, 96, 181, 1, 166, 132, 3, 1, 167, 255, 182, 42, 28, 156, 0, 7, 4, 167, 0, 4, 3, 5]
abbrev dktX6_who_4 : List UInt8 := dkwX6_who_4 ++ dktX6_who_5
def dkwX6_who_3 : List UInt8 := [42, 180, 1, 166, 167, 0, 4, 28, 61, 42, 180, 0, 48, 42, 180, 1, 166, 29, 79, 42, 89, 180, 1, 166]
abbrev dktX6_who_3 : List UInt8 := dkwX6_who_3 ++ dktX6_who_4
def dkwX6_who_2 : List UInt8 := [29, 5, 182, 1, 73, 153, 0, 48, 42, 29, 182, 1, 80, 154, 0, 6, 167, 0, 37, 29, 27, 160, 0, 10]
abbrev dktX6_who_2 : List UInt8 := dkwX6_who_2 ++ dktX6_who_3
def dkwX6_who_1 : List UInt8 := [3, 181, 1, 166, 3, 62, 29, 42, 182, 1, 77, 162, 0, 72, 42, 180, 1, 166, 16, 8, 162, 0, 63, 42]
abbrev dktX6_who_1 : List UInt8 := dkwX6_who_1 ++ dktX6_who_2
def dkwX6_who_0 : List UInt8 := [42, 3, 181, 0, 3, 42, 42, 27, 6, 182, 1, 20, 4, 182, 0, 80, 153, 0, 5, 3, 172, 2, 61, 42]
abbrev dktX6_who_0 : List UInt8 := dkwX6_who_0 ++ dktX6_who_1
theorem dksX6_who_0 : cX6_who.data.toList.drop 0 = dktX6_who_0 := by decide +kernel
theorem dksX6_who_1 : cX6_who.data.toList.drop 24 = dktX6_who_1 := dk_seg dksX6_who_0 24 rfl rfl
theorem dksX6_who_2 : cX6_who.data.toList.drop 48 = dktX6_who_2 := dk_seg dksX6_who_1 24 rfl rfl
theorem dksX6_who_3 : cX6_who.data.toList.drop 72 = dktX6_who_3 := dk_seg dksX6_who_2 24 rfl rfl
theorem dksX6_who_4 : cX6_who.data.toList.drop 96 = dktX6_who_4 := dk_seg dksX6_who_3 24 rfl rfl
theorem dksX6_who_5 : cX6_who.data.toList.drop 118 = dktX6_who_5 := dk_seg dksX6_who_4 22 rfl rfl
theorem dksX6_who_6 : cX6_who.data.toList.drop 141 = dktX6_who_6 := dk_seg dksX6_who_5 23 rfl rfl
theorem dksX6_who_7 : cX6_who.data.toList.drop 165 = dktX6_who_7 := dk_seg dksX6_who_6 24 rfl rfl
theorem dX6_who_0 : decode cX6_who 0 = .ok (.aload_n 0, 1) := dk_42 (dk_at dksX6_who_0 0 rfl rfl)
theorem dX6_who_1 : decode cX6_who 1 = .ok (.iconst 0, 1) := dk_3 (dk_at dksX6_who_0 1 rfl rfl)
theorem dX6_who_2 : decode cX6_who 2 = .ok (.putfield 3, 3) := dk_181 0 3 (dk_at dksX6_who_0 2 rfl rfl)
theorem dX6_who_5 : decode cX6_who 5 = .ok (.aload_n 0, 1) := dk_42 (dk_at dksX6_who_0 5 rfl rfl)
theorem dX6_who_6 : decode cX6_who 6 = .ok (.aload_n 0, 1) := dk_42 (dk_at dksX6_who_0 6 rfl rfl)
theorem dX6_who_7 : decode cX6_who 7 = .ok (.iload_n 1, 1) := dk_27 (dk_at dksX6_who_0 7 rfl rfl)
theorem dX6_who_8 : decode cX6_who 8 = .ok (.iconst 3, 1) := dk_6 (dk_at dksX6_who_0 8 rfl rfl)
theorem dX6_who_9 : decode cX6_who 9 = .ok (.invokevirtual 276, 3) := dk_182 1 20 (dk_at dksX6_who_0 9 rfl rfl)
theorem dX6_who_12 : decode cX6_who 12 = .ok (.iconst 1, 1) := dk_4 (dk_at dksX6_who_0 12 rfl rfl)
theorem dX6_who_13 : decode cX6_who 13 = .ok (.invokevirtual 80, 3) := dk_182 0 80 (dk_at dksX6_who_0 13 rfl rfl)
theorem dX6_who_16 : decode cX6_who 16 = .ok (.ifCond .eq 5, 3) := dk_153 0 5 (dk_at dksX6_who_0 16 rfl rfl)
theorem dX6_who_19 : decode cX6_who 19 = .ok (.iconst 0, 1) := dk_3 (dk_at dksX6_who_0 19 rfl rfl)
theorem dX6_who_20 : decode cX6_who 20 = .ok (.ireturn, 1) := dk_172 (dk_at dksX6_who_0 20 rfl rfl)
theorem dX6_who_21 : decode cX6_who 21 = .ok (.iconst (-1), 1) := dk_2 (dk_at dksX6_who_0 21 rfl rfl)
theorem dX6_who_22 : decode cX6_who 22 = .ok (.istore_n 2, 1) := dk_61 (dk_at dksX6_who_0 22 rfl rfl)
theorem dX6_who_23 : decode cX6_who 23 = .ok (.aload_n 0, 1) := dk_42 (dk_at dksX6_who_0 23 rfl rfl)
theorem dX6_who_24 : decode cX6_who 24 = .ok (.iconst 0, 1) := dk_3 (dk_at dksX6_who_1 0 rfl rfl)
theorem dX6_who_25 : decode cX6_who 25 = .ok (.putfield 422, 3) := dk_181 1 166 (dk_at dksX6_who_1 1 rfl rfl)
theorem dX6_who_28 : decode cX6_who 28 = .ok (.iconst 0, 1) := dk_3 (dk_at dksX6_who_1 4 rfl rfl)
theorem dX6_who_29 : decode cX6_who 29 = .ok (.istore_n 3, 1) := dk_62 (dk_at dksX6_who_1 5 rfl rfl)
theorem dX6_who_30 : decode cX6_who 30 = .ok (.iload_n 3, 1) := dk_29 (dk_at dksX6_who_1 6 rfl rfl)
theorem dX6_who_31 : decode cX6_who 31 = .ok (.aload_n 0, 1) := dk_42 (dk_at dksX6_who_1 7 rfl rfl)
theorem dX6_who_32 : decode cX6_who 32 = .ok (.invokevirtual 333, 3) := dk_182 1 77 (dk_at dksX6_who_1 8 rfl rfl)
theorem dX6_who_35 : decode cX6_who 35 = .ok (.if_icmp .ge 72, 3) := dk_162 0 72 (dk_at dksX6_who_1 11 rfl rfl)
theorem dX6_who_38 : decode cX6_who 38 = .ok (.aload_n 0, 1) := dk_42 (dk_at dksX6_who_1 14 rfl rfl)
theorem dX6_who_39 : decode cX6_who 39 = .ok (.getfield 422, 3) := dk_180 1 166 (dk_at dksX6_who_1 15 rfl rfl)
theorem dX6_who_42 : decode cX6_who 42 = .ok (.bipush 8, 2) := dk_16 8 (dk_at dksX6_who_1 18 rfl rfl)
theorem dX6_who_44 : decode cX6_who 44 = .ok (.if_icmp .ge 63, 3) := dk_162 0 63 (dk_at dksX6_who_1 20 rfl rfl)
theorem dX6_who_47 : decode cX6_who 47 = .ok (.aload_n 0, 1) := dk_42 (dk_at dksX6_who_1 23 rfl rfl)
theorem dX6_who_48 : decode cX6_who 48 = .ok (.iload_n 3, 1) := dk_29 (dk_at dksX6_who_2 0 rfl rfl)
theorem dX6_who_49 : decode cX6_who 49 = .ok (.iconst 2, 1) := dk_5 (dk_at dksX6_who_2 1 rfl rfl)
theorem dX6_who_50 : decode cX6_who 50 = .ok (.invokevirtual 329, 3) := dk_182 1 73 (dk_at dksX6_who_2 2 rfl rfl)
theorem dX6_who_53 : decode cX6_who 53 = .ok (.ifCond .eq 48, 3) := dk_153 0 48 (dk_at dksX6_who_2 5 rfl rfl)
theorem dX6_who_56 : decode cX6_who 56 = .ok (.aload_n 0, 1) := dk_42 (dk_at dksX6_who_2 8 rfl rfl)
theorem dX6_who_57 : decode cX6_who 57 = .ok (.iload_n 3, 1) := dk_29 (dk_at dksX6_who_2 9 rfl rfl)
theorem dX6_who_58 : decode cX6_who 58 = .ok (.invokevirtual 336, 3) := dk_182 1 80 (dk_at dksX6_who_2 10 rfl rfl)
theorem dX6_who_61 : decode cX6_who 61 = .ok (.ifCond .ne 6, 3) := dk_154 0 6 (dk_at dksX6_who_2 13 rfl rfl)
theorem dX6_who_64 : decode cX6_who 64 = .ok (.goto 37, 3) := dk_167 0 37 (dk_at dksX6_who_2 16 rfl rfl)
theorem dX6_who_67 : decode cX6_who 67 = .ok (.iload_n 3, 1) := dk_29 (dk_at dksX6_who_2 19 rfl rfl)
theorem dX6_who_68 : decode cX6_who 68 = .ok (.iload_n 1, 1) := dk_27 (dk_at dksX6_who_2 20 rfl rfl)
theorem dX6_who_69 : decode cX6_who 69 = .ok (.if_icmp .ne 10, 3) := dk_160 0 10 (dk_at dksX6_who_2 21 rfl rfl)
theorem dX6_who_72 : decode cX6_who 72 = .ok (.aload_n 0, 1) := dk_42 (dk_at dksX6_who_3 0 rfl rfl)
theorem dX6_who_73 : decode cX6_who 73 = .ok (.getfield 422, 3) := dk_180 1 166 (dk_at dksX6_who_3 1 rfl rfl)
theorem dX6_who_76 : decode cX6_who 76 = .ok (.goto 4, 3) := dk_167 0 4 (dk_at dksX6_who_3 4 rfl rfl)
theorem dX6_who_79 : decode cX6_who 79 = .ok (.iload_n 2, 1) := dk_28 (dk_at dksX6_who_3 7 rfl rfl)
theorem dX6_who_80 : decode cX6_who 80 = .ok (.istore_n 2, 1) := dk_61 (dk_at dksX6_who_3 8 rfl rfl)
theorem dX6_who_81 : decode cX6_who 81 = .ok (.aload_n 0, 1) := dk_42 (dk_at dksX6_who_3 9 rfl rfl)
theorem dX6_who_82 : decode cX6_who 82 = .ok (.getfield 48, 3) := dk_180 0 48 (dk_at dksX6_who_3 10 rfl rfl)
theorem dX6_who_85 : decode cX6_who 85 = .ok (.aload_n 0, 1) := dk_42 (dk_at dksX6_who_3 13 rfl rfl)
theorem dX6_who_86 : decode cX6_who 86 = .ok (.getfield 422, 3) := dk_180 1 166 (dk_at dksX6_who_3 14 rfl rfl)
theorem dX6_who_89 : decode cX6_who 89 = .ok (.iload_n 3, 1) := dk_29 (dk_at dksX6_who_3 17 rfl rfl)
theorem dX6_who_90 : decode cX6_who 90 = .ok (.iastore, 1) := dk_79 (dk_at dksX6_who_3 18 rfl rfl)
theorem dX6_who_91 : decode cX6_who 91 = .ok (.aload_n 0, 1) := dk_42 (dk_at dksX6_who_3 19 rfl rfl)
theorem dX6_who_92 : decode cX6_who 92 = .ok (.dup, 1) := dk_89 (dk_at dksX6_who_3 20 rfl rfl)
theorem dX6_who_93 : decode cX6_who 93 = .ok (.getfield 422, 3) := dk_180 1 166 (dk_at dksX6_who_3 21 rfl rfl)
theorem dX6_who_96 : decode cX6_who 96 = .ok (.iconst 1, 1) := dk_4 (dk_at dksX6_who_4 0 rfl rfl)
theorem dX6_who_97 : decode cX6_who 97 = .ok (.iadd, 1) := dk_96 (dk_at dksX6_who_4 1 rfl rfl)
theorem dX6_who_98 : decode cX6_who 98 = .ok (.putfield 422, 3) := dk_181 1 166 (dk_at dksX6_who_4 2 rfl rfl)
theorem dX6_who_101 : decode cX6_who 101 = .ok (.iinc 3 1, 3) := dk_132 3 1 (dk_at dksX6_who_4 5 rfl rfl)
theorem dX6_who_104 : decode cX6_who 104 = .ok (.goto (-74), 3) := dk_167 255 182 (dk_at dksX6_who_4 8 rfl rfl)
theorem dX6_who_107 : decode cX6_who 107 = .ok (.aload_n 0, 1) := dk_42 (dk_at dksX6_who_4 11 rfl rfl)
theorem dX6_who_108 : decode cX6_who 108 = .ok (.iload_n 2, 1) := dk_28 (dk_at dksX6_who_4 12 rfl rfl)
theorem dX6_who_109 : decode cX6_who 109 = .ok (.ifCond .ge 7, 3) := dk_156 0 7 (dk_at dksX6_who_4 13 rfl rfl)
theorem dX6_who_112 : decode cX6_who 112 = .ok (.iconst 1, 1) := dk_4 (dk_at dksX6_who_4 16 rfl rfl)
theorem dX6_who_113 : decode cX6_who 113 = .ok (.goto 4, 3) := dk_167 0 4 (dk_at dksX6_who_4 17 rfl rfl)
theorem dX6_who_116 : decode cX6_who 116 = .ok (.iconst 0, 1) := dk_3 (dk_at dksX6_who_4 20 rfl rfl)
theorem dX6_who_117 : decode cX6_who 117 = .ok (.iconst 2, 1) := dk_5 (dk_at dksX6_who_4 21 rfl rfl)
theorem dX6_who_118 : decode cX6_who 118 = .ok (.invokevirtual 80, 3) := dk_182 0 80 (dk_at dksX6_who_5 0 rfl rfl)
theorem dX6_who_121 : decode cX6_who 121 = .ok (.ifCond .eq 5, 3) := dk_153 0 5 (dk_at dksX6_who_5 3 rfl rfl)
theorem dX6_who_124 : decode cX6_who 124 = .ok (.iconst 0, 1) := dk_3 (dk_at dksX6_who_5 6 rfl rfl)
theorem dX6_who_125 : decode cX6_who 125 = .ok (.ireturn, 1) := dk_172 (dk_at dksX6_who_5 7 rfl rfl)
theorem dX6_who_126 : decode cX6_who 126 = .ok (.iconst 0, 1) := dk_3 (dk_at dksX6_who_5 8 rfl rfl)
theorem dX6_who_127 : decode cX6_who 127 = .ok (.istore_n 3, 1) := dk_62 (dk_at dksX6_who_5 9 rfl rfl)
theorem dX6_who_128 : decode cX6_who 128 = .ok (.iconst 0, 1) := dk_3 (dk_at dksX6_who_5 10 rfl rfl)
theorem dX6_who_129 : decode cX6_who 129 = .ok (.istore 4, 2) := dk_54 4 (dk_at dksX6_who_5 11 rfl rfl)
theorem dX6_who_131 : decode cX6_who 131 = .ok (.iload 4, 2) := dk_21 4 (dk_at dksX6_who_5 13 rfl rfl)
theorem dX6_who_133 : decode cX6_who 133 = .ok (.bipush 8, 2) := dk_16 8 (dk_at dksX6_who_5 15 rfl rfl)
theorem dX6_who_135 : decode cX6_who 135 = .ok (.if_icmp .ge 30, 3) := dk_162 0 30 (dk_at dksX6_who_5 17 rfl rfl)
theorem dX6_who_138 : decode cX6_who 138 = .ok (.iload_n 3, 1) := dk_29 (dk_at dksX6_who_5 20 rfl rfl)
theorem dX6_who_139 : decode cX6_who 139 = .ok (.aload_n 0, 1) := dk_42 (dk_at dksX6_who_5 21 rfl rfl)
theorem dX6_who_140 : decode cX6_who 140 = .ok (.iload_n 2, 1) := dk_28 (dk_at dksX6_who_5 22 rfl rfl)
theorem dX6_who_141 : decode cX6_who 141 = .ok (.iload 4, 2) := dk_21 4 (dk_at dksX6_who_6 0 rfl rfl)
theorem dX6_who_143 : decode cX6_who 143 = .ok (.invokevirtual 425, 3) := dk_182 1 169 (dk_at dksX6_who_6 2 rfl rfl)
theorem dX6_who_146 : decode cX6_who 146 = .ok (.ifCond .eq 10, 3) := dk_153 0 10 (dk_at dksX6_who_6 5 rfl rfl)
theorem dX6_who_149 : decode cX6_who 149 = .ok (.iconst 1, 1) := dk_4 (dk_at dksX6_who_6 8 rfl rfl)
theorem dX6_who_150 : decode cX6_who 150 = .ok (.iload 4, 2) := dk_21 4 (dk_at dksX6_who_6 9 rfl rfl)
theorem dX6_who_152 : decode cX6_who 152 = .ok (.ishl, 1) := dk_120 (dk_at dksX6_who_6 11 rfl rfl)
theorem dX6_who_153 : decode cX6_who 153 = .ok (.goto 4, 3) := dk_167 0 4 (dk_at dksX6_who_6 12 rfl rfl)
theorem dX6_who_156 : decode cX6_who 156 = .ok (.iconst 0, 1) := dk_3 (dk_at dksX6_who_6 15 rfl rfl)
theorem dX6_who_157 : decode cX6_who 157 = .ok (.ior, 1) := dk_128 (dk_at dksX6_who_6 16 rfl rfl)
theorem dX6_who_158 : decode cX6_who 158 = .ok (.istore_n 3, 1) := dk_62 (dk_at dksX6_who_6 17 rfl rfl)
theorem dX6_who_159 : decode cX6_who 159 = .ok (.iinc 4 1, 3) := dk_132 4 1 (dk_at dksX6_who_6 18 rfl rfl)
theorem dX6_who_162 : decode cX6_who 162 = .ok (.goto (-31), 3) := dk_167 255 225 (dk_at dksX6_who_6 21 rfl rfl)
theorem dX6_who_165 : decode cX6_who 165 = .ok (.iload_n 3, 1) := dk_29 (dk_at dksX6_who_7 0 rfl rfl)
theorem dX6_who_166 : decode cX6_who 166 = .ok (.ireturn, 1) := dk_172 (dk_at dksX6_who_7 1 rfl rfl)
abbrev cX6_canAll : ByteArray := prog_30_method_114_code
def yX6_canAll : MethodName := ⟨RX6, "canAll", "(II)Z"⟩
def dkwX6_canAll_10 : List UInt8 := [42, 180, 0, 51, 21, 4, 51, 153, 0, 7, 4, 167, 0, 4, 3, 62, 132, 4, 1, 167, 255, 213, 29, 172]
abbrev dktX6_canAll_10 : List UInt8 := dkwX6_canAll_10 ++ []
def dkwX6_canAll_9 : List UInt8 := [21, 4, 17, 1, 0, 162, 0, 41, 29, 154, 0, 25, 21, 4, 184, 1, 95, 42, 180, 1, 166, 160, 0, 17]
abbrev dktX6_canAll_9 : List UInt8 := dkwX6_canAll_9 ++ dktX6_canAll_10
def dkwX6_canAll_8 : List UInt8 := [180, 0, 51, 21, 5, 51, 84, 132, 5, 255, 167, 255, 142, 132, 3, 1, 167, 255, 87, 3, 62, 3, 54, 4]
abbrev dktX6_canAll_8 : List UInt8 := dkwX6_canAll_8 ++ dktX6_canAll_9
def dkwX6_canAll_7 : List UInt8 := [180, 0, 51, 21, 5, 21, 5, 184, 1, 95, 29, 4, 96, 160, 0, 8, 21, 6, 167, 0, 10, 42]
abbrev dktX6_canAll_7 : List UInt8 := dkwX6_canAll_7 ++ dktX6_canAll_8
def dkwX6_canAll_6 : List UInt8 := [120, 2, 130, 126, 51, 153, 0, 7, 4, 167, 0, 4, 3, 54, 6, 132, 7, 1, 167, 255, 189, 42]
abbrev dktX6_canAll_6 : List UInt8 := dkwX6_canAll_6 ++ dktX6_canAll_7
def dkwX6_canAll_5 : List UInt8 := [21, 7, 122, 21, 4, 21, 7, 122, 126, 4, 126, 4, 160, 0, 24, 42, 180, 0, 51, 21, 5, 4, 21, 7]
abbrev dktX6_canAll_5 : List UInt8 := dkwX6_canAll_5 ++ dktX6_canAll_6
def dkwX6_canAll_4 : List UInt8 := [16, 8, 162, 0, 66, 21, 5, 184, 1, 95, 29, 4, 96, 160, 0, 55, 21, 6, 154, 0, 37, 21, 5]
abbrev dktX6_canAll_4 : List UInt8 := dkwX6_canAll_4 ++ dktX6_canAll_5
def dkwX6_canAll_3 : List UInt8 := [182, 1, 67, 54, 4, 17, 0, 255, 54, 5, 21, 5, 155, 0, 115, 3, 54, 6, 3, 54, 7, 21, 7]
abbrev dktX6_canAll_3 : List UInt8 := dkwX6_canAll_3 ++ dktX6_canAll_4
def dkwX6_canAll_2 : List UInt8 := [180, 0, 48, 29, 46, 6, 182, 1, 67, 4, 28, 120, 126, 167, 0, 14, 42, 42, 180, 0, 48, 29, 46, 6]
abbrev dktX6_canAll_2 : List UInt8 := dkwX6_canAll_2 ++ dktX6_canAll_3
def dkwX6_canAll_1 : List UInt8 := [132, 3, 1, 167, 255, 231, 3, 62, 29, 42, 180, 1, 166, 162, 0, 167, 29, 27, 160, 0, 21, 42, 42]
abbrev dktX6_canAll_1 : List UInt8 := dkwX6_canAll_1 ++ dktX6_canAll_2
def dkwX6_canAll_0 : List UInt8 := [3, 62, 29, 17, 1, 0, 162, 0, 24, 42, 180, 0, 51, 29, 29, 154, 0, 7, 4, 167, 0, 4, 3, 84]
abbrev dktX6_canAll_0 : List UInt8 := dkwX6_canAll_0 ++ dktX6_canAll_1
theorem dksX6_canAll_0 : cX6_canAll.data.toList.drop 0 = dktX6_canAll_0 := by decide +kernel
theorem dksX6_canAll_1 : cX6_canAll.data.toList.drop 24 = dktX6_canAll_1 := dk_seg dksX6_canAll_0 24 rfl rfl
theorem dksX6_canAll_2 : cX6_canAll.data.toList.drop 47 = dktX6_canAll_2 := dk_seg dksX6_canAll_1 23 rfl rfl
theorem dksX6_canAll_3 : cX6_canAll.data.toList.drop 71 = dktX6_canAll_3 := dk_seg dksX6_canAll_2 24 rfl rfl
theorem dksX6_canAll_4 : cX6_canAll.data.toList.drop 94 = dktX6_canAll_4 := dk_seg dksX6_canAll_3 23 rfl rfl
theorem dksX6_canAll_5 : cX6_canAll.data.toList.drop 117 = dktX6_canAll_5 := dk_seg dksX6_canAll_4 23 rfl rfl
theorem dksX6_canAll_6 : cX6_canAll.data.toList.drop 141 = dktX6_canAll_6 := dk_seg dksX6_canAll_5 24 rfl rfl
theorem dksX6_canAll_7 : cX6_canAll.data.toList.drop 163 = dktX6_canAll_7 := dk_seg dksX6_canAll_6 22 rfl rfl
theorem dksX6_canAll_8 : cX6_canAll.data.toList.drop 185 = dktX6_canAll_8 := dk_seg dksX6_canAll_7 22 rfl rfl
theorem dksX6_canAll_9 : cX6_canAll.data.toList.drop 209 = dktX6_canAll_9 := dk_seg dksX6_canAll_8 24 rfl rfl
theorem dksX6_canAll_10 : cX6_canAll.data.toList.drop 233 = dktX6_canAll_10 := dk_seg dksX6_canAll_9 24 rfl rfl
theorem dX6_canAll_0 : decode cX6_canAll 0 = .ok (.iconst 0, 1) := dk_3 (dk_at dksX6_canAll_0 0 rfl rfl)
theorem dX6_canAll_1 : decode cX6_canAll 1 = .ok (.istore_n 3, 1) := dk_62 (dk_at dksX6_canAll_0 1 rfl rfl)
theorem dX6_canAll_2 : decode cX6_canAll 2 = .ok (.iload_n 3, 1) := dk_29 (dk_at dksX6_canAll_0 2 rfl rfl)
theorem dX6_canAll_3 : decode cX6_canAll 3 = .ok (.sipush 256, 3) := dk_17 1 0 (dk_at dksX6_canAll_0 3 rfl rfl)
theorem dX6_canAll_6 : decode cX6_canAll 6 = .ok (.if_icmp .ge 24, 3) := dk_162 0 24 (dk_at dksX6_canAll_0 6 rfl rfl)
theorem dX6_canAll_9 : decode cX6_canAll 9 = .ok (.aload_n 0, 1) := dk_42 (dk_at dksX6_canAll_0 9 rfl rfl)
theorem dX6_canAll_10 : decode cX6_canAll 10 = .ok (.getfield 51, 3) := dk_180 0 51 (dk_at dksX6_canAll_0 10 rfl rfl)
theorem dX6_canAll_13 : decode cX6_canAll 13 = .ok (.iload_n 3, 1) := dk_29 (dk_at dksX6_canAll_0 13 rfl rfl)
theorem dX6_canAll_14 : decode cX6_canAll 14 = .ok (.iload_n 3, 1) := dk_29 (dk_at dksX6_canAll_0 14 rfl rfl)
theorem dX6_canAll_15 : decode cX6_canAll 15 = .ok (.ifCond .ne 7, 3) := dk_154 0 7 (dk_at dksX6_canAll_0 15 rfl rfl)
theorem dX6_canAll_18 : decode cX6_canAll 18 = .ok (.iconst 1, 1) := dk_4 (dk_at dksX6_canAll_0 18 rfl rfl)
theorem dX6_canAll_19 : decode cX6_canAll 19 = .ok (.goto 4, 3) := dk_167 0 4 (dk_at dksX6_canAll_0 19 rfl rfl)
theorem dX6_canAll_22 : decode cX6_canAll 22 = .ok (.iconst 0, 1) := dk_3 (dk_at dksX6_canAll_0 22 rfl rfl)
theorem dX6_canAll_23 : decode cX6_canAll 23 = .ok (.bastore, 1) := dk_84 (dk_at dksX6_canAll_0 23 rfl rfl)
theorem dX6_canAll_24 : decode cX6_canAll 24 = .ok (.iinc 3 1, 3) := dk_132 3 1 (dk_at dksX6_canAll_1 0 rfl rfl)
theorem dX6_canAll_27 : decode cX6_canAll 27 = .ok (.goto (-25), 3) := dk_167 255 231 (dk_at dksX6_canAll_1 3 rfl rfl)
theorem dX6_canAll_30 : decode cX6_canAll 30 = .ok (.iconst 0, 1) := dk_3 (dk_at dksX6_canAll_1 6 rfl rfl)
theorem dX6_canAll_31 : decode cX6_canAll 31 = .ok (.istore_n 3, 1) := dk_62 (dk_at dksX6_canAll_1 7 rfl rfl)
theorem dX6_canAll_32 : decode cX6_canAll 32 = .ok (.iload_n 3, 1) := dk_29 (dk_at dksX6_canAll_1 8 rfl rfl)
theorem dX6_canAll_33 : decode cX6_canAll 33 = .ok (.aload_n 0, 1) := dk_42 (dk_at dksX6_canAll_1 9 rfl rfl)
theorem dX6_canAll_34 : decode cX6_canAll 34 = .ok (.getfield 422, 3) := dk_180 1 166 (dk_at dksX6_canAll_1 10 rfl rfl)
theorem dX6_canAll_37 : decode cX6_canAll 37 = .ok (.if_icmp .ge 167, 3) := dk_162 0 167 (dk_at dksX6_canAll_1 13 rfl rfl)
theorem dX6_canAll_40 : decode cX6_canAll 40 = .ok (.iload_n 3, 1) := dk_29 (dk_at dksX6_canAll_1 16 rfl rfl)
theorem dX6_canAll_41 : decode cX6_canAll 41 = .ok (.iload_n 1, 1) := dk_27 (dk_at dksX6_canAll_1 17 rfl rfl)
theorem dX6_canAll_42 : decode cX6_canAll 42 = .ok (.if_icmp .ne 21, 3) := dk_160 0 21 (dk_at dksX6_canAll_1 18 rfl rfl)
theorem dX6_canAll_45 : decode cX6_canAll 45 = .ok (.aload_n 0, 1) := dk_42 (dk_at dksX6_canAll_1 21 rfl rfl)
theorem dX6_canAll_46 : decode cX6_canAll 46 = .ok (.aload_n 0, 1) := dk_42 (dk_at dksX6_canAll_1 22 rfl rfl)
theorem dX6_canAll_47 : decode cX6_canAll 47 = .ok (.getfield 48, 3) := dk_180 0 48 (dk_at dksX6_canAll_2 0 rfl rfl)
theorem dX6_canAll_50 : decode cX6_canAll 50 = .ok (.iload_n 3, 1) := dk_29 (dk_at dksX6_canAll_2 3 rfl rfl)
theorem dX6_canAll_51 : decode cX6_canAll 51 = .ok (.iaload, 1) := dk_46 (dk_at dksX6_canAll_2 4 rfl rfl)
theorem dX6_canAll_52 : decode cX6_canAll 52 = .ok (.iconst 3, 1) := dk_6 (dk_at dksX6_canAll_2 5 rfl rfl)
theorem dX6_canAll_53 : decode cX6_canAll 53 = .ok (.invokevirtual 323, 3) := dk_182 1 67 (dk_at dksX6_canAll_2 6 rfl rfl)
theorem dX6_canAll_56 : decode cX6_canAll 56 = .ok (.iconst 1, 1) := dk_4 (dk_at dksX6_canAll_2 9 rfl rfl)
theorem dX6_canAll_57 : decode cX6_canAll 57 = .ok (.iload_n 2, 1) := dk_28 (dk_at dksX6_canAll_2 10 rfl rfl)
theorem dX6_canAll_58 : decode cX6_canAll 58 = .ok (.ishl, 1) := dk_120 (dk_at dksX6_canAll_2 11 rfl rfl)
theorem dX6_canAll_59 : decode cX6_canAll 59 = .ok (.iand, 1) := dk_126 (dk_at dksX6_canAll_2 12 rfl rfl)
theorem dX6_canAll_60 : decode cX6_canAll 60 = .ok (.goto 14, 3) := dk_167 0 14 (dk_at dksX6_canAll_2 13 rfl rfl)
theorem dX6_canAll_63 : decode cX6_canAll 63 = .ok (.aload_n 0, 1) := dk_42 (dk_at dksX6_canAll_2 16 rfl rfl)
theorem dX6_canAll_64 : decode cX6_canAll 64 = .ok (.aload_n 0, 1) := dk_42 (dk_at dksX6_canAll_2 17 rfl rfl)
theorem dX6_canAll_65 : decode cX6_canAll 65 = .ok (.getfield 48, 3) := dk_180 0 48 (dk_at dksX6_canAll_2 18 rfl rfl)
theorem dX6_canAll_68 : decode cX6_canAll 68 = .ok (.iload_n 3, 1) := dk_29 (dk_at dksX6_canAll_2 21 rfl rfl)
theorem dX6_canAll_69 : decode cX6_canAll 69 = .ok (.iaload, 1) := dk_46 (dk_at dksX6_canAll_2 22 rfl rfl)
theorem dX6_canAll_70 : decode cX6_canAll 70 = .ok (.iconst 3, 1) := dk_6 (dk_at dksX6_canAll_2 23 rfl rfl)
theorem dX6_canAll_71 : decode cX6_canAll 71 = .ok (.invokevirtual 323, 3) := dk_182 1 67 (dk_at dksX6_canAll_3 0 rfl rfl)
theorem dX6_canAll_74 : decode cX6_canAll 74 = .ok (.istore 4, 2) := dk_54 4 (dk_at dksX6_canAll_3 3 rfl rfl)
theorem dX6_canAll_76 : decode cX6_canAll 76 = .ok (.sipush 255, 3) := dk_17 0 255 (dk_at dksX6_canAll_3 5 rfl rfl)
theorem dX6_canAll_79 : decode cX6_canAll 79 = .ok (.istore 5, 2) := dk_54 5 (dk_at dksX6_canAll_3 8 rfl rfl)
theorem dX6_canAll_81 : decode cX6_canAll 81 = .ok (.iload 5, 2) := dk_21 5 (dk_at dksX6_canAll_3 10 rfl rfl)
theorem dX6_canAll_83 : decode cX6_canAll 83 = .ok (.ifCond .lt 115, 3) := dk_155 0 115 (dk_at dksX6_canAll_3 12 rfl rfl)
theorem dX6_canAll_86 : decode cX6_canAll 86 = .ok (.iconst 0, 1) := dk_3 (dk_at dksX6_canAll_3 15 rfl rfl)
theorem dX6_canAll_87 : decode cX6_canAll 87 = .ok (.istore 6, 2) := dk_54 6 (dk_at dksX6_canAll_3 16 rfl rfl)
theorem dX6_canAll_89 : decode cX6_canAll 89 = .ok (.iconst 0, 1) := dk_3 (dk_at dksX6_canAll_3 18 rfl rfl)
theorem dX6_canAll_90 : decode cX6_canAll 90 = .ok (.istore 7, 2) := dk_54 7 (dk_at dksX6_canAll_3 19 rfl rfl)
theorem dX6_canAll_92 : decode cX6_canAll 92 = .ok (.iload 7, 2) := dk_21 7 (dk_at dksX6_canAll_3 21 rfl rfl)
theorem dX6_canAll_94 : decode cX6_canAll 94 = .ok (.bipush 8, 2) := dk_16 8 (dk_at dksX6_canAll_4 0 rfl rfl)
theorem dX6_canAll_96 : decode cX6_canAll 96 = .ok (.if_icmp .ge 66, 3) := dk_162 0 66 (dk_at dksX6_canAll_4 2 rfl rfl)
theorem dX6_canAll_99 : decode cX6_canAll 99 = .ok (.iload 5, 2) := dk_21 5 (dk_at dksX6_canAll_4 5 rfl rfl)
theorem dX6_canAll_101 : decode cX6_canAll 101 = .ok (.invokestatic 351, 3) := dk_184 1 95 (dk_at dksX6_canAll_4 7 rfl rfl)
theorem dX6_canAll_104 : decode cX6_canAll 104 = .ok (.iload_n 3, 1) := dk_29 (dk_at dksX6_canAll_4 10 rfl rfl)
theorem dX6_canAll_105 : decode cX6_canAll 105 = .ok (.iconst 1, 1) := dk_4 (dk_at dksX6_canAll_4 11 rfl rfl)
theorem dX6_canAll_106 : decode cX6_canAll 106 = .ok (.iadd, 1) := dk_96 (dk_at dksX6_canAll_4 12 rfl rfl)
theorem dX6_canAll_107 : decode cX6_canAll 107 = .ok (.if_icmp .ne 55, 3) := dk_160 0 55 (dk_at dksX6_canAll_4 13 rfl rfl)
theorem dX6_canAll_110 : decode cX6_canAll 110 = .ok (.iload 6, 2) := dk_21 6 (dk_at dksX6_canAll_4 16 rfl rfl)
theorem dX6_canAll_112 : decode cX6_canAll 112 = .ok (.ifCond .ne 37, 3) := dk_154 0 37 (dk_at dksX6_canAll_4 18 rfl rfl)
theorem dX6_canAll_115 : decode cX6_canAll 115 = .ok (.iload 5, 2) := dk_21 5 (dk_at dksX6_canAll_4 21 rfl rfl)
theorem dX6_canAll_117 : decode cX6_canAll 117 = .ok (.iload 7, 2) := dk_21 7 (dk_at dksX6_canAll_5 0 rfl rfl)
theorem dX6_canAll_119 : decode cX6_canAll 119 = .ok (.ishr, 1) := dk_122 (dk_at dksX6_canAll_5 2 rfl rfl)
theorem dX6_canAll_120 : decode cX6_canAll 120 = .ok (.iload 4, 2) := dk_21 4 (dk_at dksX6_canAll_5 3 rfl rfl)
theorem dX6_canAll_122 : decode cX6_canAll 122 = .ok (.iload 7, 2) := dk_21 7 (dk_at dksX6_canAll_5 5 rfl rfl)
theorem dX6_canAll_124 : decode cX6_canAll 124 = .ok (.ishr, 1) := dk_122 (dk_at dksX6_canAll_5 7 rfl rfl)
theorem dX6_canAll_125 : decode cX6_canAll 125 = .ok (.iand, 1) := dk_126 (dk_at dksX6_canAll_5 8 rfl rfl)
theorem dX6_canAll_126 : decode cX6_canAll 126 = .ok (.iconst 1, 1) := dk_4 (dk_at dksX6_canAll_5 9 rfl rfl)
theorem dX6_canAll_127 : decode cX6_canAll 127 = .ok (.iand, 1) := dk_126 (dk_at dksX6_canAll_5 10 rfl rfl)
theorem dX6_canAll_128 : decode cX6_canAll 128 = .ok (.iconst 1, 1) := dk_4 (dk_at dksX6_canAll_5 11 rfl rfl)
theorem dX6_canAll_129 : decode cX6_canAll 129 = .ok (.if_icmp .ne 24, 3) := dk_160 0 24 (dk_at dksX6_canAll_5 12 rfl rfl)
theorem dX6_canAll_132 : decode cX6_canAll 132 = .ok (.aload_n 0, 1) := dk_42 (dk_at dksX6_canAll_5 15 rfl rfl)
theorem dX6_canAll_133 : decode cX6_canAll 133 = .ok (.getfield 51, 3) := dk_180 0 51 (dk_at dksX6_canAll_5 16 rfl rfl)
theorem dX6_canAll_136 : decode cX6_canAll 136 = .ok (.iload 5, 2) := dk_21 5 (dk_at dksX6_canAll_5 19 rfl rfl)
theorem dX6_canAll_138 : decode cX6_canAll 138 = .ok (.iconst 1, 1) := dk_4 (dk_at dksX6_canAll_5 21 rfl rfl)
theorem dX6_canAll_139 : decode cX6_canAll 139 = .ok (.iload 7, 2) := dk_21 7 (dk_at dksX6_canAll_5 22 rfl rfl)
theorem dX6_canAll_141 : decode cX6_canAll 141 = .ok (.ishl, 1) := dk_120 (dk_at dksX6_canAll_6 0 rfl rfl)
theorem dX6_canAll_142 : decode cX6_canAll 142 = .ok (.iconst (-1), 1) := dk_2 (dk_at dksX6_canAll_6 1 rfl rfl)
theorem dX6_canAll_143 : decode cX6_canAll 143 = .ok (.ixor, 1) := dk_130 (dk_at dksX6_canAll_6 2 rfl rfl)
theorem dX6_canAll_144 : decode cX6_canAll 144 = .ok (.iand, 1) := dk_126 (dk_at dksX6_canAll_6 3 rfl rfl)
theorem dX6_canAll_145 : decode cX6_canAll 145 = .ok (.baload, 1) := dk_51 (dk_at dksX6_canAll_6 4 rfl rfl)
theorem dX6_canAll_146 : decode cX6_canAll 146 = .ok (.ifCond .eq 7, 3) := dk_153 0 7 (dk_at dksX6_canAll_6 5 rfl rfl)
theorem dX6_canAll_149 : decode cX6_canAll 149 = .ok (.iconst 1, 1) := dk_4 (dk_at dksX6_canAll_6 8 rfl rfl)
theorem dX6_canAll_150 : decode cX6_canAll 150 = .ok (.goto 4, 3) := dk_167 0 4 (dk_at dksX6_canAll_6 9 rfl rfl)
theorem dX6_canAll_153 : decode cX6_canAll 153 = .ok (.iconst 0, 1) := dk_3 (dk_at dksX6_canAll_6 12 rfl rfl)
theorem dX6_canAll_154 : decode cX6_canAll 154 = .ok (.istore 6, 2) := dk_54 6 (dk_at dksX6_canAll_6 13 rfl rfl)
theorem dX6_canAll_156 : decode cX6_canAll 156 = .ok (.iinc 7 1, 3) := dk_132 7 1 (dk_at dksX6_canAll_6 15 rfl rfl)
theorem dX6_canAll_159 : decode cX6_canAll 159 = .ok (.goto (-67), 3) := dk_167 255 189 (dk_at dksX6_canAll_6 18 rfl rfl)
theorem dX6_canAll_162 : decode cX6_canAll 162 = .ok (.aload_n 0, 1) := dk_42 (dk_at dksX6_canAll_6 21 rfl rfl)
theorem dX6_canAll_163 : decode cX6_canAll 163 = .ok (.getfield 51, 3) := dk_180 0 51 (dk_at dksX6_canAll_7 0 rfl rfl)
theorem dX6_canAll_166 : decode cX6_canAll 166 = .ok (.iload 5, 2) := dk_21 5 (dk_at dksX6_canAll_7 3 rfl rfl)
theorem dX6_canAll_168 : decode cX6_canAll 168 = .ok (.iload 5, 2) := dk_21 5 (dk_at dksX6_canAll_7 5 rfl rfl)
theorem dX6_canAll_170 : decode cX6_canAll 170 = .ok (.invokestatic 351, 3) := dk_184 1 95 (dk_at dksX6_canAll_7 7 rfl rfl)
theorem dX6_canAll_173 : decode cX6_canAll 173 = .ok (.iload_n 3, 1) := dk_29 (dk_at dksX6_canAll_7 10 rfl rfl)
theorem dX6_canAll_174 : decode cX6_canAll 174 = .ok (.iconst 1, 1) := dk_4 (dk_at dksX6_canAll_7 11 rfl rfl)
theorem dX6_canAll_175 : decode cX6_canAll 175 = .ok (.iadd, 1) := dk_96 (dk_at dksX6_canAll_7 12 rfl rfl)
theorem dX6_canAll_176 : decode cX6_canAll 176 = .ok (.if_icmp .ne 8, 3) := dk_160 0 8 (dk_at dksX6_canAll_7 13 rfl rfl)
theorem dX6_canAll_179 : decode cX6_canAll 179 = .ok (.iload 6, 2) := dk_21 6 (dk_at dksX6_canAll_7 16 rfl rfl)
theorem dX6_canAll_181 : decode cX6_canAll 181 = .ok (.goto 10, 3) := dk_167 0 10 (dk_at dksX6_canAll_7 18 rfl rfl)
theorem dX6_canAll_184 : decode cX6_canAll 184 = .ok (.aload_n 0, 1) := dk_42 (dk_at dksX6_canAll_7 21 rfl rfl)
theorem dX6_canAll_185 : decode cX6_canAll 185 = .ok (.getfield 51, 3) := dk_180 0 51 (dk_at dksX6_canAll_8 0 rfl rfl)
theorem dX6_canAll_188 : decode cX6_canAll 188 = .ok (.iload 5, 2) := dk_21 5 (dk_at dksX6_canAll_8 3 rfl rfl)
theorem dX6_canAll_190 : decode cX6_canAll 190 = .ok (.baload, 1) := dk_51 (dk_at dksX6_canAll_8 5 rfl rfl)
theorem dX6_canAll_191 : decode cX6_canAll 191 = .ok (.bastore, 1) := dk_84 (dk_at dksX6_canAll_8 6 rfl rfl)
theorem dX6_canAll_192 : decode cX6_canAll 192 = .ok (.iinc 5 (-1), 3) := dk_132 5 255 (dk_at dksX6_canAll_8 7 rfl rfl)
theorem dX6_canAll_195 : decode cX6_canAll 195 = .ok (.goto (-114), 3) := dk_167 255 142 (dk_at dksX6_canAll_8 10 rfl rfl)
theorem dX6_canAll_198 : decode cX6_canAll 198 = .ok (.iinc 3 1, 3) := dk_132 3 1 (dk_at dksX6_canAll_8 13 rfl rfl)
theorem dX6_canAll_201 : decode cX6_canAll 201 = .ok (.goto (-169), 3) := dk_167 255 87 (dk_at dksX6_canAll_8 16 rfl rfl)
theorem dX6_canAll_204 : decode cX6_canAll 204 = .ok (.iconst 0, 1) := dk_3 (dk_at dksX6_canAll_8 19 rfl rfl)
theorem dX6_canAll_205 : decode cX6_canAll 205 = .ok (.istore_n 3, 1) := dk_62 (dk_at dksX6_canAll_8 20 rfl rfl)
theorem dX6_canAll_206 : decode cX6_canAll 206 = .ok (.iconst 0, 1) := dk_3 (dk_at dksX6_canAll_8 21 rfl rfl)
theorem dX6_canAll_207 : decode cX6_canAll 207 = .ok (.istore 4, 2) := dk_54 4 (dk_at dksX6_canAll_8 22 rfl rfl)
theorem dX6_canAll_209 : decode cX6_canAll 209 = .ok (.iload 4, 2) := dk_21 4 (dk_at dksX6_canAll_9 0 rfl rfl)
theorem dX6_canAll_211 : decode cX6_canAll 211 = .ok (.sipush 256, 3) := dk_17 1 0 (dk_at dksX6_canAll_9 2 rfl rfl)
theorem dX6_canAll_214 : decode cX6_canAll 214 = .ok (.if_icmp .ge 41, 3) := dk_162 0 41 (dk_at dksX6_canAll_9 5 rfl rfl)
theorem dX6_canAll_217 : decode cX6_canAll 217 = .ok (.iload_n 3, 1) := dk_29 (dk_at dksX6_canAll_9 8 rfl rfl)
theorem dX6_canAll_218 : decode cX6_canAll 218 = .ok (.ifCond .ne 25, 3) := dk_154 0 25 (dk_at dksX6_canAll_9 9 rfl rfl)
theorem dX6_canAll_221 : decode cX6_canAll 221 = .ok (.iload 4, 2) := dk_21 4 (dk_at dksX6_canAll_9 12 rfl rfl)
theorem dX6_canAll_223 : decode cX6_canAll 223 = .ok (.invokestatic 351, 3) := dk_184 1 95 (dk_at dksX6_canAll_9 14 rfl rfl)
theorem dX6_canAll_226 : decode cX6_canAll 226 = .ok (.aload_n 0, 1) := dk_42 (dk_at dksX6_canAll_9 17 rfl rfl)
theorem dX6_canAll_227 : decode cX6_canAll 227 = .ok (.getfield 422, 3) := dk_180 1 166 (dk_at dksX6_canAll_9 18 rfl rfl)
theorem dX6_canAll_230 : decode cX6_canAll 230 = .ok (.if_icmp .ne 17, 3) := dk_160 0 17 (dk_at dksX6_canAll_9 21 rfl rfl)
theorem dX6_canAll_233 : decode cX6_canAll 233 = .ok (.aload_n 0, 1) := dk_42 (dk_at dksX6_canAll_10 0 rfl rfl)
theorem dX6_canAll_234 : decode cX6_canAll 234 = .ok (.getfield 51, 3) := dk_180 0 51 (dk_at dksX6_canAll_10 1 rfl rfl)
theorem dX6_canAll_237 : decode cX6_canAll 237 = .ok (.iload 4, 2) := dk_21 4 (dk_at dksX6_canAll_10 4 rfl rfl)
theorem dX6_canAll_239 : decode cX6_canAll 239 = .ok (.baload, 1) := dk_51 (dk_at dksX6_canAll_10 6 rfl rfl)
theorem dX6_canAll_240 : decode cX6_canAll 240 = .ok (.ifCond .eq 7, 3) := dk_153 0 7 (dk_at dksX6_canAll_10 7 rfl rfl)
theorem dX6_canAll_243 : decode cX6_canAll 243 = .ok (.iconst 1, 1) := dk_4 (dk_at dksX6_canAll_10 10 rfl rfl)
theorem dX6_canAll_244 : decode cX6_canAll 244 = .ok (.goto 4, 3) := dk_167 0 4 (dk_at dksX6_canAll_10 11 rfl rfl)
theorem dX6_canAll_247 : decode cX6_canAll 247 = .ok (.iconst 0, 1) := dk_3 (dk_at dksX6_canAll_10 14 rfl rfl)
theorem dX6_canAll_248 : decode cX6_canAll 248 = .ok (.istore_n 3, 1) := dk_62 (dk_at dksX6_canAll_10 15 rfl rfl)
theorem dX6_canAll_249 : decode cX6_canAll 249 = .ok (.iinc 4 1, 3) := dk_132 4 1 (dk_at dksX6_canAll_10 16 rfl rfl)
theorem dX6_canAll_252 : decode cX6_canAll 252 = .ok (.goto (-43), 3) := dk_167 255 213 (dk_at dksX6_canAll_10 19 rfl rfl)
theorem dX6_canAll_255 : decode cX6_canAll 255 = .ok (.iload_n 3, 1) := dk_29 (dk_at dksX6_canAll_10 22 rfl rfl)
theorem dX6_canAll_256 : decode cX6_canAll 256 = .ok (.ireturn, 1) := dk_172 (dk_at dksX6_canAll_10 23 rfl rfl)
abbrev cX6_joined : ByteArray := prog_30_method_117_code
def yX6_joined : MethodName := ⟨RX6, "joined", "(IIIIZ)I"⟩
def dkwX6_joined_2 : List UInt8 := [167, 0, 21, 42, 27, 28, 21, 5, 182, 1, 172, 42, 29, 21, 4, 21, 5, 182, 1, 172, 126, 172]
abbrev dktX6_joined_2 : List UInt8 := dkwX6_joined_2 ++ []
def dkwX6_joined_1 : List UInt8 := [154, 0, 11, 21, 4, 184, 0, 76, 153, 0, 7, 4, 167, 0, 4, 3, 4, 182, 0, 80, 153, 0, 7, 3]
abbrev dktX6_joined_1 : List UInt8 := dkwX6_joined_1 ++ dktX6_joined_2
def dkwX6_joined_0 : List UInt8 := [42, 3, 181, 0, 3, 42, 27, 184, 0, 76, 154, 0, 25, 28, 184, 0, 76, 154, 0, 18, 29, 184, 0, 76]
abbrev dktX6_joined_0 : List UInt8 := dkwX6_joined_0 ++ dktX6_joined_1
theorem dksX6_joined_0 : cX6_joined.data.toList.drop 0 = dktX6_joined_0 := by decide +kernel
theorem dksX6_joined_1 : cX6_joined.data.toList.drop 24 = dktX6_joined_1 := dk_seg dksX6_joined_0 24 rfl rfl
theorem dksX6_joined_2 : cX6_joined.data.toList.drop 48 = dktX6_joined_2 := dk_seg dksX6_joined_1 24 rfl rfl
theorem dX6_joined_0 : decode cX6_joined 0 = .ok (.aload_n 0, 1) := dk_42 (dk_at dksX6_joined_0 0 rfl rfl)
theorem dX6_joined_1 : decode cX6_joined 1 = .ok (.iconst 0, 1) := dk_3 (dk_at dksX6_joined_0 1 rfl rfl)
theorem dX6_joined_2 : decode cX6_joined 2 = .ok (.putfield 3, 3) := dk_181 0 3 (dk_at dksX6_joined_0 2 rfl rfl)
theorem dX6_joined_5 : decode cX6_joined 5 = .ok (.aload_n 0, 1) := dk_42 (dk_at dksX6_joined_0 5 rfl rfl)
theorem dX6_joined_6 : decode cX6_joined 6 = .ok (.iload_n 1, 1) := dk_27 (dk_at dksX6_joined_0 6 rfl rfl)
theorem dX6_joined_7 : decode cX6_joined 7 = .ok (.invokestatic 76, 3) := dk_184 0 76 (dk_at dksX6_joined_0 7 rfl rfl)
theorem dX6_joined_10 : decode cX6_joined 10 = .ok (.ifCond .ne 25, 3) := dk_154 0 25 (dk_at dksX6_joined_0 10 rfl rfl)
theorem dX6_joined_13 : decode cX6_joined 13 = .ok (.iload_n 2, 1) := dk_28 (dk_at dksX6_joined_0 13 rfl rfl)
theorem dX6_joined_14 : decode cX6_joined 14 = .ok (.invokestatic 76, 3) := dk_184 0 76 (dk_at dksX6_joined_0 14 rfl rfl)
theorem dX6_joined_17 : decode cX6_joined 17 = .ok (.ifCond .ne 18, 3) := dk_154 0 18 (dk_at dksX6_joined_0 17 rfl rfl)
theorem dX6_joined_20 : decode cX6_joined 20 = .ok (.iload_n 3, 1) := dk_29 (dk_at dksX6_joined_0 20 rfl rfl)
theorem dX6_joined_21 : decode cX6_joined 21 = .ok (.invokestatic 76, 3) := dk_184 0 76 (dk_at dksX6_joined_0 21 rfl rfl)
theorem dX6_joined_24 : decode cX6_joined 24 = .ok (.ifCond .ne 11, 3) := dk_154 0 11 (dk_at dksX6_joined_1 0 rfl rfl)
theorem dX6_joined_27 : decode cX6_joined 27 = .ok (.iload 4, 2) := dk_21 4 (dk_at dksX6_joined_1 3 rfl rfl)
theorem dX6_joined_29 : decode cX6_joined 29 = .ok (.invokestatic 76, 3) := dk_184 0 76 (dk_at dksX6_joined_1 5 rfl rfl)
theorem dX6_joined_32 : decode cX6_joined 32 = .ok (.ifCond .eq 7, 3) := dk_153 0 7 (dk_at dksX6_joined_1 8 rfl rfl)
theorem dX6_joined_35 : decode cX6_joined 35 = .ok (.iconst 1, 1) := dk_4 (dk_at dksX6_joined_1 11 rfl rfl)
theorem dX6_joined_36 : decode cX6_joined 36 = .ok (.goto 4, 3) := dk_167 0 4 (dk_at dksX6_joined_1 12 rfl rfl)
theorem dX6_joined_39 : decode cX6_joined 39 = .ok (.iconst 0, 1) := dk_3 (dk_at dksX6_joined_1 15 rfl rfl)
theorem dX6_joined_40 : decode cX6_joined 40 = .ok (.iconst 1, 1) := dk_4 (dk_at dksX6_joined_1 16 rfl rfl)
theorem dX6_joined_41 : decode cX6_joined 41 = .ok (.invokevirtual 80, 3) := dk_182 0 80 (dk_at dksX6_joined_1 17 rfl rfl)
theorem dX6_joined_44 : decode cX6_joined 44 = .ok (.ifCond .eq 7, 3) := dk_153 0 7 (dk_at dksX6_joined_1 20 rfl rfl)
theorem dX6_joined_47 : decode cX6_joined 47 = .ok (.iconst 0, 1) := dk_3 (dk_at dksX6_joined_1 23 rfl rfl)
theorem dX6_joined_48 : decode cX6_joined 48 = .ok (.goto 21, 3) := dk_167 0 21 (dk_at dksX6_joined_2 0 rfl rfl)
theorem dX6_joined_51 : decode cX6_joined 51 = .ok (.aload_n 0, 1) := dk_42 (dk_at dksX6_joined_2 3 rfl rfl)
theorem dX6_joined_52 : decode cX6_joined 52 = .ok (.iload_n 1, 1) := dk_27 (dk_at dksX6_joined_2 4 rfl rfl)
theorem dX6_joined_53 : decode cX6_joined 53 = .ok (.iload_n 2, 1) := dk_28 (dk_at dksX6_joined_2 5 rfl rfl)
theorem dX6_joined_54 : decode cX6_joined 54 = .ok (.iload 5, 2) := dk_21 5 (dk_at dksX6_joined_2 6 rfl rfl)
theorem dX6_joined_56 : decode cX6_joined 56 = .ok (.invokevirtual 428, 3) := dk_182 1 172 (dk_at dksX6_joined_2 8 rfl rfl)
theorem dX6_joined_59 : decode cX6_joined 59 = .ok (.aload_n 0, 1) := dk_42 (dk_at dksX6_joined_2 11 rfl rfl)
theorem dX6_joined_60 : decode cX6_joined 60 = .ok (.iload_n 3, 1) := dk_29 (dk_at dksX6_joined_2 12 rfl rfl)
theorem dX6_joined_61 : decode cX6_joined 61 = .ok (.iload 4, 2) := dk_21 4 (dk_at dksX6_joined_2 13 rfl rfl)
theorem dX6_joined_63 : decode cX6_joined 63 = .ok (.iload 5, 2) := dk_21 5 (dk_at dksX6_joined_2 15 rfl rfl)
theorem dX6_joined_65 : decode cX6_joined 65 = .ok (.invokevirtual 428, 3) := dk_182 1 172 (dk_at dksX6_joined_2 17 rfl rfl)
theorem dX6_joined_68 : decode cX6_joined 68 = .ok (.iand, 1) := dk_126 (dk_at dksX6_joined_2 20 rfl rfl)
theorem dX6_joined_69 : decode cX6_joined 69 = .ok (.ireturn, 1) := dk_172 (dk_at dksX6_joined_2 21 rfl rfl)
abbrev cX6_gunsIn : ByteArray := prog_30_method_116_code
def yX6_gunsIn : MethodName := ⟨RX6, "gunsIn", "(IIZ)I"⟩
def dkwX6_gunsIn_3 : List UInt8 := [21, 5, 182, 1, 112, 120, 128, 54, 4, 132, 5, 1, 167, 255, 178, 21, 4, 172]
abbrev dktX6_gunsIn_3 : List UInt8 := dkwX6_gunsIn_3 ++ []
def dkwX6_gunsIn_2 : List UInt8 := [42, 21, 5, 182, 1, 83, 167, 0, 24, 42, 21, 5, 182, 1, 112, 156, 0, 7, 3, 167, 0, 11, 4, 42]
abbrev dktX6_gunsIn_2 : List UInt8 := dkwX6_gunsIn_2 ++ dktX6_gunsIn_3
def dkwX6_gunsIn_1 : List UInt8 := [42, 21, 5, 4, 182, 1, 67, 27, 28, 184, 0, 84, 154, 0, 6, 167, 0, 42, 21, 4, 29, 153, 0, 12]
abbrev dktX6_gunsIn_1 : List UInt8 := dkwX6_gunsIn_1 ++ dktX6_gunsIn_2
def dkwX6_gunsIn_0 : List UInt8 := [3, 54, 4, 3, 54, 5, 21, 5, 42, 182, 1, 77, 162, 0, 75, 42, 21, 5, 182, 1, 92, 153, 0, 60]
abbrev dktX6_gunsIn_0 : List UInt8 := dkwX6_gunsIn_0 ++ dktX6_gunsIn_1
theorem dksX6_gunsIn_0 : cX6_gunsIn.data.toList.drop 0 = dktX6_gunsIn_0 := by decide +kernel
theorem dksX6_gunsIn_1 : cX6_gunsIn.data.toList.drop 24 = dktX6_gunsIn_1 := dk_seg dksX6_gunsIn_0 24 rfl rfl
theorem dksX6_gunsIn_2 : cX6_gunsIn.data.toList.drop 48 = dktX6_gunsIn_2 := dk_seg dksX6_gunsIn_1 24 rfl rfl
theorem dksX6_gunsIn_3 : cX6_gunsIn.data.toList.drop 72 = dktX6_gunsIn_3 := dk_seg dksX6_gunsIn_2 24 rfl rfl
theorem dX6_gunsIn_0 : decode cX6_gunsIn 0 = .ok (.iconst 0, 1) := dk_3 (dk_at dksX6_gunsIn_0 0 rfl rfl)
theorem dX6_gunsIn_1 : decode cX6_gunsIn 1 = .ok (.istore 4, 2) := dk_54 4 (dk_at dksX6_gunsIn_0 1 rfl rfl)
theorem dX6_gunsIn_3 : decode cX6_gunsIn 3 = .ok (.iconst 0, 1) := dk_3 (dk_at dksX6_gunsIn_0 3 rfl rfl)
theorem dX6_gunsIn_4 : decode cX6_gunsIn 4 = .ok (.istore 5, 2) := dk_54 5 (dk_at dksX6_gunsIn_0 4 rfl rfl)
theorem dX6_gunsIn_6 : decode cX6_gunsIn 6 = .ok (.iload 5, 2) := dk_21 5 (dk_at dksX6_gunsIn_0 6 rfl rfl)
theorem dX6_gunsIn_8 : decode cX6_gunsIn 8 = .ok (.aload_n 0, 1) := dk_42 (dk_at dksX6_gunsIn_0 8 rfl rfl)
theorem dX6_gunsIn_9 : decode cX6_gunsIn 9 = .ok (.invokevirtual 333, 3) := dk_182 1 77 (dk_at dksX6_gunsIn_0 9 rfl rfl)
theorem dX6_gunsIn_12 : decode cX6_gunsIn 12 = .ok (.if_icmp .ge 75, 3) := dk_162 0 75 (dk_at dksX6_gunsIn_0 12 rfl rfl)
theorem dX6_gunsIn_15 : decode cX6_gunsIn 15 = .ok (.aload_n 0, 1) := dk_42 (dk_at dksX6_gunsIn_0 15 rfl rfl)
theorem dX6_gunsIn_16 : decode cX6_gunsIn 16 = .ok (.iload 5, 2) := dk_21 5 (dk_at dksX6_gunsIn_0 16 rfl rfl)
theorem dX6_gunsIn_18 : decode cX6_gunsIn 18 = .ok (.invokevirtual 348, 3) := dk_182 1 92 (dk_at dksX6_gunsIn_0 18 rfl rfl)
theorem dX6_gunsIn_21 : decode cX6_gunsIn 21 = .ok (.ifCond .eq 60, 3) := dk_153 0 60 (dk_at dksX6_gunsIn_0 21 rfl rfl)
theorem dX6_gunsIn_24 : decode cX6_gunsIn 24 = .ok (.aload_n 0, 1) := dk_42 (dk_at dksX6_gunsIn_1 0 rfl rfl)
theorem dX6_gunsIn_25 : decode cX6_gunsIn 25 = .ok (.iload 5, 2) := dk_21 5 (dk_at dksX6_gunsIn_1 1 rfl rfl)
theorem dX6_gunsIn_27 : decode cX6_gunsIn 27 = .ok (.iconst 1, 1) := dk_4 (dk_at dksX6_gunsIn_1 3 rfl rfl)
theorem dX6_gunsIn_28 : decode cX6_gunsIn 28 = .ok (.invokevirtual 323, 3) := dk_182 1 67 (dk_at dksX6_gunsIn_1 4 rfl rfl)
theorem dX6_gunsIn_31 : decode cX6_gunsIn 31 = .ok (.iload_n 1, 1) := dk_27 (dk_at dksX6_gunsIn_1 7 rfl rfl)
theorem dX6_gunsIn_32 : decode cX6_gunsIn 32 = .ok (.iload_n 2, 1) := dk_28 (dk_at dksX6_gunsIn_1 8 rfl rfl)
theorem dX6_gunsIn_33 : decode cX6_gunsIn 33 = .ok (.invokestatic 84, 3) := dk_184 0 84 (dk_at dksX6_gunsIn_1 9 rfl rfl)
theorem dX6_gunsIn_36 : decode cX6_gunsIn 36 = .ok (.ifCond .ne 6, 3) := dk_154 0 6 (dk_at dksX6_gunsIn_1 12 rfl rfl)
theorem dX6_gunsIn_39 : decode cX6_gunsIn 39 = .ok (.goto 42, 3) := dk_167 0 42 (dk_at dksX6_gunsIn_1 15 rfl rfl)
theorem dX6_gunsIn_42 : decode cX6_gunsIn 42 = .ok (.iload 4, 2) := dk_21 4 (dk_at dksX6_gunsIn_1 18 rfl rfl)
theorem dX6_gunsIn_44 : decode cX6_gunsIn 44 = .ok (.iload_n 3, 1) := dk_29 (dk_at dksX6_gunsIn_1 20 rfl rfl)
theorem dX6_gunsIn_45 : decode cX6_gunsIn 45 = .ok (.ifCond .eq 12, 3) := dk_153 0 12 (dk_at dksX6_gunsIn_1 21 rfl rfl)
theorem dX6_gunsIn_48 : decode cX6_gunsIn 48 = .ok (.aload_n 0, 1) := dk_42 (dk_at dksX6_gunsIn_2 0 rfl rfl)
theorem dX6_gunsIn_49 : decode cX6_gunsIn 49 = .ok (.iload 5, 2) := dk_21 5 (dk_at dksX6_gunsIn_2 1 rfl rfl)
theorem dX6_gunsIn_51 : decode cX6_gunsIn 51 = .ok (.invokevirtual 339, 3) := dk_182 1 83 (dk_at dksX6_gunsIn_2 3 rfl rfl)
theorem dX6_gunsIn_54 : decode cX6_gunsIn 54 = .ok (.goto 24, 3) := dk_167 0 24 (dk_at dksX6_gunsIn_2 6 rfl rfl)
theorem dX6_gunsIn_57 : decode cX6_gunsIn 57 = .ok (.aload_n 0, 1) := dk_42 (dk_at dksX6_gunsIn_2 9 rfl rfl)
theorem dX6_gunsIn_58 : decode cX6_gunsIn 58 = .ok (.iload 5, 2) := dk_21 5 (dk_at dksX6_gunsIn_2 10 rfl rfl)
theorem dX6_gunsIn_60 : decode cX6_gunsIn 60 = .ok (.invokevirtual 368, 3) := dk_182 1 112 (dk_at dksX6_gunsIn_2 12 rfl rfl)
theorem dX6_gunsIn_63 : decode cX6_gunsIn 63 = .ok (.ifCond .ge 7, 3) := dk_156 0 7 (dk_at dksX6_gunsIn_2 15 rfl rfl)
theorem dX6_gunsIn_66 : decode cX6_gunsIn 66 = .ok (.iconst 0, 1) := dk_3 (dk_at dksX6_gunsIn_2 18 rfl rfl)
theorem dX6_gunsIn_67 : decode cX6_gunsIn 67 = .ok (.goto 11, 3) := dk_167 0 11 (dk_at dksX6_gunsIn_2 19 rfl rfl)
theorem dX6_gunsIn_70 : decode cX6_gunsIn 70 = .ok (.iconst 1, 1) := dk_4 (dk_at dksX6_gunsIn_2 22 rfl rfl)
theorem dX6_gunsIn_71 : decode cX6_gunsIn 71 = .ok (.aload_n 0, 1) := dk_42 (dk_at dksX6_gunsIn_2 23 rfl rfl)
theorem dX6_gunsIn_72 : decode cX6_gunsIn 72 = .ok (.iload 5, 2) := dk_21 5 (dk_at dksX6_gunsIn_3 0 rfl rfl)
theorem dX6_gunsIn_74 : decode cX6_gunsIn 74 = .ok (.invokevirtual 368, 3) := dk_182 1 112 (dk_at dksX6_gunsIn_3 2 rfl rfl)
theorem dX6_gunsIn_77 : decode cX6_gunsIn 77 = .ok (.ishl, 1) := dk_120 (dk_at dksX6_gunsIn_3 5 rfl rfl)
theorem dX6_gunsIn_78 : decode cX6_gunsIn 78 = .ok (.ior, 1) := dk_128 (dk_at dksX6_gunsIn_3 6 rfl rfl)
theorem dX6_gunsIn_79 : decode cX6_gunsIn 79 = .ok (.istore 4, 2) := dk_54 4 (dk_at dksX6_gunsIn_3 7 rfl rfl)
theorem dX6_gunsIn_81 : decode cX6_gunsIn 81 = .ok (.iinc 5 1, 3) := dk_132 5 1 (dk_at dksX6_gunsIn_3 9 rfl rfl)
theorem dX6_gunsIn_84 : decode cX6_gunsIn 84 = .ok (.goto (-78), 3) := dk_167 255 178 (dk_at dksX6_gunsIn_3 12 rfl rfl)
theorem dX6_gunsIn_87 : decode cX6_gunsIn 87 = .ok (.iload 4, 2) := dk_21 4 (dk_at dksX6_gunsIn_3 15 rfl rfl)
theorem dX6_gunsIn_89 : decode cX6_gunsIn 89 = .ok (.ireturn, 1) := dk_172 (dk_at dksX6_gunsIn_3 17 rfl rfl)
abbrev cX6_holds : ByteArray := prog_30_method_119_code
def yX6_holds : MethodName := ⟨RX6, "holds", "(I)Z"⟩
def dkwX6_holds_1 : List UInt8 := [182, 1, 176, 42, 7, 27, 96, 3, 182, 1, 51, 172]
abbrev dktX6_holds_1 : List UInt8 := dkwX6_holds_1 ++ []
def dkwX6_holds_0 : List UInt8 := [42, 3, 181, 0, 3, 42, 42, 27, 16, 6, 182, 1, 20, 4, 182, 0, 80, 153, 0, 5, 3, 172, 42]
abbrev dktX6_holds_0 : List UInt8 := dkwX6_holds_0 ++ dktX6_holds_1
theorem dksX6_holds_0 : cX6_holds.data.toList.drop 0 = dktX6_holds_0 := by decide +kernel
theorem dksX6_holds_1 : cX6_holds.data.toList.drop 23 = dktX6_holds_1 := dk_seg dksX6_holds_0 23 rfl rfl
theorem dX6_holds_0 : decode cX6_holds 0 = .ok (.aload_n 0, 1) := dk_42 (dk_at dksX6_holds_0 0 rfl rfl)
theorem dX6_holds_1 : decode cX6_holds 1 = .ok (.iconst 0, 1) := dk_3 (dk_at dksX6_holds_0 1 rfl rfl)
theorem dX6_holds_2 : decode cX6_holds 2 = .ok (.putfield 3, 3) := dk_181 0 3 (dk_at dksX6_holds_0 2 rfl rfl)
theorem dX6_holds_5 : decode cX6_holds 5 = .ok (.aload_n 0, 1) := dk_42 (dk_at dksX6_holds_0 5 rfl rfl)
theorem dX6_holds_6 : decode cX6_holds 6 = .ok (.aload_n 0, 1) := dk_42 (dk_at dksX6_holds_0 6 rfl rfl)
theorem dX6_holds_7 : decode cX6_holds 7 = .ok (.iload_n 1, 1) := dk_27 (dk_at dksX6_holds_0 7 rfl rfl)
theorem dX6_holds_8 : decode cX6_holds 8 = .ok (.bipush 6, 2) := dk_16 6 (dk_at dksX6_holds_0 8 rfl rfl)
theorem dX6_holds_10 : decode cX6_holds 10 = .ok (.invokevirtual 276, 3) := dk_182 1 20 (dk_at dksX6_holds_0 10 rfl rfl)
theorem dX6_holds_13 : decode cX6_holds 13 = .ok (.iconst 1, 1) := dk_4 (dk_at dksX6_holds_0 13 rfl rfl)
theorem dX6_holds_14 : decode cX6_holds 14 = .ok (.invokevirtual 80, 3) := dk_182 0 80 (dk_at dksX6_holds_0 14 rfl rfl)
theorem dX6_holds_17 : decode cX6_holds 17 = .ok (.ifCond .eq 5, 3) := dk_153 0 5 (dk_at dksX6_holds_0 17 rfl rfl)
theorem dX6_holds_20 : decode cX6_holds 20 = .ok (.iconst 0, 1) := dk_3 (dk_at dksX6_holds_0 20 rfl rfl)
theorem dX6_holds_21 : decode cX6_holds 21 = .ok (.ireturn, 1) := dk_172 (dk_at dksX6_holds_0 21 rfl rfl)
theorem dX6_holds_22 : decode cX6_holds 22 = .ok (.aload_n 0, 1) := dk_42 (dk_at dksX6_holds_0 22 rfl rfl)
theorem dX6_holds_23 : decode cX6_holds 23 = .ok (.invokevirtual 432, 3) := dk_182 1 176 (dk_at dksX6_holds_1 0 rfl rfl)
theorem dX6_holds_26 : decode cX6_holds 26 = .ok (.aload_n 0, 1) := dk_42 (dk_at dksX6_holds_1 3 rfl rfl)
theorem dX6_holds_27 : decode cX6_holds 27 = .ok (.iconst 4, 1) := dk_7 (dk_at dksX6_holds_1 4 rfl rfl)
theorem dX6_holds_28 : decode cX6_holds 28 = .ok (.iload_n 1, 1) := dk_27 (dk_at dksX6_holds_1 5 rfl rfl)
theorem dX6_holds_29 : decode cX6_holds 29 = .ok (.iadd, 1) := dk_96 (dk_at dksX6_holds_1 6 rfl rfl)
theorem dX6_holds_30 : decode cX6_holds 30 = .ok (.iconst 0, 1) := dk_3 (dk_at dksX6_holds_1 7 rfl rfl)
theorem dX6_holds_31 : decode cX6_holds 31 = .ok (.invokevirtual 307, 3) := dk_182 1 51 (dk_at dksX6_holds_1 8 rfl rfl)
theorem dX6_holds_34 : decode cX6_holds 34 = .ok (.ireturn, 1) := dk_172 (dk_at dksX6_holds_1 11 rfl rfl)
abbrev cX6_asks : ByteArray := prog_30_method_118_code
def yX6_asks : MethodName := ⟨RX6, "asks", "()V"⟩
def dkwX6_asks_7 : List UInt8 := [132, 1, 1, 167, 255, 229, 177]
abbrev dktX6_asks_7 : List UInt8 := dkwX6_asks_7 ++ []
def dkwX6_asks_6 : List UInt8 := [16, 16, 162, 0, 27, 42, 42, 180, 1, 14, 42, 3, 27, 4, 182, 1, 140, 184, 0, 69, 181, 1, 14]
abbrev dktX6_asks_6 : List UInt8 := dkwX6_asks_6 ++ dktX6_asks_7
def dkwX6_asks_5 : List UInt8 := [167, 255, 221, 42, 180, 0, 30, 16, 6, 42, 7, 3, 182, 1, 147, 79, 42, 3, 181, 1, 14, 3, 60, 27]
abbrev dktX6_asks_5 : List UInt8 := dkwX6_asks_5 ++ dktX6_asks_6
def dkwX6_asks_4 : List UInt8 := [180, 0, 30, 8, 92, 46, 42, 27, 182, 1, 160, 153, 0, 7, 4, 167, 0, 4, 3, 96, 79, 132, 1, 1]
abbrev dktX6_asks_4 : List UInt8 := dkwX6_asks_4 ++ dktX6_asks_5
def dkwX6_asks_3 : List UInt8 := [17, 0, 255, 182, 1, 103, 184, 1, 95, 79, 3, 60, 27, 42, 180, 0, 13, 8, 46, 162, 0, 31, 42]
abbrev dktX6_asks_3 : List UInt8 := dkwX6_asks_3 ++ dktX6_asks_4
def dkwX6_asks_2 : List UInt8 := [153, 0, 7, 4, 167, 0, 4, 3, 96, 79, 132, 1, 1, 167, 255, 218, 42, 180, 0, 30, 7, 42, 3]
abbrev dktX6_asks_2 : List UInt8 := dkwX6_asks_2 ++ dktX6_asks_3
def dkwX6_asks_1 : List UInt8 := [42, 182, 1, 77, 162, 0, 36, 42, 180, 0, 30, 42, 27, 3, 182, 1, 67, 92, 46, 42, 27, 182, 1, 80]
abbrev dktX6_asks_1 : List UInt8 := dkwX6_asks_1 ++ dktX6_asks_2
def dkwX6_asks_0 : List UInt8 := [3, 60, 27, 16, 7, 162, 0, 16, 42, 180, 0, 30, 27, 3, 79, 132, 1, 1, 167, 255, 240, 3, 60, 27]
abbrev dktX6_asks_0 : List UInt8 := dkwX6_asks_0 ++ dktX6_asks_1
theorem dksX6_asks_0 : cX6_asks.data.toList.drop 0 = dktX6_asks_0 := by decide +kernel
theorem dksX6_asks_1 : cX6_asks.data.toList.drop 24 = dktX6_asks_1 := dk_seg dksX6_asks_0 24 rfl rfl
theorem dksX6_asks_2 : cX6_asks.data.toList.drop 48 = dktX6_asks_2 := dk_seg dksX6_asks_1 24 rfl rfl
theorem dksX6_asks_3 : cX6_asks.data.toList.drop 71 = dktX6_asks_3 := dk_seg dksX6_asks_2 23 rfl rfl
theorem dksX6_asks_4 : cX6_asks.data.toList.drop 94 = dktX6_asks_4 := dk_seg dksX6_asks_3 23 rfl rfl
theorem dksX6_asks_5 : cX6_asks.data.toList.drop 118 = dktX6_asks_5 := dk_seg dksX6_asks_4 24 rfl rfl
theorem dksX6_asks_6 : cX6_asks.data.toList.drop 142 = dktX6_asks_6 := dk_seg dksX6_asks_5 24 rfl rfl
theorem dksX6_asks_7 : cX6_asks.data.toList.drop 165 = dktX6_asks_7 := dk_seg dksX6_asks_6 23 rfl rfl
theorem dX6_asks_0 : decode cX6_asks 0 = .ok (.iconst 0, 1) := dk_3 (dk_at dksX6_asks_0 0 rfl rfl)
theorem dX6_asks_1 : decode cX6_asks 1 = .ok (.istore_n 1, 1) := dk_60 (dk_at dksX6_asks_0 1 rfl rfl)
theorem dX6_asks_2 : decode cX6_asks 2 = .ok (.iload_n 1, 1) := dk_27 (dk_at dksX6_asks_0 2 rfl rfl)
theorem dX6_asks_3 : decode cX6_asks 3 = .ok (.bipush 7, 2) := dk_16 7 (dk_at dksX6_asks_0 3 rfl rfl)
theorem dX6_asks_5 : decode cX6_asks 5 = .ok (.if_icmp .ge 16, 3) := dk_162 0 16 (dk_at dksX6_asks_0 5 rfl rfl)
theorem dX6_asks_8 : decode cX6_asks 8 = .ok (.aload_n 0, 1) := dk_42 (dk_at dksX6_asks_0 8 rfl rfl)
theorem dX6_asks_9 : decode cX6_asks 9 = .ok (.getfield 30, 3) := dk_180 0 30 (dk_at dksX6_asks_0 9 rfl rfl)
theorem dX6_asks_12 : decode cX6_asks 12 = .ok (.iload_n 1, 1) := dk_27 (dk_at dksX6_asks_0 12 rfl rfl)
theorem dX6_asks_13 : decode cX6_asks 13 = .ok (.iconst 0, 1) := dk_3 (dk_at dksX6_asks_0 13 rfl rfl)
theorem dX6_asks_14 : decode cX6_asks 14 = .ok (.iastore, 1) := dk_79 (dk_at dksX6_asks_0 14 rfl rfl)
theorem dX6_asks_15 : decode cX6_asks 15 = .ok (.iinc 1 1, 3) := dk_132 1 1 (dk_at dksX6_asks_0 15 rfl rfl)
theorem dX6_asks_18 : decode cX6_asks 18 = .ok (.goto (-16), 3) := dk_167 255 240 (dk_at dksX6_asks_0 18 rfl rfl)
theorem dX6_asks_21 : decode cX6_asks 21 = .ok (.iconst 0, 1) := dk_3 (dk_at dksX6_asks_0 21 rfl rfl)
theorem dX6_asks_22 : decode cX6_asks 22 = .ok (.istore_n 1, 1) := dk_60 (dk_at dksX6_asks_0 22 rfl rfl)
theorem dX6_asks_23 : decode cX6_asks 23 = .ok (.iload_n 1, 1) := dk_27 (dk_at dksX6_asks_0 23 rfl rfl)
theorem dX6_asks_24 : decode cX6_asks 24 = .ok (.aload_n 0, 1) := dk_42 (dk_at dksX6_asks_1 0 rfl rfl)
theorem dX6_asks_25 : decode cX6_asks 25 = .ok (.invokevirtual 333, 3) := dk_182 1 77 (dk_at dksX6_asks_1 1 rfl rfl)
theorem dX6_asks_28 : decode cX6_asks 28 = .ok (.if_icmp .ge 36, 3) := dk_162 0 36 (dk_at dksX6_asks_1 4 rfl rfl)
theorem dX6_asks_31 : decode cX6_asks 31 = .ok (.aload_n 0, 1) := dk_42 (dk_at dksX6_asks_1 7 rfl rfl)
theorem dX6_asks_32 : decode cX6_asks 32 = .ok (.getfield 30, 3) := dk_180 0 30 (dk_at dksX6_asks_1 8 rfl rfl)
theorem dX6_asks_35 : decode cX6_asks 35 = .ok (.aload_n 0, 1) := dk_42 (dk_at dksX6_asks_1 11 rfl rfl)
theorem dX6_asks_36 : decode cX6_asks 36 = .ok (.iload_n 1, 1) := dk_27 (dk_at dksX6_asks_1 12 rfl rfl)
theorem dX6_asks_37 : decode cX6_asks 37 = .ok (.iconst 0, 1) := dk_3 (dk_at dksX6_asks_1 13 rfl rfl)
theorem dX6_asks_38 : decode cX6_asks 38 = .ok (.invokevirtual 323, 3) := dk_182 1 67 (dk_at dksX6_asks_1 14 rfl rfl)
theorem dX6_asks_41 : decode cX6_asks 41 = .ok (.dup2, 1) := dk_92 (dk_at dksX6_asks_1 17 rfl rfl)
theorem dX6_asks_42 : decode cX6_asks 42 = .ok (.iaload, 1) := dk_46 (dk_at dksX6_asks_1 18 rfl rfl)
theorem dX6_asks_43 : decode cX6_asks 43 = .ok (.aload_n 0, 1) := dk_42 (dk_at dksX6_asks_1 19 rfl rfl)
theorem dX6_asks_44 : decode cX6_asks 44 = .ok (.iload_n 1, 1) := dk_27 (dk_at dksX6_asks_1 20 rfl rfl)
theorem dX6_asks_45 : decode cX6_asks 45 = .ok (.invokevirtual 336, 3) := dk_182 1 80 (dk_at dksX6_asks_1 21 rfl rfl)
theorem dX6_asks_48 : decode cX6_asks 48 = .ok (.ifCond .eq 7, 3) := dk_153 0 7 (dk_at dksX6_asks_2 0 rfl rfl)
theorem dX6_asks_51 : decode cX6_asks 51 = .ok (.iconst 1, 1) := dk_4 (dk_at dksX6_asks_2 3 rfl rfl)
theorem dX6_asks_52 : decode cX6_asks 52 = .ok (.goto 4, 3) := dk_167 0 4 (dk_at dksX6_asks_2 4 rfl rfl)
theorem dX6_asks_55 : decode cX6_asks 55 = .ok (.iconst 0, 1) := dk_3 (dk_at dksX6_asks_2 7 rfl rfl)
theorem dX6_asks_56 : decode cX6_asks 56 = .ok (.iadd, 1) := dk_96 (dk_at dksX6_asks_2 8 rfl rfl)
theorem dX6_asks_57 : decode cX6_asks 57 = .ok (.iastore, 1) := dk_79 (dk_at dksX6_asks_2 9 rfl rfl)
theorem dX6_asks_58 : decode cX6_asks 58 = .ok (.iinc 1 1, 3) := dk_132 1 1 (dk_at dksX6_asks_2 10 rfl rfl)
theorem dX6_asks_61 : decode cX6_asks 61 = .ok (.goto (-38), 3) := dk_167 255 218 (dk_at dksX6_asks_2 13 rfl rfl)
theorem dX6_asks_64 : decode cX6_asks 64 = .ok (.aload_n 0, 1) := dk_42 (dk_at dksX6_asks_2 16 rfl rfl)
theorem dX6_asks_65 : decode cX6_asks 65 = .ok (.getfield 30, 3) := dk_180 0 30 (dk_at dksX6_asks_2 17 rfl rfl)
theorem dX6_asks_68 : decode cX6_asks 68 = .ok (.iconst 4, 1) := dk_7 (dk_at dksX6_asks_2 20 rfl rfl)
theorem dX6_asks_69 : decode cX6_asks 69 = .ok (.aload_n 0, 1) := dk_42 (dk_at dksX6_asks_2 21 rfl rfl)
theorem dX6_asks_70 : decode cX6_asks 70 = .ok (.iconst 0, 1) := dk_3 (dk_at dksX6_asks_2 22 rfl rfl)
theorem dX6_asks_71 : decode cX6_asks 71 = .ok (.sipush 255, 3) := dk_17 0 255 (dk_at dksX6_asks_3 0 rfl rfl)
theorem dX6_asks_74 : decode cX6_asks 74 = .ok (.invokevirtual 359, 3) := dk_182 1 103 (dk_at dksX6_asks_3 3 rfl rfl)
theorem dX6_asks_77 : decode cX6_asks 77 = .ok (.invokestatic 351, 3) := dk_184 1 95 (dk_at dksX6_asks_3 6 rfl rfl)
theorem dX6_asks_80 : decode cX6_asks 80 = .ok (.iastore, 1) := dk_79 (dk_at dksX6_asks_3 9 rfl rfl)
theorem dX6_asks_81 : decode cX6_asks 81 = .ok (.iconst 0, 1) := dk_3 (dk_at dksX6_asks_3 10 rfl rfl)
theorem dX6_asks_82 : decode cX6_asks 82 = .ok (.istore_n 1, 1) := dk_60 (dk_at dksX6_asks_3 11 rfl rfl)
theorem dX6_asks_83 : decode cX6_asks 83 = .ok (.iload_n 1, 1) := dk_27 (dk_at dksX6_asks_3 12 rfl rfl)
theorem dX6_asks_84 : decode cX6_asks 84 = .ok (.aload_n 0, 1) := dk_42 (dk_at dksX6_asks_3 13 rfl rfl)
theorem dX6_asks_85 : decode cX6_asks 85 = .ok (.getfield 13, 3) := dk_180 0 13 (dk_at dksX6_asks_3 14 rfl rfl)
theorem dX6_asks_88 : decode cX6_asks 88 = .ok (.iconst 5, 1) := dk_8 (dk_at dksX6_asks_3 17 rfl rfl)
theorem dX6_asks_89 : decode cX6_asks 89 = .ok (.iaload, 1) := dk_46 (dk_at dksX6_asks_3 18 rfl rfl)
theorem dX6_asks_90 : decode cX6_asks 90 = .ok (.if_icmp .ge 31, 3) := dk_162 0 31 (dk_at dksX6_asks_3 19 rfl rfl)
theorem dX6_asks_93 : decode cX6_asks 93 = .ok (.aload_n 0, 1) := dk_42 (dk_at dksX6_asks_3 22 rfl rfl)
theorem dX6_asks_94 : decode cX6_asks 94 = .ok (.getfield 30, 3) := dk_180 0 30 (dk_at dksX6_asks_4 0 rfl rfl)
theorem dX6_asks_97 : decode cX6_asks 97 = .ok (.iconst 5, 1) := dk_8 (dk_at dksX6_asks_4 3 rfl rfl)
theorem dX6_asks_98 : decode cX6_asks 98 = .ok (.dup2, 1) := dk_92 (dk_at dksX6_asks_4 4 rfl rfl)
theorem dX6_asks_99 : decode cX6_asks 99 = .ok (.iaload, 1) := dk_46 (dk_at dksX6_asks_4 5 rfl rfl)
theorem dX6_asks_100 : decode cX6_asks 100 = .ok (.aload_n 0, 1) := dk_42 (dk_at dksX6_asks_4 6 rfl rfl)
theorem dX6_asks_101 : decode cX6_asks 101 = .ok (.iload_n 1, 1) := dk_27 (dk_at dksX6_asks_4 7 rfl rfl)
theorem dX6_asks_102 : decode cX6_asks 102 = .ok (.invokevirtual 416, 3) := dk_182 1 160 (dk_at dksX6_asks_4 8 rfl rfl)
theorem dX6_asks_105 : decode cX6_asks 105 = .ok (.ifCond .eq 7, 3) := dk_153 0 7 (dk_at dksX6_asks_4 11 rfl rfl)
theorem dX6_asks_108 : decode cX6_asks 108 = .ok (.iconst 1, 1) := dk_4 (dk_at dksX6_asks_4 14 rfl rfl)
theorem dX6_asks_109 : decode cX6_asks 109 = .ok (.goto 4, 3) := dk_167 0 4 (dk_at dksX6_asks_4 15 rfl rfl)
theorem dX6_asks_112 : decode cX6_asks 112 = .ok (.iconst 0, 1) := dk_3 (dk_at dksX6_asks_4 18 rfl rfl)
theorem dX6_asks_113 : decode cX6_asks 113 = .ok (.iadd, 1) := dk_96 (dk_at dksX6_asks_4 19 rfl rfl)
theorem dX6_asks_114 : decode cX6_asks 114 = .ok (.iastore, 1) := dk_79 (dk_at dksX6_asks_4 20 rfl rfl)
theorem dX6_asks_115 : decode cX6_asks 115 = .ok (.iinc 1 1, 3) := dk_132 1 1 (dk_at dksX6_asks_4 21 rfl rfl)
theorem dX6_asks_118 : decode cX6_asks 118 = .ok (.goto (-35), 3) := dk_167 255 221 (dk_at dksX6_asks_5 0 rfl rfl)
theorem dX6_asks_121 : decode cX6_asks 121 = .ok (.aload_n 0, 1) := dk_42 (dk_at dksX6_asks_5 3 rfl rfl)
theorem dX6_asks_122 : decode cX6_asks 122 = .ok (.getfield 30, 3) := dk_180 0 30 (dk_at dksX6_asks_5 4 rfl rfl)
theorem dX6_asks_125 : decode cX6_asks 125 = .ok (.bipush 6, 2) := dk_16 6 (dk_at dksX6_asks_5 7 rfl rfl)
theorem dX6_asks_127 : decode cX6_asks 127 = .ok (.aload_n 0, 1) := dk_42 (dk_at dksX6_asks_5 9 rfl rfl)
theorem dX6_asks_128 : decode cX6_asks 128 = .ok (.iconst 4, 1) := dk_7 (dk_at dksX6_asks_5 10 rfl rfl)
theorem dX6_asks_129 : decode cX6_asks 129 = .ok (.iconst 0, 1) := dk_3 (dk_at dksX6_asks_5 11 rfl rfl)
theorem dX6_asks_130 : decode cX6_asks 130 = .ok (.invokevirtual 403, 3) := dk_182 1 147 (dk_at dksX6_asks_5 12 rfl rfl)
theorem dX6_asks_133 : decode cX6_asks 133 = .ok (.iastore, 1) := dk_79 (dk_at dksX6_asks_5 15 rfl rfl)
theorem dX6_asks_134 : decode cX6_asks 134 = .ok (.aload_n 0, 1) := dk_42 (dk_at dksX6_asks_5 16 rfl rfl)
theorem dX6_asks_135 : decode cX6_asks 135 = .ok (.iconst 0, 1) := dk_3 (dk_at dksX6_asks_5 17 rfl rfl)
theorem dX6_asks_136 : decode cX6_asks 136 = .ok (.putfield 270, 3) := dk_181 1 14 (dk_at dksX6_asks_5 18 rfl rfl)
theorem dX6_asks_139 : decode cX6_asks 139 = .ok (.iconst 0, 1) := dk_3 (dk_at dksX6_asks_5 21 rfl rfl)
theorem dX6_asks_140 : decode cX6_asks 140 = .ok (.istore_n 1, 1) := dk_60 (dk_at dksX6_asks_5 22 rfl rfl)
theorem dX6_asks_141 : decode cX6_asks 141 = .ok (.iload_n 1, 1) := dk_27 (dk_at dksX6_asks_5 23 rfl rfl)
theorem dX6_asks_142 : decode cX6_asks 142 = .ok (.bipush 16, 2) := dk_16 16 (dk_at dksX6_asks_6 0 rfl rfl)
theorem dX6_asks_144 : decode cX6_asks 144 = .ok (.if_icmp .ge 27, 3) := dk_162 0 27 (dk_at dksX6_asks_6 2 rfl rfl)
theorem dX6_asks_147 : decode cX6_asks 147 = .ok (.aload_n 0, 1) := dk_42 (dk_at dksX6_asks_6 5 rfl rfl)
theorem dX6_asks_148 : decode cX6_asks 148 = .ok (.aload_n 0, 1) := dk_42 (dk_at dksX6_asks_6 6 rfl rfl)
theorem dX6_asks_149 : decode cX6_asks 149 = .ok (.getfield 270, 3) := dk_180 1 14 (dk_at dksX6_asks_6 7 rfl rfl)
theorem dX6_asks_152 : decode cX6_asks 152 = .ok (.aload_n 0, 1) := dk_42 (dk_at dksX6_asks_6 10 rfl rfl)
theorem dX6_asks_153 : decode cX6_asks 153 = .ok (.iconst 0, 1) := dk_3 (dk_at dksX6_asks_6 11 rfl rfl)
theorem dX6_asks_154 : decode cX6_asks 154 = .ok (.iload_n 1, 1) := dk_27 (dk_at dksX6_asks_6 12 rfl rfl)
theorem dX6_asks_155 : decode cX6_asks 155 = .ok (.iconst 1, 1) := dk_4 (dk_at dksX6_asks_6 13 rfl rfl)
theorem dX6_asks_156 : decode cX6_asks 156 = .ok (.invokevirtual 396, 3) := dk_182 1 140 (dk_at dksX6_asks_6 14 rfl rfl)
theorem dX6_asks_159 : decode cX6_asks 159 = .ok (.invokestatic 69, 3) := dk_184 0 69 (dk_at dksX6_asks_6 17 rfl rfl)
theorem dX6_asks_162 : decode cX6_asks 162 = .ok (.putfield 270, 3) := dk_181 1 14 (dk_at dksX6_asks_6 20 rfl rfl)
theorem dX6_asks_165 : decode cX6_asks 165 = .ok (.iinc 1 1, 3) := dk_132 1 1 (dk_at dksX6_asks_7 0 rfl rfl)
theorem dX6_asks_168 : decode cX6_asks 168 = .ok (.goto (-27), 3) := dk_167 255 229 (dk_at dksX6_asks_7 3 rfl rfl)
theorem dX6_asks_171 : decode cX6_asks 171 = .ok (.return_, 1) := dk_177 (dk_at dksX6_asks_7 6 rfl rfl)
abbrev cX6_odds : ByteArray := prog_30_method_120_code
def yX6_odds : MethodName := ⟨RX6, "odds", "(I)I"⟩
def dkwX6_odds_4 : List UInt8 := [17, 4, 137, 27, 96, 46, 104, 28, 108, 167, 0, 4, 3, 172]
abbrev dktX6_odds_4 : List UInt8 := dkwX6_odds_4 ++ []
def dkwX6_odds_3 : List UInt8 := [132, 3, 1, 167, 255, 214, 42, 7, 27, 96, 3, 182, 1, 51, 153, 0, 22, 17, 39, 16, 42, 180, 0, 13]
abbrev dktX6_odds_3 : List UInt8 := dkwX6_odds_3 ++ dktX6_odds_4
def dkwX6_odds_2 : List UInt8 := [182, 1, 51, 153, 0, 16, 42, 180, 0, 13, 17, 4, 137, 29, 96, 46, 167, 0, 4, 3, 96, 61]
abbrev dktX6_odds_2 : List UInt8 := dkwX6_odds_2 ++ dktX6_odds_3
def dkwX6_odds_1 : List UInt8 := [182, 1, 176, 3, 61, 3, 62, 29, 42, 180, 0, 13, 16, 6, 46, 162, 0, 37, 28, 42, 7, 29, 96, 3]
abbrev dktX6_odds_1 : List UInt8 := dkwX6_odds_1 ++ dktX6_odds_2
def dkwX6_odds_0 : List UInt8 := [42, 3, 181, 0, 3, 42, 42, 27, 16, 6, 182, 1, 20, 4, 182, 0, 80, 153, 0, 5, 3, 172, 42]
abbrev dktX6_odds_0 : List UInt8 := dkwX6_odds_0 ++ dktX6_odds_1
theorem dksX6_odds_0 : cX6_odds.data.toList.drop 0 = dktX6_odds_0 := by decide +kernel
theorem dksX6_odds_1 : cX6_odds.data.toList.drop 23 = dktX6_odds_1 := dk_seg dksX6_odds_0 23 rfl rfl
theorem dksX6_odds_2 : cX6_odds.data.toList.drop 47 = dktX6_odds_2 := dk_seg dksX6_odds_1 24 rfl rfl
theorem dksX6_odds_3 : cX6_odds.data.toList.drop 69 = dktX6_odds_3 := dk_seg dksX6_odds_2 22 rfl rfl
theorem dksX6_odds_4 : cX6_odds.data.toList.drop 93 = dktX6_odds_4 := dk_seg dksX6_odds_3 24 rfl rfl
theorem dX6_odds_0 : decode cX6_odds 0 = .ok (.aload_n 0, 1) := dk_42 (dk_at dksX6_odds_0 0 rfl rfl)
theorem dX6_odds_1 : decode cX6_odds 1 = .ok (.iconst 0, 1) := dk_3 (dk_at dksX6_odds_0 1 rfl rfl)
theorem dX6_odds_2 : decode cX6_odds 2 = .ok (.putfield 3, 3) := dk_181 0 3 (dk_at dksX6_odds_0 2 rfl rfl)
theorem dX6_odds_5 : decode cX6_odds 5 = .ok (.aload_n 0, 1) := dk_42 (dk_at dksX6_odds_0 5 rfl rfl)
theorem dX6_odds_6 : decode cX6_odds 6 = .ok (.aload_n 0, 1) := dk_42 (dk_at dksX6_odds_0 6 rfl rfl)
theorem dX6_odds_7 : decode cX6_odds 7 = .ok (.iload_n 1, 1) := dk_27 (dk_at dksX6_odds_0 7 rfl rfl)
theorem dX6_odds_8 : decode cX6_odds 8 = .ok (.bipush 6, 2) := dk_16 6 (dk_at dksX6_odds_0 8 rfl rfl)
theorem dX6_odds_10 : decode cX6_odds 10 = .ok (.invokevirtual 276, 3) := dk_182 1 20 (dk_at dksX6_odds_0 10 rfl rfl)
theorem dX6_odds_13 : decode cX6_odds 13 = .ok (.iconst 1, 1) := dk_4 (dk_at dksX6_odds_0 13 rfl rfl)
theorem dX6_odds_14 : decode cX6_odds 14 = .ok (.invokevirtual 80, 3) := dk_182 0 80 (dk_at dksX6_odds_0 14 rfl rfl)
theorem dX6_odds_17 : decode cX6_odds 17 = .ok (.ifCond .eq 5, 3) := dk_153 0 5 (dk_at dksX6_odds_0 17 rfl rfl)
theorem dX6_odds_20 : decode cX6_odds 20 = .ok (.iconst 0, 1) := dk_3 (dk_at dksX6_odds_0 20 rfl rfl)
theorem dX6_odds_21 : decode cX6_odds 21 = .ok (.ireturn, 1) := dk_172 (dk_at dksX6_odds_0 21 rfl rfl)
theorem dX6_odds_22 : decode cX6_odds 22 = .ok (.aload_n 0, 1) := dk_42 (dk_at dksX6_odds_0 22 rfl rfl)
theorem dX6_odds_23 : decode cX6_odds 23 = .ok (.invokevirtual 432, 3) := dk_182 1 176 (dk_at dksX6_odds_1 0 rfl rfl)
theorem dX6_odds_26 : decode cX6_odds 26 = .ok (.iconst 0, 1) := dk_3 (dk_at dksX6_odds_1 3 rfl rfl)
theorem dX6_odds_27 : decode cX6_odds 27 = .ok (.istore_n 2, 1) := dk_61 (dk_at dksX6_odds_1 4 rfl rfl)
theorem dX6_odds_28 : decode cX6_odds 28 = .ok (.iconst 0, 1) := dk_3 (dk_at dksX6_odds_1 5 rfl rfl)
theorem dX6_odds_29 : decode cX6_odds 29 = .ok (.istore_n 3, 1) := dk_62 (dk_at dksX6_odds_1 6 rfl rfl)
theorem dX6_odds_30 : decode cX6_odds 30 = .ok (.iload_n 3, 1) := dk_29 (dk_at dksX6_odds_1 7 rfl rfl)
theorem dX6_odds_31 : decode cX6_odds 31 = .ok (.aload_n 0, 1) := dk_42 (dk_at dksX6_odds_1 8 rfl rfl)
theorem dX6_odds_32 : decode cX6_odds 32 = .ok (.getfield 13, 3) := dk_180 0 13 (dk_at dksX6_odds_1 9 rfl rfl)
theorem dX6_odds_35 : decode cX6_odds 35 = .ok (.bipush 6, 2) := dk_16 6 (dk_at dksX6_odds_1 12 rfl rfl)
theorem dX6_odds_37 : decode cX6_odds 37 = .ok (.iaload, 1) := dk_46 (dk_at dksX6_odds_1 14 rfl rfl)
theorem dX6_odds_38 : decode cX6_odds 38 = .ok (.if_icmp .ge 37, 3) := dk_162 0 37 (dk_at dksX6_odds_1 15 rfl rfl)
theorem dX6_odds_41 : decode cX6_odds 41 = .ok (.iload_n 2, 1) := dk_28 (dk_at dksX6_odds_1 18 rfl rfl)
theorem dX6_odds_42 : decode cX6_odds 42 = .ok (.aload_n 0, 1) := dk_42 (dk_at dksX6_odds_1 19 rfl rfl)
theorem dX6_odds_43 : decode cX6_odds 43 = .ok (.iconst 4, 1) := dk_7 (dk_at dksX6_odds_1 20 rfl rfl)
theorem dX6_odds_44 : decode cX6_odds 44 = .ok (.iload_n 3, 1) := dk_29 (dk_at dksX6_odds_1 21 rfl rfl)
theorem dX6_odds_45 : decode cX6_odds 45 = .ok (.iadd, 1) := dk_96 (dk_at dksX6_odds_1 22 rfl rfl)
theorem dX6_odds_46 : decode cX6_odds 46 = .ok (.iconst 0, 1) := dk_3 (dk_at dksX6_odds_1 23 rfl rfl)
theorem dX6_odds_47 : decode cX6_odds 47 = .ok (.invokevirtual 307, 3) := dk_182 1 51 (dk_at dksX6_odds_2 0 rfl rfl)
theorem dX6_odds_50 : decode cX6_odds 50 = .ok (.ifCond .eq 16, 3) := dk_153 0 16 (dk_at dksX6_odds_2 3 rfl rfl)
theorem dX6_odds_53 : decode cX6_odds 53 = .ok (.aload_n 0, 1) := dk_42 (dk_at dksX6_odds_2 6 rfl rfl)
theorem dX6_odds_54 : decode cX6_odds 54 = .ok (.getfield 13, 3) := dk_180 0 13 (dk_at dksX6_odds_2 7 rfl rfl)
theorem dX6_odds_57 : decode cX6_odds 57 = .ok (.sipush 1161, 3) := dk_17 4 137 (dk_at dksX6_odds_2 10 rfl rfl)
theorem dX6_odds_60 : decode cX6_odds 60 = .ok (.iload_n 3, 1) := dk_29 (dk_at dksX6_odds_2 13 rfl rfl)
theorem dX6_odds_61 : decode cX6_odds 61 = .ok (.iadd, 1) := dk_96 (dk_at dksX6_odds_2 14 rfl rfl)
theorem dX6_odds_62 : decode cX6_odds 62 = .ok (.iaload, 1) := dk_46 (dk_at dksX6_odds_2 15 rfl rfl)
theorem dX6_odds_63 : decode cX6_odds 63 = .ok (.goto 4, 3) := dk_167 0 4 (dk_at dksX6_odds_2 16 rfl rfl)
theorem dX6_odds_66 : decode cX6_odds 66 = .ok (.iconst 0, 1) := dk_3 (dk_at dksX6_odds_2 19 rfl rfl)
theorem dX6_odds_67 : decode cX6_odds 67 = .ok (.iadd, 1) := dk_96 (dk_at dksX6_odds_2 20 rfl rfl)
theorem dX6_odds_68 : decode cX6_odds 68 = .ok (.istore_n 2, 1) := dk_61 (dk_at dksX6_odds_2 21 rfl rfl)
theorem dX6_odds_69 : decode cX6_odds 69 = .ok (.iinc 3 1, 3) := dk_132 3 1 (dk_at dksX6_odds_3 0 rfl rfl)
theorem dX6_odds_72 : decode cX6_odds 72 = .ok (.goto (-42), 3) := dk_167 255 214 (dk_at dksX6_odds_3 3 rfl rfl)
theorem dX6_odds_75 : decode cX6_odds 75 = .ok (.aload_n 0, 1) := dk_42 (dk_at dksX6_odds_3 6 rfl rfl)
theorem dX6_odds_76 : decode cX6_odds 76 = .ok (.iconst 4, 1) := dk_7 (dk_at dksX6_odds_3 7 rfl rfl)
theorem dX6_odds_77 : decode cX6_odds 77 = .ok (.iload_n 1, 1) := dk_27 (dk_at dksX6_odds_3 8 rfl rfl)
theorem dX6_odds_78 : decode cX6_odds 78 = .ok (.iadd, 1) := dk_96 (dk_at dksX6_odds_3 9 rfl rfl)
theorem dX6_odds_79 : decode cX6_odds 79 = .ok (.iconst 0, 1) := dk_3 (dk_at dksX6_odds_3 10 rfl rfl)
theorem dX6_odds_80 : decode cX6_odds 80 = .ok (.invokevirtual 307, 3) := dk_182 1 51 (dk_at dksX6_odds_3 11 rfl rfl)
theorem dX6_odds_83 : decode cX6_odds 83 = .ok (.ifCond .eq 22, 3) := dk_153 0 22 (dk_at dksX6_odds_3 14 rfl rfl)
theorem dX6_odds_86 : decode cX6_odds 86 = .ok (.sipush 10000, 3) := dk_17 39 16 (dk_at dksX6_odds_3 17 rfl rfl)
theorem dX6_odds_89 : decode cX6_odds 89 = .ok (.aload_n 0, 1) := dk_42 (dk_at dksX6_odds_3 20 rfl rfl)
theorem dX6_odds_90 : decode cX6_odds 90 = .ok (.getfield 13, 3) := dk_180 0 13 (dk_at dksX6_odds_3 21 rfl rfl)
theorem dX6_odds_93 : decode cX6_odds 93 = .ok (.sipush 1161, 3) := dk_17 4 137 (dk_at dksX6_odds_4 0 rfl rfl)
theorem dX6_odds_96 : decode cX6_odds 96 = .ok (.iload_n 1, 1) := dk_27 (dk_at dksX6_odds_4 3 rfl rfl)
theorem dX6_odds_97 : decode cX6_odds 97 = .ok (.iadd, 1) := dk_96 (dk_at dksX6_odds_4 4 rfl rfl)
theorem dX6_odds_98 : decode cX6_odds 98 = .ok (.iaload, 1) := dk_46 (dk_at dksX6_odds_4 5 rfl rfl)
theorem dX6_odds_99 : decode cX6_odds 99 = .ok (.imul, 1) := dk_104 (dk_at dksX6_odds_4 6 rfl rfl)
theorem dX6_odds_100 : decode cX6_odds 100 = .ok (.iload_n 2, 1) := dk_28 (dk_at dksX6_odds_4 7 rfl rfl)
theorem dX6_odds_101 : decode cX6_odds 101 = .ok (.idiv, 1) := dk_108 (dk_at dksX6_odds_4 8 rfl rfl)
theorem dX6_odds_102 : decode cX6_odds 102 = .ok (.goto 4, 3) := dk_167 0 4 (dk_at dksX6_odds_4 9 rfl rfl)
theorem dX6_odds_105 : decode cX6_odds 105 = .ok (.iconst 0, 1) := dk_3 (dk_at dksX6_odds_4 12 rfl rfl)
theorem dX6_odds_106 : decode cX6_odds 106 = .ok (.ireturn, 1) := dk_172 (dk_at dksX6_odds_4 13 rfl rfl)
abbrev cX6_count : ByteArray := prog_30_method_121_code
def yX6_count : MethodName := ⟨RX6, "count", "(I)I"⟩
def dkwX6_count_8 : List UInt8 := [172]
abbrev dktX6_count_8 : List UInt8 := dkwX6_count_8 ++ []
def dkwX6_count_7 : List UInt8 := [180, 0, 13, 17, 1, 13, 7, 29, 104, 96, 6, 96, 46, 96, 61, 132, 3, 1, 167, 255, 226, 28, 172, 2]
abbrev dktX6_count_7 : List UInt8 := dkwX6_count_7 ++ dktX6_count_8
def dkwX6_count_6 : List UInt8 := [180, 0, 13, 16, 12, 46, 184, 1, 95, 172, 3, 62, 29, 42, 180, 0, 13, 3, 46, 162, 0, 26, 28, 42]
abbrev dktX6_count_6 : List UInt8 := dkwX6_count_6 ++ dktX6_count_7
def dkwX6_count_5 : List UInt8 := [180, 0, 13, 7, 46, 172, 42, 180, 0, 13, 8, 46, 172, 42, 180, 0, 13, 16, 6, 46, 172, 42]
abbrev dktX6_count_5 : List UInt8 := dkwX6_count_5 ++ dktX6_count_6
def dkwX6_count_4 : List UInt8 := [5, 46, 172, 42, 182, 1, 77, 172, 42, 182, 1, 89, 172, 42, 180, 0, 13, 16, 7, 46, 172, 42]
abbrev dktX6_count_4 : List UInt8 := dkwX6_count_4 ++ dktX6_count_5
def dkwX6_count_3 : List UInt8 := [162, 0, 18, 28, 42, 29, 6, 182, 1, 17, 96, 61, 132, 3, 1, 167, 255, 234, 28, 172, 42, 180, 0, 13]
abbrev dktX6_count_3 : List UInt8 := dkwX6_count_3 ++ dktX6_count_4
def dkwX6_count_2 : List UInt8 := [42, 180, 0, 13, 3, 46, 172, 42, 180, 0, 13, 4, 46, 172, 3, 62, 29, 42, 180, 0, 13, 4, 46]
abbrev dktX6_count_2 : List UInt8 := dkwX6_count_2 ++ dktX6_count_3
def dkwX6_count_1 : List UInt8 := [170, 0, 0, 0, 0, 0, 0, 202, 0, 0, 0, 0, 0, 0, 0, 11, 0, 0, 0, 64, 0, 0, 0, 71, 0, 0, 0, 78, 0, 0, 0, 107, 0, 0, 0, 114, 0, 0, 0, 119, 0, 0, 0, 124, 0, 0, 0, 132, 0, 0, 0, 139, 0, 0, 0, 146, 0, 0, 0, 154, 0, 0, 0, 165]
abbrev dktX6_count_1 : List UInt8 := dkwX6_count_1 ++ dktX6_count_2
def dkwX6_count_0 : List UInt8 := [42, 3, 181, 0, 3, 3, 61, 27]
abbrev dktX6_count_0 : List UInt8 := dkwX6_count_0 ++ dktX6_count_1
theorem dksX6_count_0 : cX6_count.data.toList.drop 0 = dktX6_count_0 := by decide +kernel
theorem dksX6_count_1 : cX6_count.data.toList.drop 8 = dktX6_count_1 := dk_seg dksX6_count_0 8 rfl rfl
theorem dksX6_count_2 : cX6_count.data.toList.drop 72 = dktX6_count_2 := dk_seg dksX6_count_1 64 rfl rfl
theorem dksX6_count_3 : cX6_count.data.toList.drop 95 = dktX6_count_3 := dk_seg dksX6_count_2 23 rfl rfl
theorem dksX6_count_4 : cX6_count.data.toList.drop 119 = dktX6_count_4 := dk_seg dksX6_count_3 24 rfl rfl
theorem dksX6_count_5 : cX6_count.data.toList.drop 141 = dktX6_count_5 := dk_seg dksX6_count_4 22 rfl rfl
theorem dksX6_count_6 : cX6_count.data.toList.drop 163 = dktX6_count_6 := dk_seg dksX6_count_5 22 rfl rfl
theorem dksX6_count_7 : cX6_count.data.toList.drop 187 = dktX6_count_7 := dk_seg dksX6_count_6 24 rfl rfl
theorem dksX6_count_8 : cX6_count.data.toList.drop 211 = dktX6_count_8 := dk_seg dksX6_count_7 24 rfl rfl
theorem dX6_count_0 : decode cX6_count 0 = .ok (.aload_n 0, 1) := dk_42 (dk_at dksX6_count_0 0 rfl rfl)
theorem dX6_count_1 : decode cX6_count 1 = .ok (.iconst 0, 1) := dk_3 (dk_at dksX6_count_0 1 rfl rfl)
theorem dX6_count_2 : decode cX6_count 2 = .ok (.putfield 3, 3) := dk_181 0 3 (dk_at dksX6_count_0 2 rfl rfl)
theorem dX6_count_5 : decode cX6_count 5 = .ok (.iconst 0, 1) := dk_3 (dk_at dksX6_count_0 5 rfl rfl)
theorem dX6_count_6 : decode cX6_count 6 = .ok (.istore_n 2, 1) := dk_61 (dk_at dksX6_count_0 6 rfl rfl)
theorem dX6_count_7 : decode cX6_count 7 = .ok (.iload_n 1, 1) := dk_27 (dk_at dksX6_count_0 7 rfl rfl)
theorem dX6_count_8 : decode cX6_count 8 = .ok (.tableswitch 202 0 11 #[64, 71, 78, 107, 114, 119, 124, 132, 139, 146, 154, 165], 64) := by decide +kernel
theorem dX6_count_72 : decode cX6_count 72 = .ok (.aload_n 0, 1) := dk_42 (dk_at dksX6_count_2 0 rfl rfl)
theorem dX6_count_73 : decode cX6_count 73 = .ok (.getfield 13, 3) := dk_180 0 13 (dk_at dksX6_count_2 1 rfl rfl)
theorem dX6_count_76 : decode cX6_count 76 = .ok (.iconst 0, 1) := dk_3 (dk_at dksX6_count_2 4 rfl rfl)
theorem dX6_count_77 : decode cX6_count 77 = .ok (.iaload, 1) := dk_46 (dk_at dksX6_count_2 5 rfl rfl)
theorem dX6_count_78 : decode cX6_count 78 = .ok (.ireturn, 1) := dk_172 (dk_at dksX6_count_2 6 rfl rfl)
theorem dX6_count_79 : decode cX6_count 79 = .ok (.aload_n 0, 1) := dk_42 (dk_at dksX6_count_2 7 rfl rfl)
theorem dX6_count_80 : decode cX6_count 80 = .ok (.getfield 13, 3) := dk_180 0 13 (dk_at dksX6_count_2 8 rfl rfl)
theorem dX6_count_83 : decode cX6_count 83 = .ok (.iconst 1, 1) := dk_4 (dk_at dksX6_count_2 11 rfl rfl)
theorem dX6_count_84 : decode cX6_count 84 = .ok (.iaload, 1) := dk_46 (dk_at dksX6_count_2 12 rfl rfl)
theorem dX6_count_85 : decode cX6_count 85 = .ok (.ireturn, 1) := dk_172 (dk_at dksX6_count_2 13 rfl rfl)
theorem dX6_count_86 : decode cX6_count 86 = .ok (.iconst 0, 1) := dk_3 (dk_at dksX6_count_2 14 rfl rfl)
theorem dX6_count_87 : decode cX6_count 87 = .ok (.istore_n 3, 1) := dk_62 (dk_at dksX6_count_2 15 rfl rfl)
theorem dX6_count_88 : decode cX6_count 88 = .ok (.iload_n 3, 1) := dk_29 (dk_at dksX6_count_2 16 rfl rfl)
theorem dX6_count_89 : decode cX6_count 89 = .ok (.aload_n 0, 1) := dk_42 (dk_at dksX6_count_2 17 rfl rfl)
theorem dX6_count_90 : decode cX6_count 90 = .ok (.getfield 13, 3) := dk_180 0 13 (dk_at dksX6_count_2 18 rfl rfl)
theorem dX6_count_93 : decode cX6_count 93 = .ok (.iconst 1, 1) := dk_4 (dk_at dksX6_count_2 21 rfl rfl)
theorem dX6_count_94 : decode cX6_count 94 = .ok (.iaload, 1) := dk_46 (dk_at dksX6_count_2 22 rfl rfl)
theorem dX6_count_95 : decode cX6_count 95 = .ok (.if_icmp .ge 18, 3) := dk_162 0 18 (dk_at dksX6_count_3 0 rfl rfl)
theorem dX6_count_98 : decode cX6_count 98 = .ok (.iload_n 2, 1) := dk_28 (dk_at dksX6_count_3 3 rfl rfl)
theorem dX6_count_99 : decode cX6_count 99 = .ok (.aload_n 0, 1) := dk_42 (dk_at dksX6_count_3 4 rfl rfl)
theorem dX6_count_100 : decode cX6_count 100 = .ok (.iload_n 3, 1) := dk_29 (dk_at dksX6_count_3 5 rfl rfl)
theorem dX6_count_101 : decode cX6_count 101 = .ok (.iconst 3, 1) := dk_6 (dk_at dksX6_count_3 6 rfl rfl)
theorem dX6_count_102 : decode cX6_count 102 = .ok (.invokevirtual 273, 3) := dk_182 1 17 (dk_at dksX6_count_3 7 rfl rfl)
theorem dX6_count_105 : decode cX6_count 105 = .ok (.iadd, 1) := dk_96 (dk_at dksX6_count_3 10 rfl rfl)
theorem dX6_count_106 : decode cX6_count 106 = .ok (.istore_n 2, 1) := dk_61 (dk_at dksX6_count_3 11 rfl rfl)
theorem dX6_count_107 : decode cX6_count 107 = .ok (.iinc 3 1, 3) := dk_132 3 1 (dk_at dksX6_count_3 12 rfl rfl)
theorem dX6_count_110 : decode cX6_count 110 = .ok (.goto (-22), 3) := dk_167 255 234 (dk_at dksX6_count_3 15 rfl rfl)
theorem dX6_count_113 : decode cX6_count 113 = .ok (.iload_n 2, 1) := dk_28 (dk_at dksX6_count_3 18 rfl rfl)
theorem dX6_count_114 : decode cX6_count 114 = .ok (.ireturn, 1) := dk_172 (dk_at dksX6_count_3 19 rfl rfl)
theorem dX6_count_115 : decode cX6_count 115 = .ok (.aload_n 0, 1) := dk_42 (dk_at dksX6_count_3 20 rfl rfl)
theorem dX6_count_116 : decode cX6_count 116 = .ok (.getfield 13, 3) := dk_180 0 13 (dk_at dksX6_count_3 21 rfl rfl)
theorem dX6_count_119 : decode cX6_count 119 = .ok (.iconst 2, 1) := dk_5 (dk_at dksX6_count_4 0 rfl rfl)
theorem dX6_count_120 : decode cX6_count 120 = .ok (.iaload, 1) := dk_46 (dk_at dksX6_count_4 1 rfl rfl)
theorem dX6_count_121 : decode cX6_count 121 = .ok (.ireturn, 1) := dk_172 (dk_at dksX6_count_4 2 rfl rfl)
theorem dX6_count_122 : decode cX6_count 122 = .ok (.aload_n 0, 1) := dk_42 (dk_at dksX6_count_4 3 rfl rfl)
theorem dX6_count_123 : decode cX6_count 123 = .ok (.invokevirtual 333, 3) := dk_182 1 77 (dk_at dksX6_count_4 4 rfl rfl)
theorem dX6_count_126 : decode cX6_count 126 = .ok (.ireturn, 1) := dk_172 (dk_at dksX6_count_4 7 rfl rfl)
theorem dX6_count_127 : decode cX6_count 127 = .ok (.aload_n 0, 1) := dk_42 (dk_at dksX6_count_4 8 rfl rfl)
theorem dX6_count_128 : decode cX6_count 128 = .ok (.invokevirtual 345, 3) := dk_182 1 89 (dk_at dksX6_count_4 9 rfl rfl)
theorem dX6_count_131 : decode cX6_count 131 = .ok (.ireturn, 1) := dk_172 (dk_at dksX6_count_4 12 rfl rfl)
theorem dX6_count_132 : decode cX6_count 132 = .ok (.aload_n 0, 1) := dk_42 (dk_at dksX6_count_4 13 rfl rfl)
theorem dX6_count_133 : decode cX6_count 133 = .ok (.getfield 13, 3) := dk_180 0 13 (dk_at dksX6_count_4 14 rfl rfl)
theorem dX6_count_136 : decode cX6_count 136 = .ok (.bipush 7, 2) := dk_16 7 (dk_at dksX6_count_4 17 rfl rfl)
theorem dX6_count_138 : decode cX6_count 138 = .ok (.iaload, 1) := dk_46 (dk_at dksX6_count_4 19 rfl rfl)
theorem dX6_count_139 : decode cX6_count 139 = .ok (.ireturn, 1) := dk_172 (dk_at dksX6_count_4 20 rfl rfl)
theorem dX6_count_140 : decode cX6_count 140 = .ok (.aload_n 0, 1) := dk_42 (dk_at dksX6_count_4 21 rfl rfl)
theorem dX6_count_141 : decode cX6_count 141 = .ok (.getfield 13, 3) := dk_180 0 13 (dk_at dksX6_count_5 0 rfl rfl)
theorem dX6_count_144 : decode cX6_count 144 = .ok (.iconst 4, 1) := dk_7 (dk_at dksX6_count_5 3 rfl rfl)
theorem dX6_count_145 : decode cX6_count 145 = .ok (.iaload, 1) := dk_46 (dk_at dksX6_count_5 4 rfl rfl)
theorem dX6_count_146 : decode cX6_count 146 = .ok (.ireturn, 1) := dk_172 (dk_at dksX6_count_5 5 rfl rfl)
theorem dX6_count_147 : decode cX6_count 147 = .ok (.aload_n 0, 1) := dk_42 (dk_at dksX6_count_5 6 rfl rfl)
theorem dX6_count_148 : decode cX6_count 148 = .ok (.getfield 13, 3) := dk_180 0 13 (dk_at dksX6_count_5 7 rfl rfl)
theorem dX6_count_151 : decode cX6_count 151 = .ok (.iconst 5, 1) := dk_8 (dk_at dksX6_count_5 10 rfl rfl)
theorem dX6_count_152 : decode cX6_count 152 = .ok (.iaload, 1) := dk_46 (dk_at dksX6_count_5 11 rfl rfl)
theorem dX6_count_153 : decode cX6_count 153 = .ok (.ireturn, 1) := dk_172 (dk_at dksX6_count_5 12 rfl rfl)
theorem dX6_count_154 : decode cX6_count 154 = .ok (.aload_n 0, 1) := dk_42 (dk_at dksX6_count_5 13 rfl rfl)
theorem dX6_count_155 : decode cX6_count 155 = .ok (.getfield 13, 3) := dk_180 0 13 (dk_at dksX6_count_5 14 rfl rfl)
theorem dX6_count_158 : decode cX6_count 158 = .ok (.bipush 6, 2) := dk_16 6 (dk_at dksX6_count_5 17 rfl rfl)
theorem dX6_count_160 : decode cX6_count 160 = .ok (.iaload, 1) := dk_46 (dk_at dksX6_count_5 19 rfl rfl)
theorem dX6_count_161 : decode cX6_count 161 = .ok (.ireturn, 1) := dk_172 (dk_at dksX6_count_5 20 rfl rfl)
theorem dX6_count_162 : decode cX6_count 162 = .ok (.aload_n 0, 1) := dk_42 (dk_at dksX6_count_5 21 rfl rfl)
theorem dX6_count_163 : decode cX6_count 163 = .ok (.getfield 13, 3) := dk_180 0 13 (dk_at dksX6_count_6 0 rfl rfl)
theorem dX6_count_166 : decode cX6_count 166 = .ok (.bipush 12, 2) := dk_16 12 (dk_at dksX6_count_6 3 rfl rfl)
theorem dX6_count_168 : decode cX6_count 168 = .ok (.iaload, 1) := dk_46 (dk_at dksX6_count_6 5 rfl rfl)
theorem dX6_count_169 : decode cX6_count 169 = .ok (.invokestatic 351, 3) := dk_184 1 95 (dk_at dksX6_count_6 6 rfl rfl)
theorem dX6_count_172 : decode cX6_count 172 = .ok (.ireturn, 1) := dk_172 (dk_at dksX6_count_6 9 rfl rfl)
theorem dX6_count_173 : decode cX6_count 173 = .ok (.iconst 0, 1) := dk_3 (dk_at dksX6_count_6 10 rfl rfl)
theorem dX6_count_174 : decode cX6_count 174 = .ok (.istore_n 3, 1) := dk_62 (dk_at dksX6_count_6 11 rfl rfl)
theorem dX6_count_175 : decode cX6_count 175 = .ok (.iload_n 3, 1) := dk_29 (dk_at dksX6_count_6 12 rfl rfl)
theorem dX6_count_176 : decode cX6_count 176 = .ok (.aload_n 0, 1) := dk_42 (dk_at dksX6_count_6 13 rfl rfl)
theorem dX6_count_177 : decode cX6_count 177 = .ok (.getfield 13, 3) := dk_180 0 13 (dk_at dksX6_count_6 14 rfl rfl)
theorem dX6_count_180 : decode cX6_count 180 = .ok (.iconst 0, 1) := dk_3 (dk_at dksX6_count_6 17 rfl rfl)
theorem dX6_count_181 : decode cX6_count 181 = .ok (.iaload, 1) := dk_46 (dk_at dksX6_count_6 18 rfl rfl)
theorem dX6_count_182 : decode cX6_count 182 = .ok (.if_icmp .ge 26, 3) := dk_162 0 26 (dk_at dksX6_count_6 19 rfl rfl)
theorem dX6_count_185 : decode cX6_count 185 = .ok (.iload_n 2, 1) := dk_28 (dk_at dksX6_count_6 22 rfl rfl)
theorem dX6_count_186 : decode cX6_count 186 = .ok (.aload_n 0, 1) := dk_42 (dk_at dksX6_count_6 23 rfl rfl)
theorem dX6_count_187 : decode cX6_count 187 = .ok (.getfield 13, 3) := dk_180 0 13 (dk_at dksX6_count_7 0 rfl rfl)
theorem dX6_count_190 : decode cX6_count 190 = .ok (.sipush 269, 3) := dk_17 1 13 (dk_at dksX6_count_7 3 rfl rfl)
theorem dX6_count_193 : decode cX6_count 193 = .ok (.iconst 4, 1) := dk_7 (dk_at dksX6_count_7 6 rfl rfl)
theorem dX6_count_194 : decode cX6_count 194 = .ok (.iload_n 3, 1) := dk_29 (dk_at dksX6_count_7 7 rfl rfl)
theorem dX6_count_195 : decode cX6_count 195 = .ok (.imul, 1) := dk_104 (dk_at dksX6_count_7 8 rfl rfl)
theorem dX6_count_196 : decode cX6_count 196 = .ok (.iadd, 1) := dk_96 (dk_at dksX6_count_7 9 rfl rfl)
theorem dX6_count_197 : decode cX6_count 197 = .ok (.iconst 3, 1) := dk_6 (dk_at dksX6_count_7 10 rfl rfl)
theorem dX6_count_198 : decode cX6_count 198 = .ok (.iadd, 1) := dk_96 (dk_at dksX6_count_7 11 rfl rfl)
theorem dX6_count_199 : decode cX6_count 199 = .ok (.iaload, 1) := dk_46 (dk_at dksX6_count_7 12 rfl rfl)
theorem dX6_count_200 : decode cX6_count 200 = .ok (.iadd, 1) := dk_96 (dk_at dksX6_count_7 13 rfl rfl)
theorem dX6_count_201 : decode cX6_count 201 = .ok (.istore_n 2, 1) := dk_61 (dk_at dksX6_count_7 14 rfl rfl)
theorem dX6_count_202 : decode cX6_count 202 = .ok (.iinc 3 1, 3) := dk_132 3 1 (dk_at dksX6_count_7 15 rfl rfl)
theorem dX6_count_205 : decode cX6_count 205 = .ok (.goto (-30), 3) := dk_167 255 226 (dk_at dksX6_count_7 18 rfl rfl)
theorem dX6_count_208 : decode cX6_count 208 = .ok (.iload_n 2, 1) := dk_28 (dk_at dksX6_count_7 21 rfl rfl)
theorem dX6_count_209 : decode cX6_count 209 = .ok (.ireturn, 1) := dk_172 (dk_at dksX6_count_7 22 rfl rfl)
theorem dX6_count_210 : decode cX6_count 210 = .ok (.iconst (-1), 1) := dk_2 (dk_at dksX6_count_7 23 rfl rfl)
theorem dX6_count_211 : decode cX6_count 211 = .ok (.ireturn, 1) := dk_172 (dk_at dksX6_count_8 0 rfl rfl)
