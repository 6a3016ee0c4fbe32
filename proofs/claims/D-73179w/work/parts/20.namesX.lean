set_option maxRecDepth 100000
abbrev cX0_init : ByteArray := prog_1_method_7_code
def yX0_init : MethodName := ⟨RX0, "<init>", "()V"⟩
def dkwX0_init_19 : List UInt8 := [183, 0, 194, 83, 177]
abbrev dktX0_init_19 : List UInt8 := dkwX0_init_19 ++ []
def dkwX0_init_18 : List UInt8 := [186, 0, 197, 0, 0, 183, 0, 194, 83, 42, 180, 0, 38, 5, 187, 0, 36, 89, 42, 186, 0, 198, 0, 0]
abbrev dktX0_init_18 : List UInt8 := dkwX0_init_18 ++ dktX0_init_19
def dkwX0_init_17 : List UInt8 := [187, 0, 36, 89, 42, 186, 0, 191, 0, 0, 183, 0, 194, 83, 42, 180, 0, 38, 4, 187, 0, 36, 89, 42]
abbrev dktX0_init_17 : List UInt8 := dkwX0_init_17 ++ dktX0_init_18
def dkwX0_init_16 : List UInt8 := [181, 0, 179, 42, 16, 24, 188, 10, 181, 0, 182, 42, 7, 189, 0, 185, 181, 0, 187, 42, 180, 0, 38, 3]
abbrev dktX0_init_16 : List UInt8 := dkwX0_init_16 ++ dktX0_init_17
def dkwX0_init_15 : List UInt8 := [17, 17, 42, 188, 10, 181, 0, 173, 42, 16, 12, 188, 10, 181, 0, 176, 42, 17, 7, 236, 188, 10]
abbrev dktX0_init_15 : List UInt8 := dkwX0_init_15 ++ dktX0_init_16
def dkwX0_init_14 : List UInt8 := [181, 0, 164, 42, 17, 7, 236, 188, 4, 181, 0, 167, 42, 17, 0, 169, 188, 10, 181, 0, 170, 42]
abbrev dktX0_init_14 : List UInt8 := dkwX0_init_14 ++ dktX0_init_15
def dkwX0_init_13 : List UInt8 := [17, 7, 236, 188, 4, 181, 0, 157, 42, 17, 7, 236, 188, 10, 181, 0, 161, 42, 17, 7, 236, 188, 10]
abbrev dktX0_init_13 : List UInt8 := dkwX0_init_13 ++ dktX0_init_14
def dkwX0_init_12 : List UInt8 := [181, 0, 146, 42, 186, 0, 149, 0, 0, 181, 0, 150, 42, 186, 0, 153, 0, 0, 181, 0, 154, 42]
abbrev dktX0_init_12 : List UInt8 := dkwX0_init_12 ++ dktX0_init_13
def dkwX0_init_11 : List UInt8 := [186, 0, 137, 0, 0, 181, 0, 138, 42, 186, 0, 141, 0, 0, 181, 0, 142, 42, 186, 0, 145, 0, 0]
abbrev dktX0_init_11 : List UInt8 := dkwX0_init_11 ++ dktX0_init_12
def dkwX0_init_10 : List UInt8 := [181, 0, 125, 42, 186, 0, 129, 0, 0, 181, 0, 130, 42, 186, 0, 133, 0, 0, 181, 0, 134, 42]
abbrev dktX0_init_10 : List UInt8 := dkwX0_init_10 ++ dktX0_init_11
def dkwX0_init_9 : List UInt8 := [186, 0, 113, 0, 0, 181, 0, 114, 42, 42, 186, 0, 117, 0, 0, 181, 0, 118, 42, 186, 0, 121, 0, 0]
abbrev dktX0_init_9 : List UInt8 := dkwX0_init_9 ++ dktX0_init_10
def dkwX0_init_8 : List UInt8 := [42, 186, 0, 105, 0, 0, 181, 0, 106, 42, 42, 186, 0, 109, 0, 0, 181, 0, 110, 42, 42]
abbrev dktX0_init_8 : List UInt8 := dkwX0_init_8 ++ dktX0_init_9
def dkwX0_init_7 : List UInt8 := [188, 10, 181, 0, 91, 42, 16, 13, 188, 10, 181, 0, 94, 42, 42, 186, 0, 97, 0, 0, 181, 0, 101, 42]
abbrev dktX0_init_7 : List UInt8 := dkwX0_init_7 ++ dktX0_init_8
def dkwX0_init_6 : List UInt8 := [188, 10, 181, 0, 82, 42, 16, 90, 188, 10, 181, 0, 85, 42, 16, 90, 188, 10, 181, 0, 88, 42, 16, 13]
abbrev dktX0_init_6 : List UInt8 := dkwX0_init_6 ++ dktX0_init_7
def dkwX0_init_5 : List UInt8 := [181, 0, 72, 42, 17, 18, 72, 188, 10, 181, 0, 75, 42, 18, 78, 188, 10, 181, 0, 79, 42, 16, 90]
abbrev dktX0_init_5 : List UInt8 := dkwX0_init_5 ++ dktX0_init_6
def dkwX0_init_4 : List UInt8 := [42, 17, 18, 124, 188, 10, 181, 0, 66, 42, 17, 18, 72, 188, 10, 181, 0, 69, 42, 17, 18, 72, 188, 10]
abbrev dktX0_init_4 : List UInt8 := dkwX0_init_4 ++ dktX0_init_5
def dkwX0_init_3 : List UInt8 := [42, 16, 26, 188, 10, 181, 0, 56, 42, 16, 26, 188, 10, 181, 0, 59, 42, 16, 91, 188, 11, 181, 0, 62]
abbrev dktX0_init_3 : List UInt8 := dkwX0_init_3 ++ dktX0_init_4
def dkwX0_init_2 : List UInt8 := [89, 183, 0, 44, 181, 0, 45, 42, 17, 1, 144, 188, 8, 181, 0, 49, 42, 16, 26, 188, 10, 181, 0, 53]
abbrev dktX0_init_2 : List UInt8 := dkwX0_init_2 ++ dktX0_init_3
def dkwX0_init_1 : List UInt8 := [181, 0, 27, 42, 16, 20, 189, 0, 30, 181, 0, 32, 42, 6, 189, 0, 36, 181, 0, 38, 42, 187, 0, 42]
abbrev dktX0_init_1 : List UInt8 := dkwX0_init_1 ++ dktX0_init_2
def dkwX0_init_0 : List UInt8 := [42, 183, 0, 13, 42, 16, 12, 188, 10, 181, 0, 19, 42, 16, 7, 181, 0, 23, 42, 16, 24, 188, 10]
abbrev dktX0_init_0 : List UInt8 := dkwX0_init_0 ++ dktX0_init_1
theorem dksX0_init_0 : cX0_init.data.toList.drop 0 = dktX0_init_0 := by decide +kernel
theorem dksX0_init_1 : cX0_init.data.toList.drop 23 = dktX0_init_1 := dk_seg dksX0_init_0 23 rfl rfl
theorem dksX0_init_2 : cX0_init.data.toList.drop 47 = dktX0_init_2 := dk_seg dksX0_init_1 24 rfl rfl
theorem dksX0_init_3 : cX0_init.data.toList.drop 71 = dktX0_init_3 := dk_seg dksX0_init_2 24 rfl rfl
theorem dksX0_init_4 : cX0_init.data.toList.drop 95 = dktX0_init_4 := dk_seg dksX0_init_3 24 rfl rfl
theorem dksX0_init_5 : cX0_init.data.toList.drop 119 = dktX0_init_5 := dk_seg dksX0_init_4 24 rfl rfl
theorem dksX0_init_6 : cX0_init.data.toList.drop 142 = dktX0_init_6 := dk_seg dksX0_init_5 23 rfl rfl
theorem dksX0_init_7 : cX0_init.data.toList.drop 166 = dktX0_init_7 := dk_seg dksX0_init_6 24 rfl rfl
theorem dksX0_init_8 : cX0_init.data.toList.drop 190 = dktX0_init_8 := dk_seg dksX0_init_7 24 rfl rfl
theorem dksX0_init_9 : cX0_init.data.toList.drop 211 = dktX0_init_9 := dk_seg dksX0_init_8 21 rfl rfl
theorem dksX0_init_10 : cX0_init.data.toList.drop 235 = dktX0_init_10 := dk_seg dksX0_init_9 24 rfl rfl
theorem dksX0_init_11 : cX0_init.data.toList.drop 257 = dktX0_init_11 := dk_seg dksX0_init_10 22 rfl rfl
theorem dksX0_init_12 : cX0_init.data.toList.drop 280 = dktX0_init_12 := dk_seg dksX0_init_11 23 rfl rfl
theorem dksX0_init_13 : cX0_init.data.toList.drop 302 = dktX0_init_13 := dk_seg dksX0_init_12 22 rfl rfl
theorem dksX0_init_14 : cX0_init.data.toList.drop 325 = dktX0_init_14 := dk_seg dksX0_init_13 23 rfl rfl
theorem dksX0_init_15 : cX0_init.data.toList.drop 347 = dktX0_init_15 := dk_seg dksX0_init_14 22 rfl rfl
theorem dksX0_init_16 : cX0_init.data.toList.drop 369 = dktX0_init_16 := dk_seg dksX0_init_15 22 rfl rfl
theorem dksX0_init_17 : cX0_init.data.toList.drop 393 = dktX0_init_17 := dk_seg dksX0_init_16 24 rfl rfl
theorem dksX0_init_18 : cX0_init.data.toList.drop 417 = dktX0_init_18 := dk_seg dksX0_init_17 24 rfl rfl
theorem dksX0_init_19 : cX0_init.data.toList.drop 441 = dktX0_init_19 := dk_seg dksX0_init_18 24 rfl rfl
theorem dX0_init_0 : decode cX0_init 0 = .ok (.aload_n 0, 1) := dk_42 (dk_at dksX0_init_0 0 rfl rfl)
theorem dX0_init_1 : decode cX0_init 1 = .ok (.invokespecial 13, 3) := dk_183 0 13 (dk_at dksX0_init_0 1 rfl rfl)
theorem dX0_init_4 : decode cX0_init 4 = .ok (.aload_n 0, 1) := dk_42 (dk_at dksX0_init_0 4 rfl rfl)
theorem dX0_init_5 : decode cX0_init 5 = .ok (.bipush 12, 2) := dk_16 12 (dk_at dksX0_init_0 5 rfl rfl)
theorem dX0_init_7 : decode cX0_init 7 = .ok (.newarray .int, 2) := dk_188_10 (dk_at dksX0_init_0 7 rfl rfl)
theorem dX0_init_9 : decode cX0_init 9 = .ok (.putfield 19, 3) := dk_181 0 19 (dk_at dksX0_init_0 9 rfl rfl)
theorem dX0_init_12 : decode cX0_init 12 = .ok (.aload_n 0, 1) := dk_42 (dk_at dksX0_init_0 12 rfl rfl)
theorem dX0_init_13 : decode cX0_init 13 = .ok (.bipush 7, 2) := dk_16 7 (dk_at dksX0_init_0 13 rfl rfl)
theorem dX0_init_15 : decode cX0_init 15 = .ok (.putfield 23, 3) := dk_181 0 23 (dk_at dksX0_init_0 15 rfl rfl)
theorem dX0_init_18 : decode cX0_init 18 = .ok (.aload_n 0, 1) := dk_42 (dk_at dksX0_init_0 18 rfl rfl)
theorem dX0_init_19 : decode cX0_init 19 = .ok (.bipush 24, 2) := dk_16 24 (dk_at dksX0_init_0 19 rfl rfl)
theorem dX0_init_21 : decode cX0_init 21 = .ok (.newarray .int, 2) := dk_188_10 (dk_at dksX0_init_0 21 rfl rfl)
theorem dX0_init_23 : decode cX0_init 23 = .ok (.putfield 27, 3) := dk_181 0 27 (dk_at dksX0_init_1 0 rfl rfl)
theorem dX0_init_26 : decode cX0_init 26 = .ok (.aload_n 0, 1) := dk_42 (dk_at dksX0_init_1 3 rfl rfl)
theorem dX0_init_27 : decode cX0_init 27 = .ok (.bipush 20, 2) := dk_16 20 (dk_at dksX0_init_1 4 rfl rfl)
theorem dX0_init_29 : decode cX0_init 29 = .ok (.anewarray 30, 3) := dk_189 0 30 (dk_at dksX0_init_1 6 rfl rfl)
theorem dX0_init_32 : decode cX0_init 32 = .ok (.putfield 32, 3) := dk_181 0 32 (dk_at dksX0_init_1 9 rfl rfl)
theorem dX0_init_35 : decode cX0_init 35 = .ok (.aload_n 0, 1) := dk_42 (dk_at dksX0_init_1 12 rfl rfl)
theorem dX0_init_36 : decode cX0_init 36 = .ok (.iconst 3, 1) := dk_6 (dk_at dksX0_init_1 13 rfl rfl)
theorem dX0_init_37 : decode cX0_init 37 = .ok (.anewarray 36, 3) := dk_189 0 36 (dk_at dksX0_init_1 14 rfl rfl)
theorem dX0_init_40 : decode cX0_init 40 = .ok (.putfield 38, 3) := dk_181 0 38 (dk_at dksX0_init_1 17 rfl rfl)
theorem dX0_init_43 : decode cX0_init 43 = .ok (.aload_n 0, 1) := dk_42 (dk_at dksX0_init_1 20 rfl rfl)
theorem dX0_init_44 : decode cX0_init 44 = .ok (.new 42, 3) := dk_187 0 42 (dk_at dksX0_init_1 21 rfl rfl)
theorem dX0_init_47 : decode cX0_init 47 = .ok (.dup, 1) := dk_89 (dk_at dksX0_init_2 0 rfl rfl)
theorem dX0_init_48 : decode cX0_init 48 = .ok (.invokespecial 44, 3) := dk_183 0 44 (dk_at dksX0_init_2 1 rfl rfl)
theorem dX0_init_51 : decode cX0_init 51 = .ok (.putfield 45, 3) := dk_181 0 45 (dk_at dksX0_init_2 4 rfl rfl)
theorem dX0_init_54 : decode cX0_init 54 = .ok (.aload_n 0, 1) := dk_42 (dk_at dksX0_init_2 7 rfl rfl)
theorem dX0_init_55 : decode cX0_init 55 = .ok (.sipush 400, 3) := dk_17 1 144 (dk_at dksX0_init_2 8 rfl rfl)
theorem dX0_init_58 : decode cX0_init 58 = .ok (.newarray .byte, 2) := dk_188_8 (dk_at dksX0_init_2 11 rfl rfl)
theorem dX0_init_60 : decode cX0_init 60 = .ok (.putfield 49, 3) := dk_181 0 49 (dk_at dksX0_init_2 13 rfl rfl)
theorem dX0_init_63 : decode cX0_init 63 = .ok (.aload_n 0, 1) := dk_42 (dk_at dksX0_init_2 16 rfl rfl)
theorem dX0_init_64 : decode cX0_init 64 = .ok (.bipush 26, 2) := dk_16 26 (dk_at dksX0_init_2 17 rfl rfl)
theorem dX0_init_66 : decode cX0_init 66 = .ok (.newarray .int, 2) := dk_188_10 (dk_at dksX0_init_2 19 rfl rfl)
theorem dX0_init_68 : decode cX0_init 68 = .ok (.putfield 53, 3) := dk_181 0 53 (dk_at dksX0_init_2 21 rfl rfl)
theorem dX0_init_71 : decode cX0_init 71 = .ok (.aload_n 0, 1) := dk_42 (dk_at dksX0_init_3 0 rfl rfl)
theorem dX0_init_72 : decode cX0_init 72 = .ok (.bipush 26, 2) := dk_16 26 (dk_at dksX0_init_3 1 rfl rfl)
theorem dX0_init_74 : decode cX0_init 74 = .ok (.newarray .int, 2) := dk_188_10 (dk_at dksX0_init_3 3 rfl rfl)
theorem dX0_init_76 : decode cX0_init 76 = .ok (.putfield 56, 3) := dk_181 0 56 (dk_at dksX0_init_3 5 rfl rfl)
theorem dX0_init_79 : decode cX0_init 79 = .ok (.aload_n 0, 1) := dk_42 (dk_at dksX0_init_3 8 rfl rfl)
theorem dX0_init_80 : decode cX0_init 80 = .ok (.bipush 26, 2) := dk_16 26 (dk_at dksX0_init_3 9 rfl rfl)
theorem dX0_init_82 : decode cX0_init 82 = .ok (.newarray .int, 2) := dk_188_10 (dk_at dksX0_init_3 11 rfl rfl)
theorem dX0_init_84 : decode cX0_init 84 = .ok (.putfield 59, 3) := dk_181 0 59 (dk_at dksX0_init_3 13 rfl rfl)
theorem dX0_init_87 : decode cX0_init 87 = .ok (.aload_n 0, 1) := dk_42 (dk_at dksX0_init_3 16 rfl rfl)
theorem dX0_init_88 : decode cX0_init 88 = .ok (.bipush 91, 2) := dk_16 91 (dk_at dksX0_init_3 17 rfl rfl)
theorem dX0_init_90 : decode cX0_init 90 = .ok (.newarray .long, 2) := dk_188_11 (dk_at dksX0_init_3 19 rfl rfl)
theorem dX0_init_92 : decode cX0_init 92 = .ok (.putfield 62, 3) := dk_181 0 62 (dk_at dksX0_init_3 21 rfl rfl)
theorem dX0_init_95 : decode cX0_init 95 = .ok (.aload_n 0, 1) := dk_42 (dk_at dksX0_init_4 0 rfl rfl)
theorem dX0_init_96 : decode cX0_init 96 = .ok (.sipush 4732, 3) := dk_17 18 124 (dk_at dksX0_init_4 1 rfl rfl)
theorem dX0_init_99 : decode cX0_init 99 = .ok (.newarray .int, 2) := dk_188_10 (dk_at dksX0_init_4 4 rfl rfl)
theorem dX0_init_101 : decode cX0_init 101 = .ok (.putfield 66, 3) := dk_181 0 66 (dk_at dksX0_init_4 6 rfl rfl)
theorem dX0_init_104 : decode cX0_init 104 = .ok (.aload_n 0, 1) := dk_42 (dk_at dksX0_init_4 9 rfl rfl)
theorem dX0_init_105 : decode cX0_init 105 = .ok (.sipush 4680, 3) := dk_17 18 72 (dk_at dksX0_init_4 10 rfl rfl)
theorem dX0_init_108 : decode cX0_init 108 = .ok (.newarray .int, 2) := dk_188_10 (dk_at dksX0_init_4 13 rfl rfl)
theorem dX0_init_110 : decode cX0_init 110 = .ok (.putfield 69, 3) := dk_181 0 69 (dk_at dksX0_init_4 15 rfl rfl)
theorem dX0_init_113 : decode cX0_init 113 = .ok (.aload_n 0, 1) := dk_42 (dk_at dksX0_init_4 18 rfl rfl)
theorem dX0_init_114 : decode cX0_init 114 = .ok (.sipush 4680, 3) := dk_17 18 72 (dk_at dksX0_init_4 19 rfl rfl)
theorem dX0_init_117 : decode cX0_init 117 = .ok (.newarray .int, 2) := dk_188_10 (dk_at dksX0_init_4 22 rfl rfl)
theorem dX0_init_119 : decode cX0_init 119 = .ok (.putfield 72, 3) := dk_181 0 72 (dk_at dksX0_init_5 0 rfl rfl)
theorem dX0_init_122 : decode cX0_init 122 = .ok (.aload_n 0, 1) := dk_42 (dk_at dksX0_init_5 3 rfl rfl)
theorem dX0_init_123 : decode cX0_init 123 = .ok (.sipush 4680, 3) := dk_17 18 72 (dk_at dksX0_init_5 4 rfl rfl)
theorem dX0_init_126 : decode cX0_init 126 = .ok (.newarray .int, 2) := dk_188_10 (dk_at dksX0_init_5 7 rfl rfl)
theorem dX0_init_128 : decode cX0_init 128 = .ok (.putfield 75, 3) := dk_181 0 75 (dk_at dksX0_init_5 9 rfl rfl)
theorem dX0_init_131 : decode cX0_init 131 = .ok (.aload_n 0, 1) := dk_42 (dk_at dksX0_init_5 12 rfl rfl)
theorem dX0_init_132 : decode cX0_init 132 = .ok (.ldc 78, 2) := dk_18 78 (dk_at dksX0_init_5 13 rfl rfl)
theorem dX0_init_134 : decode cX0_init 134 = .ok (.newarray .int, 2) := dk_188_10 (dk_at dksX0_init_5 15 rfl rfl)
theorem dX0_init_136 : decode cX0_init 136 = .ok (.putfield 79, 3) := dk_181 0 79 (dk_at dksX0_init_5 17 rfl rfl)
theorem dX0_init_139 : decode cX0_init 139 = .ok (.aload_n 0, 1) := dk_42 (dk_at dksX0_init_5 20 rfl rfl)
theorem dX0_init_140 : decode cX0_init 140 = .ok (.bipush 90, 2) := dk_16 90 (dk_at dksX0_init_5 21 rfl rfl)
theorem dX0_init_142 : decode cX0_init 142 = .ok (.newarray .int, 2) := dk_188_10 (dk_at dksX0_init_6 0 rfl rfl)
theorem dX0_init_144 : decode cX0_init 144 = .ok (.putfield 82, 3) := dk_181 0 82 (dk_at dksX0_init_6 2 rfl rfl)
theorem dX0_init_147 : decode cX0_init 147 = .ok (.aload_n 0, 1) := dk_42 (dk_at dksX0_init_6 5 rfl rfl)
theorem dX0_init_148 : decode cX0_init 148 = .ok (.bipush 90, 2) := dk_16 90 (dk_at dksX0_init_6 6 rfl rfl)
theorem dX0_init_150 : decode cX0_init 150 = .ok (.newarray .int, 2) := dk_188_10 (dk_at dksX0_init_6 8 rfl rfl)
theorem dX0_init_152 : decode cX0_init 152 = .ok (.putfield 85, 3) := dk_181 0 85 (dk_at dksX0_init_6 10 rfl rfl)
theorem dX0_init_155 : decode cX0_init 155 = .ok (.aload_n 0, 1) := dk_42 (dk_at dksX0_init_6 13 rfl rfl)
theorem dX0_init_156 : decode cX0_init 156 = .ok (.bipush 90, 2) := dk_16 90 (dk_at dksX0_init_6 14 rfl rfl)
theorem dX0_init_158 : decode cX0_init 158 = .ok (.newarray .int, 2) := dk_188_10 (dk_at dksX0_init_6 16 rfl rfl)
theorem dX0_init_160 : decode cX0_init 160 = .ok (.putfield 88, 3) := dk_181 0 88 (dk_at dksX0_init_6 18 rfl rfl)
theorem dX0_init_163 : decode cX0_init 163 = .ok (.aload_n 0, 1) := dk_42 (dk_at dksX0_init_6 21 rfl rfl)
theorem dX0_init_164 : decode cX0_init 164 = .ok (.bipush 13, 2) := dk_16 13 (dk_at dksX0_init_6 22 rfl rfl)
theorem dX0_init_166 : decode cX0_init 166 = .ok (.newarray .int, 2) := dk_188_10 (dk_at dksX0_init_7 0 rfl rfl)
theorem dX0_init_168 : decode cX0_init 168 = .ok (.putfield 91, 3) := dk_181 0 91 (dk_at dksX0_init_7 2 rfl rfl)
theorem dX0_init_171 : decode cX0_init 171 = .ok (.aload_n 0, 1) := dk_42 (dk_at dksX0_init_7 5 rfl rfl)
theorem dX0_init_172 : decode cX0_init 172 = .ok (.bipush 13, 2) := dk_16 13 (dk_at dksX0_init_7 6 rfl rfl)
theorem dX0_init_174 : decode cX0_init 174 = .ok (.newarray .int, 2) := dk_188_10 (dk_at dksX0_init_7 8 rfl rfl)
theorem dX0_init_176 : decode cX0_init 176 = .ok (.putfield 94, 3) := dk_181 0 94 (dk_at dksX0_init_7 10 rfl rfl)
theorem dX0_init_179 : decode cX0_init 179 = .ok (.aload_n 0, 1) := dk_42 (dk_at dksX0_init_7 13 rfl rfl)
theorem dX0_init_180 : decode cX0_init 180 = .ok (.aload_n 0, 1) := dk_42 (dk_at dksX0_init_7 14 rfl rfl)
theorem dX0_init_181 : decode cX0_init 181 = .ok (.invokedynamic 97, 5) := by decide +kernel
theorem dX0_init_186 : decode cX0_init 186 = .ok (.putfield 101, 3) := dk_181 0 101 (dk_at dksX0_init_7 20 rfl rfl)
theorem dX0_init_189 : decode cX0_init 189 = .ok (.aload_n 0, 1) := dk_42 (dk_at dksX0_init_7 23 rfl rfl)
theorem dX0_init_190 : decode cX0_init 190 = .ok (.aload_n 0, 1) := dk_42 (dk_at dksX0_init_8 0 rfl rfl)
theorem dX0_init_191 : decode cX0_init 191 = .ok (.invokedynamic 105, 5) := by decide +kernel
theorem dX0_init_196 : decode cX0_init 196 = .ok (.putfield 106, 3) := dk_181 0 106 (dk_at dksX0_init_8 6 rfl rfl)
theorem dX0_init_199 : decode cX0_init 199 = .ok (.aload_n 0, 1) := dk_42 (dk_at dksX0_init_8 9 rfl rfl)
theorem dX0_init_200 : decode cX0_init 200 = .ok (.aload_n 0, 1) := dk_42 (dk_at dksX0_init_8 10 rfl rfl)
theorem dX0_init_201 : decode cX0_init 201 = .ok (.invokedynamic 109, 5) := by decide +kernel
theorem dX0_init_206 : decode cX0_init 206 = .ok (.putfield 110, 3) := dk_181 0 110 (dk_at dksX0_init_8 16 rfl rfl)
theorem dX0_init_209 : decode cX0_init 209 = .ok (.aload_n 0, 1) := dk_42 (dk_at dksX0_init_8 19 rfl rfl)
theorem dX0_init_210 : decode cX0_init 210 = .ok (.aload_n 0, 1) := dk_42 (dk_at dksX0_init_8 20 rfl rfl)
theorem dX0_init_211 : decode cX0_init 211 = .ok (.invokedynamic 113, 5) := by decide +kernel
theorem dX0_init_216 : decode cX0_init 216 = .ok (.putfield 114, 3) := dk_181 0 114 (dk_at dksX0_init_9 5 rfl rfl)
theorem dX0_init_219 : decode cX0_init 219 = .ok (.aload_n 0, 1) := dk_42 (dk_at dksX0_init_9 8 rfl rfl)
theorem dX0_init_220 : decode cX0_init 220 = .ok (.aload_n 0, 1) := dk_42 (dk_at dksX0_init_9 9 rfl rfl)
theorem dX0_init_221 : decode cX0_init 221 = .ok (.invokedynamic 117, 5) := by decide +kernel
theorem dX0_init_226 : decode cX0_init 226 = .ok (.putfield 118, 3) := dk_181 0 118 (dk_at dksX0_init_9 15 rfl rfl)
theorem dX0_init_229 : decode cX0_init 229 = .ok (.aload_n 0, 1) := dk_42 (dk_at dksX0_init_9 18 rfl rfl)
theorem dX0_init_230 : decode cX0_init 230 = .ok (.invokedynamic 121, 5) := by decide +kernel
theorem dX0_init_235 : decode cX0_init 235 = .ok (.putfield 125, 3) := dk_181 0 125 (dk_at dksX0_init_10 0 rfl rfl)
theorem dX0_init_238 : decode cX0_init 238 = .ok (.aload_n 0, 1) := dk_42 (dk_at dksX0_init_10 3 rfl rfl)
theorem dX0_init_239 : decode cX0_init 239 = .ok (.invokedynamic 129, 5) := by decide +kernel
theorem dX0_init_244 : decode cX0_init 244 = .ok (.putfield 130, 3) := dk_181 0 130 (dk_at dksX0_init_10 9 rfl rfl)
theorem dX0_init_247 : decode cX0_init 247 = .ok (.aload_n 0, 1) := dk_42 (dk_at dksX0_init_10 12 rfl rfl)
theorem dX0_init_248 : decode cX0_init 248 = .ok (.invokedynamic 133, 5) := by decide +kernel
theorem dX0_init_253 : decode cX0_init 253 = .ok (.putfield 134, 3) := dk_181 0 134 (dk_at dksX0_init_10 18 rfl rfl)
theorem dX0_init_256 : decode cX0_init 256 = .ok (.aload_n 0, 1) := dk_42 (dk_at dksX0_init_10 21 rfl rfl)
theorem dX0_init_257 : decode cX0_init 257 = .ok (.invokedynamic 137, 5) := by decide +kernel
theorem dX0_init_262 : decode cX0_init 262 = .ok (.putfield 138, 3) := dk_181 0 138 (dk_at dksX0_init_11 5 rfl rfl)
theorem dX0_init_265 : decode cX0_init 265 = .ok (.aload_n 0, 1) := dk_42 (dk_at dksX0_init_11 8 rfl rfl)
theorem dX0_init_266 : decode cX0_init 266 = .ok (.invokedynamic 141, 5) := by decide +kernel
theorem dX0_init_271 : decode cX0_init 271 = .ok (.putfield 142, 3) := dk_181 0 142 (dk_at dksX0_init_11 14 rfl rfl)
theorem dX0_init_274 : decode cX0_init 274 = .ok (.aload_n 0, 1) := dk_42 (dk_at dksX0_init_11 17 rfl rfl)
theorem dX0_init_275 : decode cX0_init 275 = .ok (.invokedynamic 145, 5) := by decide +kernel
theorem dX0_init_280 : decode cX0_init 280 = .ok (.putfield 146, 3) := dk_181 0 146 (dk_at dksX0_init_12 0 rfl rfl)
theorem dX0_init_283 : decode cX0_init 283 = .ok (.aload_n 0, 1) := dk_42 (dk_at dksX0_init_12 3 rfl rfl)
theorem dX0_init_284 : decode cX0_init 284 = .ok (.invokedynamic 149, 5) := by decide +kernel
theorem dX0_init_289 : decode cX0_init 289 = .ok (.putfield 150, 3) := dk_181 0 150 (dk_at dksX0_init_12 9 rfl rfl)
theorem dX0_init_292 : decode cX0_init 292 = .ok (.aload_n 0, 1) := dk_42 (dk_at dksX0_init_12 12 rfl rfl)
theorem dX0_init_293 : decode cX0_init 293 = .ok (.invokedynamic 153, 5) := by decide +kernel
theorem dX0_init_298 : decode cX0_init 298 = .ok (.putfield 154, 3) := dk_181 0 154 (dk_at dksX0_init_12 18 rfl rfl)
theorem dX0_init_301 : decode cX0_init 301 = .ok (.aload_n 0, 1) := dk_42 (dk_at dksX0_init_12 21 rfl rfl)
theorem dX0_init_302 : decode cX0_init 302 = .ok (.sipush 2028, 3) := dk_17 7 236 (dk_at dksX0_init_13 0 rfl rfl)
theorem dX0_init_305 : decode cX0_init 305 = .ok (.newarray .boolean, 2) := dk_188_4 (dk_at dksX0_init_13 3 rfl rfl)
theorem dX0_init_307 : decode cX0_init 307 = .ok (.putfield 157, 3) := dk_181 0 157 (dk_at dksX0_init_13 5 rfl rfl)
theorem dX0_init_310 : decode cX0_init 310 = .ok (.aload_n 0, 1) := dk_42 (dk_at dksX0_init_13 8 rfl rfl)
theorem dX0_init_311 : decode cX0_init 311 = .ok (.sipush 2028, 3) := dk_17 7 236 (dk_at dksX0_init_13 9 rfl rfl)
theorem dX0_init_314 : decode cX0_init 314 = .ok (.newarray .int, 2) := dk_188_10 (dk_at dksX0_init_13 12 rfl rfl)
theorem dX0_init_316 : decode cX0_init 316 = .ok (.putfield 161, 3) := dk_181 0 161 (dk_at dksX0_init_13 14 rfl rfl)
theorem dX0_init_319 : decode cX0_init 319 = .ok (.aload_n 0, 1) := dk_42 (dk_at dksX0_init_13 17 rfl rfl)
theorem dX0_init_320 : decode cX0_init 320 = .ok (.sipush 2028, 3) := dk_17 7 236 (dk_at dksX0_init_13 18 rfl rfl)
theorem dX0_init_323 : decode cX0_init 323 = .ok (.newarray .int, 2) := dk_188_10 (dk_at dksX0_init_13 21 rfl rfl)
theorem dX0_init_325 : decode cX0_init 325 = .ok (.putfield 164, 3) := dk_181 0 164 (dk_at dksX0_init_14 0 rfl rfl)
theorem dX0_init_328 : decode cX0_init 328 = .ok (.aload_n 0, 1) := dk_42 (dk_at dksX0_init_14 3 rfl rfl)
theorem dX0_init_329 : decode cX0_init 329 = .ok (.sipush 2028, 3) := dk_17 7 236 (dk_at dksX0_init_14 4 rfl rfl)
theorem dX0_init_332 : decode cX0_init 332 = .ok (.newarray .boolean, 2) := dk_188_4 (dk_at dksX0_init_14 7 rfl rfl)
theorem dX0_init_334 : decode cX0_init 334 = .ok (.putfield 167, 3) := dk_181 0 167 (dk_at dksX0_init_14 9 rfl rfl)
theorem dX0_init_337 : decode cX0_init 337 = .ok (.aload_n 0, 1) := dk_42 (dk_at dksX0_init_14 12 rfl rfl)
theorem dX0_init_338 : decode cX0_init 338 = .ok (.sipush 169, 3) := dk_17 0 169 (dk_at dksX0_init_14 13 rfl rfl)
theorem dX0_init_341 : decode cX0_init 341 = .ok (.newarray .int, 2) := dk_188_10 (dk_at dksX0_init_14 16 rfl rfl)
theorem dX0_init_343 : decode cX0_init 343 = .ok (.putfield 170, 3) := dk_181 0 170 (dk_at dksX0_init_14 18 rfl rfl)
theorem dX0_init_346 : decode cX0_init 346 = .ok (.aload_n 0, 1) := dk_42 (dk_at dksX0_init_14 21 rfl rfl)
theorem dX0_init_347 : decode cX0_init 347 = .ok (.sipush 4394, 3) := dk_17 17 42 (dk_at dksX0_init_15 0 rfl rfl)
theorem dX0_init_350 : decode cX0_init 350 = .ok (.newarray .int, 2) := dk_188_10 (dk_at dksX0_init_15 3 rfl rfl)
theorem dX0_init_352 : decode cX0_init 352 = .ok (.putfield 173, 3) := dk_181 0 173 (dk_at dksX0_init_15 5 rfl rfl)
theorem dX0_init_355 : decode cX0_init 355 = .ok (.aload_n 0, 1) := dk_42 (dk_at dksX0_init_15 8 rfl rfl)
theorem dX0_init_356 : decode cX0_init 356 = .ok (.bipush 12, 2) := dk_16 12 (dk_at dksX0_init_15 9 rfl rfl)
theorem dX0_init_358 : decode cX0_init 358 = .ok (.newarray .int, 2) := dk_188_10 (dk_at dksX0_init_15 11 rfl rfl)
theorem dX0_init_360 : decode cX0_init 360 = .ok (.putfield 176, 3) := dk_181 0 176 (dk_at dksX0_init_15 13 rfl rfl)
theorem dX0_init_363 : decode cX0_init 363 = .ok (.aload_n 0, 1) := dk_42 (dk_at dksX0_init_15 16 rfl rfl)
theorem dX0_init_364 : decode cX0_init 364 = .ok (.sipush 2028, 3) := dk_17 7 236 (dk_at dksX0_init_15 17 rfl rfl)
theorem dX0_init_367 : decode cX0_init 367 = .ok (.newarray .int, 2) := dk_188_10 (dk_at dksX0_init_15 20 rfl rfl)
theorem dX0_init_369 : decode cX0_init 369 = .ok (.putfield 179, 3) := dk_181 0 179 (dk_at dksX0_init_16 0 rfl rfl)
theorem dX0_init_372 : decode cX0_init 372 = .ok (.aload_n 0, 1) := dk_42 (dk_at dksX0_init_16 3 rfl rfl)
theorem dX0_init_373 : decode cX0_init 373 = .ok (.bipush 24, 2) := dk_16 24 (dk_at dksX0_init_16 4 rfl rfl)
theorem dX0_init_375 : decode cX0_init 375 = .ok (.newarray .int, 2) := dk_188_10 (dk_at dksX0_init_16 6 rfl rfl)
theorem dX0_init_377 : decode cX0_init 377 = .ok (.putfield 182, 3) := dk_181 0 182 (dk_at dksX0_init_16 8 rfl rfl)
theorem dX0_init_380 : decode cX0_init 380 = .ok (.aload_n 0, 1) := dk_42 (dk_at dksX0_init_16 11 rfl rfl)
theorem dX0_init_381 : decode cX0_init 381 = .ok (.iconst 4, 1) := dk_7 (dk_at dksX0_init_16 12 rfl rfl)
theorem dX0_init_382 : decode cX0_init 382 = .ok (.anewarray 185, 3) := dk_189 0 185 (dk_at dksX0_init_16 13 rfl rfl)
theorem dX0_init_385 : decode cX0_init 385 = .ok (.putfield 187, 3) := dk_181 0 187 (dk_at dksX0_init_16 16 rfl rfl)
theorem dX0_init_388 : decode cX0_init 388 = .ok (.aload_n 0, 1) := dk_42 (dk_at dksX0_init_16 19 rfl rfl)
theorem dX0_init_389 : decode cX0_init 389 = .ok (.getfield 38, 3) := dk_180 0 38 (dk_at dksX0_init_16 20 rfl rfl)
theorem dX0_init_392 : decode cX0_init 392 = .ok (.iconst 0, 1) := dk_3 (dk_at dksX0_init_16 23 rfl rfl)
theorem dX0_init_393 : decode cX0_init 393 = .ok (.new 36, 3) := dk_187 0 36 (dk_at dksX0_init_17 0 rfl rfl)
theorem dX0_init_396 : decode cX0_init 396 = .ok (.dup, 1) := dk_89 (dk_at dksX0_init_17 3 rfl rfl)
theorem dX0_init_397 : decode cX0_init 397 = .ok (.aload_n 0, 1) := dk_42 (dk_at dksX0_init_17 4 rfl rfl)
theorem dX0_init_398 : decode cX0_init 398 = .ok (.invokedynamic 191, 5) := by decide +kernel
theorem dX0_init_403 : decode cX0_init 403 = .ok (.invokespecial 194, 3) := dk_183 0 194 (dk_at dksX0_init_17 10 rfl rfl)
theorem dX0_init_406 : decode cX0_init 406 = .ok (.aastore, 1) := dk_83 (dk_at dksX0_init_17 13 rfl rfl)
theorem dX0_init_407 : decode cX0_init 407 = .ok (.aload_n 0, 1) := dk_42 (dk_at dksX0_init_17 14 rfl rfl)
theorem dX0_init_408 : decode cX0_init 408 = .ok (.getfield 38, 3) := dk_180 0 38 (dk_at dksX0_init_17 15 rfl rfl)
theorem dX0_init_411 : decode cX0_init 411 = .ok (.iconst 1, 1) := dk_4 (dk_at dksX0_init_17 18 rfl rfl)
theorem dX0_init_412 : decode cX0_init 412 = .ok (.new 36, 3) := dk_187 0 36 (dk_at dksX0_init_17 19 rfl rfl)
theorem dX0_init_415 : decode cX0_init 415 = .ok (.dup, 1) := dk_89 (dk_at dksX0_init_17 22 rfl rfl)
theorem dX0_init_416 : decode cX0_init 416 = .ok (.aload_n 0, 1) := dk_42 (dk_at dksX0_init_17 23 rfl rfl)
theorem dX0_init_417 : decode cX0_init 417 = .ok (.invokedynamic 197, 5) := by decide +kernel
theorem dX0_init_422 : decode cX0_init 422 = .ok (.invokespecial 194, 3) := dk_183 0 194 (dk_at dksX0_init_18 5 rfl rfl)
theorem dX0_init_425 : decode cX0_init 425 = .ok (.aastore, 1) := dk_83 (dk_at dksX0_init_18 8 rfl rfl)
theorem dX0_init_426 : decode cX0_init 426 = .ok (.aload_n 0, 1) := dk_42 (dk_at dksX0_init_18 9 rfl rfl)
theorem dX0_init_427 : decode cX0_init 427 = .ok (.getfield 38, 3) := dk_180 0 38 (dk_at dksX0_init_18 10 rfl rfl)
theorem dX0_init_430 : decode cX0_init 430 = .ok (.iconst 2, 1) := dk_5 (dk_at dksX0_init_18 13 rfl rfl)
theorem dX0_init_431 : decode cX0_init 431 = .ok (.new 36, 3) := dk_187 0 36 (dk_at dksX0_init_18 14 rfl rfl)
theorem dX0_init_434 : decode cX0_init 434 = .ok (.dup, 1) := dk_89 (dk_at dksX0_init_18 17 rfl rfl)
theorem dX0_init_435 : decode cX0_init 435 = .ok (.aload_n 0, 1) := dk_42 (dk_at dksX0_init_18 18 rfl rfl)
theorem dX0_init_436 : decode cX0_init 436 = .ok (.invokedynamic 198, 5) := by decide +kernel
theorem dX0_init_441 : decode cX0_init 441 = .ok (.invokespecial 194, 3) := dk_183 0 194 (dk_at dksX0_init_19 0 rfl rfl)
theorem dX0_init_444 : decode cX0_init 444 = .ok (.aastore, 1) := dk_83 (dk_at dksX0_init_19 3 rfl rfl)
theorem dX0_init_445 : decode cX0_init 445 = .ok (.return_, 1) := dk_177 (dk_at dksX0_init_19 4 rfl rfl)
abbrev cX0_partDerives : ByteArray := prog_1_method_92_code
def yX0_partDerives : MethodName := ⟨RX0, "partDerives", "(IIII)I"⟩
def dkwX0_partDerives_2 : List UInt8 := [21, 4, 182, 2, 31, 153, 0, 7, 4, 167, 0, 4, 3, 172]
abbrev dktX0_partDerives_2 : List UInt8 := dkwX0_partDerives_2 ++ []
def dkwX0_partDerives_1 : List UInt8 := [21, 4, 184, 2, 25, 46, 21, 5, 16, 26, 100, 184, 0, 211, 153, 0, 22, 167, 0, 15, 42, 21, 5, 29]
abbrev dktX0_partDerives_1 : List UInt8 := dkwX0_partDerives_1 ++ dktX0_partDerives_2
def dkwX0_partDerives_0 : List UInt8 := [42, 180, 0, 199, 27, 28, 182, 1, 52, 54, 5, 21, 5, 184, 1, 55, 153, 0, 28, 42, 180, 0, 170, 29]
abbrev dktX0_partDerives_0 : List UInt8 := dkwX0_partDerives_0 ++ dktX0_partDerives_1
theorem dksX0_partDerives_0 : cX0_partDerives.data.toList.drop 0 = dktX0_partDerives_0 := by decide +kernel
theorem dksX0_partDerives_1 : cX0_partDerives.data.toList.drop 24 = dktX0_partDerives_1 := dk_seg dksX0_partDerives_0 24 rfl rfl
theorem dksX0_partDerives_2 : cX0_partDerives.data.toList.drop 48 = dktX0_partDerives_2 := dk_seg dksX0_partDerives_1 24 rfl rfl
theorem dX0_partDerives_0 : decode cX0_partDerives 0 = .ok (.aload_n 0, 1) := dk_42 (dk_at dksX0_partDerives_0 0 rfl rfl)
theorem dX0_partDerives_1 : decode cX0_partDerives 1 = .ok (.getfield 199, 3) := dk_180 0 199 (dk_at dksX0_partDerives_0 1 rfl rfl)
theorem dX0_partDerives_4 : decode cX0_partDerives 4 = .ok (.iload_n 1, 1) := dk_27 (dk_at dksX0_partDerives_0 4 rfl rfl)
theorem dX0_partDerives_5 : decode cX0_partDerives 5 = .ok (.iload_n 2, 1) := dk_28 (dk_at dksX0_partDerives_0 5 rfl rfl)
theorem dX0_partDerives_6 : decode cX0_partDerives 6 = .ok (.invokevirtual 308, 3) := dk_182 1 52 (dk_at dksX0_partDerives_0 6 rfl rfl)
theorem dX0_partDerives_9 : decode cX0_partDerives 9 = .ok (.istore 5, 2) := dk_54 5 (dk_at dksX0_partDerives_0 9 rfl rfl)
theorem dX0_partDerives_11 : decode cX0_partDerives 11 = .ok (.iload 5, 2) := dk_21 5 (dk_at dksX0_partDerives_0 11 rfl rfl)
theorem dX0_partDerives_13 : decode cX0_partDerives 13 = .ok (.invokestatic 311, 3) := dk_184 1 55 (dk_at dksX0_partDerives_0 13 rfl rfl)
theorem dX0_partDerives_16 : decode cX0_partDerives 16 = .ok (.ifCond .eq 28, 3) := dk_153 0 28 (dk_at dksX0_partDerives_0 16 rfl rfl)
theorem dX0_partDerives_19 : decode cX0_partDerives 19 = .ok (.aload_n 0, 1) := dk_42 (dk_at dksX0_partDerives_0 19 rfl rfl)
theorem dX0_partDerives_20 : decode cX0_partDerives 20 = .ok (.getfield 170, 3) := dk_180 0 170 (dk_at dksX0_partDerives_0 20 rfl rfl)
theorem dX0_partDerives_23 : decode cX0_partDerives 23 = .ok (.iload_n 3, 1) := dk_29 (dk_at dksX0_partDerives_0 23 rfl rfl)
theorem dX0_partDerives_24 : decode cX0_partDerives 24 = .ok (.iload 4, 2) := dk_21 4 (dk_at dksX0_partDerives_1 0 rfl rfl)
theorem dX0_partDerives_26 : decode cX0_partDerives 26 = .ok (.invokestatic 537, 3) := dk_184 2 25 (dk_at dksX0_partDerives_1 2 rfl rfl)
theorem dX0_partDerives_29 : decode cX0_partDerives 29 = .ok (.iaload, 1) := dk_46 (dk_at dksX0_partDerives_1 5 rfl rfl)
theorem dX0_partDerives_30 : decode cX0_partDerives 30 = .ok (.iload 5, 2) := dk_21 5 (dk_at dksX0_partDerives_1 6 rfl rfl)
theorem dX0_partDerives_32 : decode cX0_partDerives 32 = .ok (.bipush 26, 2) := dk_16 26 (dk_at dksX0_partDerives_1 8 rfl rfl)
theorem dX0_partDerives_34 : decode cX0_partDerives 34 = .ok (.isub, 1) := dk_100 (dk_at dksX0_partDerives_1 10 rfl rfl)
theorem dX0_partDerives_35 : decode cX0_partDerives 35 = .ok (.invokestatic 211, 3) := dk_184 0 211 (dk_at dksX0_partDerives_1 11 rfl rfl)
theorem dX0_partDerives_38 : decode cX0_partDerives 38 = .ok (.ifCond .eq 22, 3) := dk_153 0 22 (dk_at dksX0_partDerives_1 14 rfl rfl)
theorem dX0_partDerives_41 : decode cX0_partDerives 41 = .ok (.goto 15, 3) := dk_167 0 15 (dk_at dksX0_partDerives_1 17 rfl rfl)
theorem dX0_partDerives_44 : decode cX0_partDerives 44 = .ok (.aload_n 0, 1) := dk_42 (dk_at dksX0_partDerives_1 20 rfl rfl)
theorem dX0_partDerives_45 : decode cX0_partDerives 45 = .ok (.iload 5, 2) := dk_21 5 (dk_at dksX0_partDerives_1 21 rfl rfl)
theorem dX0_partDerives_47 : decode cX0_partDerives 47 = .ok (.iload_n 3, 1) := dk_29 (dk_at dksX0_partDerives_1 23 rfl rfl)
theorem dX0_partDerives_48 : decode cX0_partDerives 48 = .ok (.iload 4, 2) := dk_21 4 (dk_at dksX0_partDerives_2 0 rfl rfl)
theorem dX0_partDerives_50 : decode cX0_partDerives 50 = .ok (.invokevirtual 543, 3) := dk_182 2 31 (dk_at dksX0_partDerives_2 2 rfl rfl)
theorem dX0_partDerives_53 : decode cX0_partDerives 53 = .ok (.ifCond .eq 7, 3) := dk_153 0 7 (dk_at dksX0_partDerives_2 5 rfl rfl)
theorem dX0_partDerives_56 : decode cX0_partDerives 56 = .ok (.iconst 1, 1) := dk_4 (dk_at dksX0_partDerives_2 8 rfl rfl)
theorem dX0_partDerives_57 : decode cX0_partDerives 57 = .ok (.goto 4, 3) := dk_167 0 4 (dk_at dksX0_partDerives_2 9 rfl rfl)
theorem dX0_partDerives_60 : decode cX0_partDerives 60 = .ok (.iconst 0, 1) := dk_3 (dk_at dksX0_partDerives_2 12 rfl rfl)
theorem dX0_partDerives_61 : decode cX0_partDerives 61 = .ok (.ireturn, 1) := dk_172 (dk_at dksX0_partDerives_2 13 rfl rfl)
abbrev cX0_isCapital : ByteArray := prog_1_method_11_code
def yX0_isCapital : MethodName := ⟨RX0, "isCapital", "(I)Z"⟩
def dkwX0_isCapital_0 : List UInt8 := [26, 16, 26, 161, 0, 7, 4, 167, 0, 4, 3, 172]
abbrev dktX0_isCapital_0 : List UInt8 := dkwX0_isCapital_0 ++ []
theorem dksX0_isCapital_0 : cX0_isCapital.data.toList.drop 0 = dktX0_isCapital_0 := by decide +kernel
theorem dX0_isCapital_0 : decode cX0_isCapital 0 = .ok (.iload_n 0, 1) := dk_26 (dk_at dksX0_isCapital_0 0 rfl rfl)
theorem dX0_isCapital_1 : decode cX0_isCapital 1 = .ok (.bipush 26, 2) := dk_16 26 (dk_at dksX0_isCapital_0 1 rfl rfl)
theorem dX0_isCapital_3 : decode cX0_isCapital 3 = .ok (.if_icmp .lt 7, 3) := dk_161 0 7 (dk_at dksX0_isCapital_0 3 rfl rfl)
theorem dX0_isCapital_6 : decode cX0_isCapital 6 = .ok (.iconst 1, 1) := dk_4 (dk_at dksX0_isCapital_0 6 rfl rfl)
theorem dX0_isCapital_7 : decode cX0_isCapital 7 = .ok (.goto 4, 3) := dk_167 0 4 (dk_at dksX0_isCapital_0 7 rfl rfl)
theorem dX0_isCapital_10 : decode cX0_isCapital 10 = .ok (.iconst 0, 1) := dk_3 (dk_at dksX0_isCapital_0 10 rfl rfl)
theorem dX0_isCapital_11 : decode cX0_isCapital 11 = .ok (.ireturn, 1) := dk_172 (dk_at dksX0_isCapital_0 11 rfl rfl)
abbrev cX0_spanOf : ByteArray := prog_1_method_88_code
def yX0_spanOf : MethodName := ⟨RX0, "spanOf", "(II)I"⟩
def dkwX0_spanOf_0 : List UInt8 := [16, 13, 26, 104, 27, 96, 172]
abbrev dktX0_spanOf_0 : List UInt8 := dkwX0_spanOf_0 ++ []
theorem dksX0_spanOf_0 : cX0_spanOf.data.toList.drop 0 = dktX0_spanOf_0 := by decide +kernel
theorem dX0_spanOf_0 : decode cX0_spanOf 0 = .ok (.bipush 13, 2) := dk_16 13 (dk_at dksX0_spanOf_0 0 rfl rfl)
theorem dX0_spanOf_2 : decode cX0_spanOf 2 = .ok (.iload_n 0, 1) := dk_26 (dk_at dksX0_spanOf_0 2 rfl rfl)
theorem dX0_spanOf_3 : decode cX0_spanOf 3 = .ok (.imul, 1) := dk_104 (dk_at dksX0_spanOf_0 3 rfl rfl)
theorem dX0_spanOf_4 : decode cX0_spanOf 4 = .ok (.iload_n 1, 1) := dk_27 (dk_at dksX0_spanOf_0 4 rfl rfl)
theorem dX0_spanOf_5 : decode cX0_spanOf 5 = .ok (.iadd, 1) := dk_96 (dk_at dksX0_spanOf_0 5 rfl rfl)
theorem dX0_spanOf_6 : decode cX0_spanOf 6 = .ok (.ireturn, 1) := dk_172 (dk_at dksX0_spanOf_0 6 rfl rfl)
abbrev cX0_has : ByteArray := prog_1_method_2_code
def yX0_has : MethodName := ⟨RX0, "has", "(II)Z"⟩
def dkwX0_has_0 : List UInt8 := [26, 27, 122, 4, 126, 4, 160, 0, 7, 4, 167, 0, 4, 3, 172]
abbrev dktX0_has_0 : List UInt8 := dkwX0_has_0 ++ []
theorem dksX0_has_0 : cX0_has.data.toList.drop 0 = dktX0_has_0 := by decide +kernel
theorem dX0_has_0 : decode cX0_has 0 = .ok (.iload_n 0, 1) := dk_26 (dk_at dksX0_has_0 0 rfl rfl)
theorem dX0_has_1 : decode cX0_has 1 = .ok (.iload_n 1, 1) := dk_27 (dk_at dksX0_has_0 1 rfl rfl)
theorem dX0_has_2 : decode cX0_has 2 = .ok (.ishr, 1) := dk_122 (dk_at dksX0_has_0 2 rfl rfl)
theorem dX0_has_3 : decode cX0_has 3 = .ok (.iconst 1, 1) := dk_4 (dk_at dksX0_has_0 3 rfl rfl)
theorem dX0_has_4 : decode cX0_has 4 = .ok (.iand, 1) := dk_126 (dk_at dksX0_has_0 4 rfl rfl)
theorem dX0_has_5 : decode cX0_has 5 = .ok (.iconst 1, 1) := dk_4 (dk_at dksX0_has_0 5 rfl rfl)
theorem dX0_has_6 : decode cX0_has 6 = .ok (.if_icmp .ne 7, 3) := dk_160 0 7 (dk_at dksX0_has_0 6 rfl rfl)
theorem dX0_has_9 : decode cX0_has 9 = .ok (.iconst 1, 1) := dk_4 (dk_at dksX0_has_0 9 rfl rfl)
theorem dX0_has_10 : decode cX0_has 10 = .ok (.goto 4, 3) := dk_167 0 4 (dk_at dksX0_has_0 10 rfl rfl)
theorem dX0_has_13 : decode cX0_has 13 = .ok (.iconst 0, 1) := dk_3 (dk_at dksX0_has_0 13 rfl rfl)
theorem dX0_has_14 : decode cX0_has 14 = .ok (.ireturn, 1) := dk_172 (dk_at dksX0_has_0 14 rfl rfl)
abbrev cX0_isHere : ByteArray := prog_1_method_90_code
def yX0_isHere : MethodName := ⟨RX0, "isHere", "(III)Z"⟩
def dkwX0_isHere_0 : List UInt8 := [29, 28, 4, 96, 160, 0, 17, 42, 180, 0, 19, 28, 46, 27, 160, 0, 7, 4, 167, 0, 4, 3, 172]
abbrev dktX0_isHere_0 : List UInt8 := dkwX0_isHere_0 ++ []
theorem dksX0_isHere_0 : cX0_isHere.data.toList.drop 0 = dktX0_isHere_0 := by decide +kernel
theorem dX0_isHere_0 : decode cX0_isHere 0 = .ok (.iload_n 3, 1) := dk_29 (dk_at dksX0_isHere_0 0 rfl rfl)
theorem dX0_isHere_1 : decode cX0_isHere 1 = .ok (.iload_n 2, 1) := dk_28 (dk_at dksX0_isHere_0 1 rfl rfl)
theorem dX0_isHere_2 : decode cX0_isHere 2 = .ok (.iconst 1, 1) := dk_4 (dk_at dksX0_isHere_0 2 rfl rfl)
theorem dX0_isHere_3 : decode cX0_isHere 3 = .ok (.iadd, 1) := dk_96 (dk_at dksX0_isHere_0 3 rfl rfl)
theorem dX0_isHere_4 : decode cX0_isHere 4 = .ok (.if_icmp .ne 17, 3) := dk_160 0 17 (dk_at dksX0_isHere_0 4 rfl rfl)
theorem dX0_isHere_7 : decode cX0_isHere 7 = .ok (.aload_n 0, 1) := dk_42 (dk_at dksX0_isHere_0 7 rfl rfl)
theorem dX0_isHere_8 : decode cX0_isHere 8 = .ok (.getfield 19, 3) := dk_180 0 19 (dk_at dksX0_isHere_0 8 rfl rfl)
theorem dX0_isHere_11 : decode cX0_isHere 11 = .ok (.iload_n 2, 1) := dk_28 (dk_at dksX0_isHere_0 11 rfl rfl)
theorem dX0_isHere_12 : decode cX0_isHere 12 = .ok (.iaload, 1) := dk_46 (dk_at dksX0_isHere_0 12 rfl rfl)
theorem dX0_isHere_13 : decode cX0_isHere 13 = .ok (.iload_n 1, 1) := dk_27 (dk_at dksX0_isHere_0 13 rfl rfl)
theorem dX0_isHere_14 : decode cX0_isHere 14 = .ok (.if_icmp .ne 7, 3) := dk_160 0 7 (dk_at dksX0_isHere_0 14 rfl rfl)
theorem dX0_isHere_17 : decode cX0_isHere 17 = .ok (.iconst 1, 1) := dk_4 (dk_at dksX0_isHere_0 17 rfl rfl)
theorem dX0_isHere_18 : decode cX0_isHere 18 = .ok (.goto 4, 3) := dk_167 0 4 (dk_at dksX0_isHere_0 18 rfl rfl)
theorem dX0_isHere_21 : decode cX0_isHere 21 = .ok (.iconst 0, 1) := dk_3 (dk_at dksX0_isHere_0 21 rfl rfl)
theorem dX0_isHere_22 : decode cX0_isHere 22 = .ok (.ireturn, 1) := dk_172 (dk_at dksX0_isHere_0 22 rfl rfl)
abbrev cX0_partLives : ByteArray := prog_1_method_93_code
def yX0_partLives : MethodName := ⟨RX0, "partLives", "(IIII)I"⟩
def dkwX0_partLives_3 : List UInt8 := [28, 21, 6, 182, 2, 37, 153, 0, 5, 4, 172, 132, 6, 1, 167, 255, 212, 3, 172]
abbrev dktX0_partLives_3 : List UInt8 := dkwX0_partLives_3 ++ []
def dkwX0_partLives_2 : List UInt8 := [180, 0, 203, 162, 0, 38, 42, 180, 0, 157, 21, 6, 29, 21, 4, 184, 2, 34, 51, 153, 0, 16, 42, 27]
abbrev dktX0_partLives_2 : List UInt8 := dkwX0_partLives_2 ++ dktX0_partLives_3
def dkwX0_partLives_1 : List UInt8 := [21, 4, 182, 2, 31, 153, 0, 7, 4, 167, 0, 4, 3, 172, 3, 54, 6, 21, 6, 42, 180, 0, 199]
abbrev dktX0_partLives_1 : List UInt8 := dkwX0_partLives_1 ++ dktX0_partLives_2
def dkwX0_partLives_0 : List UInt8 := [42, 180, 0, 199, 27, 28, 182, 1, 52, 54, 5, 21, 5, 184, 1, 55, 154, 0, 21, 42, 21, 5, 29]
abbrev dktX0_partLives_0 : List UInt8 := dkwX0_partLives_0 ++ dktX0_partLives_1
theorem dksX0_partLives_0 : cX0_partLives.data.toList.drop 0 = dktX0_partLives_0 := by decide +kernel
theorem dksX0_partLives_1 : cX0_partLives.data.toList.drop 23 = dktX0_partLives_1 := dk_seg dksX0_partLives_0 23 rfl rfl
theorem dksX0_partLives_2 : cX0_partLives.data.toList.drop 46 = dktX0_partLives_2 := dk_seg dksX0_partLives_1 23 rfl rfl
theorem dksX0_partLives_3 : cX0_partLives.data.toList.drop 70 = dktX0_partLives_3 := dk_seg dksX0_partLives_2 24 rfl rfl
theorem dX0_partLives_0 : decode cX0_partLives 0 = .ok (.aload_n 0, 1) := dk_42 (dk_at dksX0_partLives_0 0 rfl rfl)
theorem dX0_partLives_1 : decode cX0_partLives 1 = .ok (.getfield 199, 3) := dk_180 0 199 (dk_at dksX0_partLives_0 1 rfl rfl)
theorem dX0_partLives_4 : decode cX0_partLives 4 = .ok (.iload_n 1, 1) := dk_27 (dk_at dksX0_partLives_0 4 rfl rfl)
theorem dX0_partLives_5 : decode cX0_partLives 5 = .ok (.iload_n 2, 1) := dk_28 (dk_at dksX0_partLives_0 5 rfl rfl)
theorem dX0_partLives_6 : decode cX0_partLives 6 = .ok (.invokevirtual 308, 3) := dk_182 1 52 (dk_at dksX0_partLives_0 6 rfl rfl)
theorem dX0_partLives_9 : decode cX0_partLives 9 = .ok (.istore 5, 2) := dk_54 5 (dk_at dksX0_partLives_0 9 rfl rfl)
theorem dX0_partLives_11 : decode cX0_partLives 11 = .ok (.iload 5, 2) := dk_21 5 (dk_at dksX0_partLives_0 11 rfl rfl)
theorem dX0_partLives_13 : decode cX0_partLives 13 = .ok (.invokestatic 311, 3) := dk_184 1 55 (dk_at dksX0_partLives_0 13 rfl rfl)
theorem dX0_partLives_16 : decode cX0_partLives 16 = .ok (.ifCond .ne 21, 3) := dk_154 0 21 (dk_at dksX0_partLives_0 16 rfl rfl)
theorem dX0_partLives_19 : decode cX0_partLives 19 = .ok (.aload_n 0, 1) := dk_42 (dk_at dksX0_partLives_0 19 rfl rfl)
theorem dX0_partLives_20 : decode cX0_partLives 20 = .ok (.iload 5, 2) := dk_21 5 (dk_at dksX0_partLives_0 20 rfl rfl)
theorem dX0_partLives_22 : decode cX0_partLives 22 = .ok (.iload_n 3, 1) := dk_29 (dk_at dksX0_partLives_0 22 rfl rfl)
theorem dX0_partLives_23 : decode cX0_partLives 23 = .ok (.iload 4, 2) := dk_21 4 (dk_at dksX0_partLives_1 0 rfl rfl)
theorem dX0_partLives_25 : decode cX0_partLives 25 = .ok (.invokevirtual 543, 3) := dk_182 2 31 (dk_at dksX0_partLives_1 2 rfl rfl)
theorem dX0_partLives_28 : decode cX0_partLives 28 = .ok (.ifCond .eq 7, 3) := dk_153 0 7 (dk_at dksX0_partLives_1 5 rfl rfl)
theorem dX0_partLives_31 : decode cX0_partLives 31 = .ok (.iconst 1, 1) := dk_4 (dk_at dksX0_partLives_1 8 rfl rfl)
theorem dX0_partLives_32 : decode cX0_partLives 32 = .ok (.goto 4, 3) := dk_167 0 4 (dk_at dksX0_partLives_1 9 rfl rfl)
theorem dX0_partLives_35 : decode cX0_partLives 35 = .ok (.iconst 0, 1) := dk_3 (dk_at dksX0_partLives_1 12 rfl rfl)
theorem dX0_partLives_36 : decode cX0_partLives 36 = .ok (.ireturn, 1) := dk_172 (dk_at dksX0_partLives_1 13 rfl rfl)
theorem dX0_partLives_37 : decode cX0_partLives 37 = .ok (.iconst 0, 1) := dk_3 (dk_at dksX0_partLives_1 14 rfl rfl)
theorem dX0_partLives_38 : decode cX0_partLives 38 = .ok (.istore 6, 2) := dk_54 6 (dk_at dksX0_partLives_1 15 rfl rfl)
theorem dX0_partLives_40 : decode cX0_partLives 40 = .ok (.iload 6, 2) := dk_21 6 (dk_at dksX0_partLives_1 17 rfl rfl)
theorem dX0_partLives_42 : decode cX0_partLives 42 = .ok (.aload_n 0, 1) := dk_42 (dk_at dksX0_partLives_1 19 rfl rfl)
theorem dX0_partLives_43 : decode cX0_partLives 43 = .ok (.getfield 199, 3) := dk_180 0 199 (dk_at dksX0_partLives_1 20 rfl rfl)
theorem dX0_partLives_46 : decode cX0_partLives 46 = .ok (.getfield 203, 3) := dk_180 0 203 (dk_at dksX0_partLives_2 0 rfl rfl)
theorem dX0_partLives_49 : decode cX0_partLives 49 = .ok (.if_icmp .ge 38, 3) := dk_162 0 38 (dk_at dksX0_partLives_2 3 rfl rfl)
theorem dX0_partLives_52 : decode cX0_partLives 52 = .ok (.aload_n 0, 1) := dk_42 (dk_at dksX0_partLives_2 6 rfl rfl)
theorem dX0_partLives_53 : decode cX0_partLives 53 = .ok (.getfield 157, 3) := dk_180 0 157 (dk_at dksX0_partLives_2 7 rfl rfl)
theorem dX0_partLives_56 : decode cX0_partLives 56 = .ok (.iload 6, 2) := dk_21 6 (dk_at dksX0_partLives_2 10 rfl rfl)
theorem dX0_partLives_58 : decode cX0_partLives 58 = .ok (.iload_n 3, 1) := dk_29 (dk_at dksX0_partLives_2 12 rfl rfl)
theorem dX0_partLives_59 : decode cX0_partLives 59 = .ok (.iload 4, 2) := dk_21 4 (dk_at dksX0_partLives_2 13 rfl rfl)
theorem dX0_partLives_61 : decode cX0_partLives 61 = .ok (.invokestatic 546, 3) := dk_184 2 34 (dk_at dksX0_partLives_2 15 rfl rfl)
theorem dX0_partLives_64 : decode cX0_partLives 64 = .ok (.baload, 1) := dk_51 (dk_at dksX0_partLives_2 18 rfl rfl)
theorem dX0_partLives_65 : decode cX0_partLives 65 = .ok (.ifCond .eq 16, 3) := dk_153 0 16 (dk_at dksX0_partLives_2 19 rfl rfl)
theorem dX0_partLives_68 : decode cX0_partLives 68 = .ok (.aload_n 0, 1) := dk_42 (dk_at dksX0_partLives_2 22 rfl rfl)
theorem dX0_partLives_69 : decode cX0_partLives 69 = .ok (.iload_n 1, 1) := dk_27 (dk_at dksX0_partLives_2 23 rfl rfl)
theorem dX0_partLives_70 : decode cX0_partLives 70 = .ok (.iload_n 2, 1) := dk_28 (dk_at dksX0_partLives_3 0 rfl rfl)
theorem dX0_partLives_71 : decode cX0_partLives 71 = .ok (.iload 6, 2) := dk_21 6 (dk_at dksX0_partLives_3 1 rfl rfl)
theorem dX0_partLives_73 : decode cX0_partLives 73 = .ok (.invokevirtual 549, 3) := dk_182 2 37 (dk_at dksX0_partLives_3 3 rfl rfl)
theorem dX0_partLives_76 : decode cX0_partLives 76 = .ok (.ifCond .eq 5, 3) := dk_153 0 5 (dk_at dksX0_partLives_3 6 rfl rfl)
theorem dX0_partLives_79 : decode cX0_partLives 79 = .ok (.iconst 1, 1) := dk_4 (dk_at dksX0_partLives_3 9 rfl rfl)
theorem dX0_partLives_80 : decode cX0_partLives 80 = .ok (.ireturn, 1) := dk_172 (dk_at dksX0_partLives_3 10 rfl rfl)
theorem dX0_partLives_81 : decode cX0_partLives 81 = .ok (.iinc 6 1, 3) := dk_132 6 1 (dk_at dksX0_partLives_3 11 rfl rfl)
theorem dX0_partLives_84 : decode cX0_partLives 84 = .ok (.goto (-44), 3) := dk_167 255 212 (dk_at dksX0_partLives_3 14 rfl rfl)
theorem dX0_partLives_87 : decode cX0_partLives 87 = .ok (.iconst 0, 1) := dk_3 (dk_at dksX0_partLives_3 17 rfl rfl)
theorem dX0_partLives_88 : decode cX0_partLives 88 = .ok (.ireturn, 1) := dk_172 (dk_at dksX0_partLives_3 18 rfl rfl)
abbrev cX0_pieceOf : ByteArray := prog_1_method_89_code
def yX0_pieceOf : MethodName := ⟨RX0, "pieceOf", "(III)I"⟩
def dkwX0_pieceOf_0 : List UInt8 := [17, 0, 169, 26, 104, 27, 28, 184, 2, 25, 96, 172]
abbrev dktX0_pieceOf_0 : List UInt8 := dkwX0_pieceOf_0 ++ []
theorem dksX0_pieceOf_0 : cX0_pieceOf.data.toList.drop 0 = dktX0_pieceOf_0 := by decide +kernel
theorem dX0_pieceOf_0 : decode cX0_pieceOf 0 = .ok (.sipush 169, 3) := dk_17 0 169 (dk_at dksX0_pieceOf_0 0 rfl rfl)
theorem dX0_pieceOf_3 : decode cX0_pieceOf 3 = .ok (.iload_n 0, 1) := dk_26 (dk_at dksX0_pieceOf_0 3 rfl rfl)
theorem dX0_pieceOf_4 : decode cX0_pieceOf 4 = .ok (.imul, 1) := dk_104 (dk_at dksX0_pieceOf_0 4 rfl rfl)
theorem dX0_pieceOf_5 : decode cX0_pieceOf 5 = .ok (.iload_n 1, 1) := dk_27 (dk_at dksX0_pieceOf_0 5 rfl rfl)
theorem dX0_pieceOf_6 : decode cX0_pieceOf 6 = .ok (.iload_n 2, 1) := dk_28 (dk_at dksX0_pieceOf_0 6 rfl rfl)
theorem dX0_pieceOf_7 : decode cX0_pieceOf 7 = .ok (.invokestatic 537, 3) := dk_184 2 25 (dk_at dksX0_pieceOf_0 7 rfl rfl)
theorem dX0_pieceOf_10 : decode cX0_pieceOf 10 = .ok (.iadd, 1) := dk_96 (dk_at dksX0_pieceOf_0 10 rfl rfl)
theorem dX0_pieceOf_11 : decode cX0_pieceOf 11 = .ok (.ireturn, 1) := dk_172 (dk_at dksX0_pieceOf_0 11 rfl rfl)
abbrev cX0_canBeBelow : ByteArray := prog_1_method_91_code
def yX0_canBeBelow : MethodName := ⟨RX0, "canBeBelow", "(III)Z"⟩
def dkwX0_canBeBelow_1 : List UInt8 := [182, 1, 52, 160, 0, 17, 42, 27, 28, 29, 182, 2, 28, 154, 0, 7, 4, 167, 0, 4, 3, 172]
abbrev dktX0_canBeBelow_1 : List UInt8 := dkwX0_canBeBelow_1 ++ []
def dkwX0_canBeBelow_0 : List UInt8 := [42, 29, 182, 1, 95, 153, 0, 38, 42, 180, 0, 199, 180, 1, 49, 29, 46, 42, 180, 0, 199, 27, 28]
abbrev dktX0_canBeBelow_0 : List UInt8 := dkwX0_canBeBelow_0 ++ dktX0_canBeBelow_1
theorem dksX0_canBeBelow_0 : cX0_canBeBelow.data.toList.drop 0 = dktX0_canBeBelow_0 := by decide +kernel
theorem dksX0_canBeBelow_1 : cX0_canBeBelow.data.toList.drop 23 = dktX0_canBeBelow_1 := dk_seg dksX0_canBeBelow_0 23 rfl rfl
theorem dX0_canBeBelow_0 : decode cX0_canBeBelow 0 = .ok (.aload_n 0, 1) := dk_42 (dk_at dksX0_canBeBelow_0 0 rfl rfl)
theorem dX0_canBeBelow_1 : decode cX0_canBeBelow 1 = .ok (.iload_n 3, 1) := dk_29 (dk_at dksX0_canBeBelow_0 1 rfl rfl)
theorem dX0_canBeBelow_2 : decode cX0_canBeBelow 2 = .ok (.invokevirtual 351, 3) := dk_182 1 95 (dk_at dksX0_canBeBelow_0 2 rfl rfl)
theorem dX0_canBeBelow_5 : decode cX0_canBeBelow 5 = .ok (.ifCond .eq 38, 3) := dk_153 0 38 (dk_at dksX0_canBeBelow_0 5 rfl rfl)
theorem dX0_canBeBelow_8 : decode cX0_canBeBelow 8 = .ok (.aload_n 0, 1) := dk_42 (dk_at dksX0_canBeBelow_0 8 rfl rfl)
theorem dX0_canBeBelow_9 : decode cX0_canBeBelow 9 = .ok (.getfield 199, 3) := dk_180 0 199 (dk_at dksX0_canBeBelow_0 9 rfl rfl)
theorem dX0_canBeBelow_12 : decode cX0_canBeBelow 12 = .ok (.getfield 305, 3) := dk_180 1 49 (dk_at dksX0_canBeBelow_0 12 rfl rfl)
theorem dX0_canBeBelow_15 : decode cX0_canBeBelow 15 = .ok (.iload_n 3, 1) := dk_29 (dk_at dksX0_canBeBelow_0 15 rfl rfl)
theorem dX0_canBeBelow_16 : decode cX0_canBeBelow 16 = .ok (.iaload, 1) := dk_46 (dk_at dksX0_canBeBelow_0 16 rfl rfl)
theorem dX0_canBeBelow_17 : decode cX0_canBeBelow 17 = .ok (.aload_n 0, 1) := dk_42 (dk_at dksX0_canBeBelow_0 17 rfl rfl)
theorem dX0_canBeBelow_18 : decode cX0_canBeBelow 18 = .ok (.getfield 199, 3) := dk_180 0 199 (dk_at dksX0_canBeBelow_0 18 rfl rfl)
theorem dX0_canBeBelow_21 : decode cX0_canBeBelow 21 = .ok (.iload_n 1, 1) := dk_27 (dk_at dksX0_canBeBelow_0 21 rfl rfl)
theorem dX0_canBeBelow_22 : decode cX0_canBeBelow 22 = .ok (.iload_n 2, 1) := dk_28 (dk_at dksX0_canBeBelow_0 22 rfl rfl)
theorem dX0_canBeBelow_23 : decode cX0_canBeBelow 23 = .ok (.invokevirtual 308, 3) := dk_182 1 52 (dk_at dksX0_canBeBelow_1 0 rfl rfl)
theorem dX0_canBeBelow_26 : decode cX0_canBeBelow 26 = .ok (.if_icmp .ne 17, 3) := dk_160 0 17 (dk_at dksX0_canBeBelow_1 3 rfl rfl)
theorem dX0_canBeBelow_29 : decode cX0_canBeBelow 29 = .ok (.aload_n 0, 1) := dk_42 (dk_at dksX0_canBeBelow_1 6 rfl rfl)
theorem dX0_canBeBelow_30 : decode cX0_canBeBelow 30 = .ok (.iload_n 1, 1) := dk_27 (dk_at dksX0_canBeBelow_1 7 rfl rfl)
theorem dX0_canBeBelow_31 : decode cX0_canBeBelow 31 = .ok (.iload_n 2, 1) := dk_28 (dk_at dksX0_canBeBelow_1 8 rfl rfl)
theorem dX0_canBeBelow_32 : decode cX0_canBeBelow 32 = .ok (.iload_n 3, 1) := dk_29 (dk_at dksX0_canBeBelow_1 9 rfl rfl)
theorem dX0_canBeBelow_33 : decode cX0_canBeBelow 33 = .ok (.invokevirtual 540, 3) := dk_182 2 28 (dk_at dksX0_canBeBelow_1 10 rfl rfl)
theorem dX0_canBeBelow_36 : decode cX0_canBeBelow 36 = .ok (.ifCond .ne 7, 3) := dk_154 0 7 (dk_at dksX0_canBeBelow_1 13 rfl rfl)
theorem dX0_canBeBelow_39 : decode cX0_canBeBelow 39 = .ok (.iconst 1, 1) := dk_4 (dk_at dksX0_canBeBelow_1 16 rfl rfl)
theorem dX0_canBeBelow_40 : decode cX0_canBeBelow 40 = .ok (.goto 4, 3) := dk_167 0 4 (dk_at dksX0_canBeBelow_1 17 rfl rfl)
theorem dX0_canBeBelow_43 : decode cX0_canBeBelow 43 = .ok (.iconst 0, 1) := dk_3 (dk_at dksX0_canBeBelow_1 20 rfl rfl)
theorem dX0_canBeBelow_44 : decode cX0_canBeBelow 44 = .ok (.ireturn, 1) := dk_172 (dk_at dksX0_canBeBelow_1 21 rfl rfl)
abbrev cX0_isOn : ByteArray := prog_1_method_9_code
def yX0_isOn : MethodName := ⟨RX0, "isOn", "(I)Z"⟩
def dkwX0_isOn_0 : List UInt8 := [42, 180, 0, 208, 27, 184, 0, 211, 154, 0, 7, 4, 167, 0, 4, 3, 172]
abbrev dktX0_isOn_0 : List UInt8 := dkwX0_isOn_0 ++ []
theorem dksX0_isOn_0 : cX0_isOn.data.toList.drop 0 = dktX0_isOn_0 := by decide +kernel
theorem dX0_isOn_0 : decode cX0_isOn 0 = .ok (.aload_n 0, 1) := dk_42 (dk_at dksX0_isOn_0 0 rfl rfl)
theorem dX0_isOn_1 : decode cX0_isOn 1 = .ok (.getfield 208, 3) := dk_180 0 208 (dk_at dksX0_isOn_0 1 rfl rfl)
theorem dX0_isOn_4 : decode cX0_isOn 4 = .ok (.iload_n 1, 1) := dk_27 (dk_at dksX0_isOn_0 4 rfl rfl)
theorem dX0_isOn_5 : decode cX0_isOn 5 = .ok (.invokestatic 211, 3) := dk_184 0 211 (dk_at dksX0_isOn_0 5 rfl rfl)
theorem dX0_isOn_8 : decode cX0_isOn 8 = .ok (.ifCond .ne 7, 3) := dk_154 0 7 (dk_at dksX0_isOn_0 8 rfl rfl)
theorem dX0_isOn_11 : decode cX0_isOn 11 = .ok (.iconst 1, 1) := dk_4 (dk_at dksX0_isOn_0 11 rfl rfl)
theorem dX0_isOn_12 : decode cX0_isOn 12 = .ok (.goto 4, 3) := dk_167 0 4 (dk_at dksX0_isOn_0 12 rfl rfl)
theorem dX0_isOn_15 : decode cX0_isOn 15 = .ok (.iconst 0, 1) := dk_3 (dk_at dksX0_isOn_0 15 rfl rfl)
theorem dX0_isOn_16 : decode cX0_isOn 16 = .ok (.ireturn, 1) := dk_172 (dk_at dksX0_isOn_0 16 rfl rfl)
abbrev cX0_isForbidden : ByteArray := prog_1_method_16_code
def yX0_isForbidden : MethodName := ⟨RX0, "isForbidden", "(III)Z"⟩
def dkwX0_isForbidden_2 : List UInt8 := [132, 4, 1, 167, 255, 212, 3, 172]
abbrev dktX0_isForbidden_2 : List UInt8 := dkwX0_isForbidden_2 ++ []
def dkwX0_isForbidden_1 : List UInt8 := [180, 0, 38, 21, 4, 50, 180, 0, 242, 27, 28, 29, 185, 0, 246, 4, 0, 153, 0, 5, 4, 172]
abbrev dktX0_isForbidden_1 : List UInt8 := dkwX0_isForbidden_1 ++ dktX0_isForbidden_2
def dkwX0_isForbidden_0 : List UInt8 := [3, 54, 4, 21, 4, 6, 162, 0, 44, 42, 180, 0, 23, 21, 4, 184, 0, 211, 153, 0, 26, 42]
abbrev dktX0_isForbidden_0 : List UInt8 := dkwX0_isForbidden_0 ++ dktX0_isForbidden_1
theorem dksX0_isForbidden_0 : cX0_isForbidden.data.toList.drop 0 = dktX0_isForbidden_0 := by decide +kernel
theorem dksX0_isForbidden_1 : cX0_isForbidden.data.toList.drop 22 = dktX0_isForbidden_1 := dk_seg dksX0_isForbidden_0 22 rfl rfl
theorem dksX0_isForbidden_2 : cX0_isForbidden.data.toList.drop 44 = dktX0_isForbidden_2 := dk_seg dksX0_isForbidden_1 22 rfl rfl
theorem dX0_isForbidden_0 : decode cX0_isForbidden 0 = .ok (.iconst 0, 1) := dk_3 (dk_at dksX0_isForbidden_0 0 rfl rfl)
theorem dX0_isForbidden_1 : decode cX0_isForbidden 1 = .ok (.istore 4, 2) := dk_54 4 (dk_at dksX0_isForbidden_0 1 rfl rfl)
theorem dX0_isForbidden_3 : decode cX0_isForbidden 3 = .ok (.iload 4, 2) := dk_21 4 (dk_at dksX0_isForbidden_0 3 rfl rfl)
theorem dX0_isForbidden_5 : decode cX0_isForbidden 5 = .ok (.iconst 3, 1) := dk_6 (dk_at dksX0_isForbidden_0 5 rfl rfl)
theorem dX0_isForbidden_6 : decode cX0_isForbidden 6 = .ok (.if_icmp .ge 44, 3) := dk_162 0 44 (dk_at dksX0_isForbidden_0 6 rfl rfl)
theorem dX0_isForbidden_9 : decode cX0_isForbidden 9 = .ok (.aload_n 0, 1) := dk_42 (dk_at dksX0_isForbidden_0 9 rfl rfl)
theorem dX0_isForbidden_10 : decode cX0_isForbidden 10 = .ok (.getfield 23, 3) := dk_180 0 23 (dk_at dksX0_isForbidden_0 10 rfl rfl)
theorem dX0_isForbidden_13 : decode cX0_isForbidden 13 = .ok (.iload 4, 2) := dk_21 4 (dk_at dksX0_isForbidden_0 13 rfl rfl)
theorem dX0_isForbidden_15 : decode cX0_isForbidden 15 = .ok (.invokestatic 211, 3) := dk_184 0 211 (dk_at dksX0_isForbidden_0 15 rfl rfl)
theorem dX0_isForbidden_18 : decode cX0_isForbidden 18 = .ok (.ifCond .eq 26, 3) := dk_153 0 26 (dk_at dksX0_isForbidden_0 18 rfl rfl)
theorem dX0_isForbidden_21 : decode cX0_isForbidden 21 = .ok (.aload_n 0, 1) := dk_42 (dk_at dksX0_isForbidden_0 21 rfl rfl)
theorem dX0_isForbidden_22 : decode cX0_isForbidden 22 = .ok (.getfield 38, 3) := dk_180 0 38 (dk_at dksX0_isForbidden_1 0 rfl rfl)
theorem dX0_isForbidden_25 : decode cX0_isForbidden 25 = .ok (.iload 4, 2) := dk_21 4 (dk_at dksX0_isForbidden_1 3 rfl rfl)
theorem dX0_isForbidden_27 : decode cX0_isForbidden 27 = .ok (.aaload, 1) := dk_50 (dk_at dksX0_isForbidden_1 5 rfl rfl)
theorem dX0_isForbidden_28 : decode cX0_isForbidden 28 = .ok (.getfield 242, 3) := dk_180 0 242 (dk_at dksX0_isForbidden_1 6 rfl rfl)
theorem dX0_isForbidden_31 : decode cX0_isForbidden 31 = .ok (.iload_n 1, 1) := dk_27 (dk_at dksX0_isForbidden_1 9 rfl rfl)
theorem dX0_isForbidden_32 : decode cX0_isForbidden 32 = .ok (.iload_n 2, 1) := dk_28 (dk_at dksX0_isForbidden_1 10 rfl rfl)
theorem dX0_isForbidden_33 : decode cX0_isForbidden 33 = .ok (.iload_n 3, 1) := dk_29 (dk_at dksX0_isForbidden_1 11 rfl rfl)
theorem dX0_isForbidden_34 : decode cX0_isForbidden 34 = .ok (.invokeinterface 246 4, 5) := by decide +kernel
theorem dX0_isForbidden_39 : decode cX0_isForbidden 39 = .ok (.ifCond .eq 5, 3) := dk_153 0 5 (dk_at dksX0_isForbidden_1 17 rfl rfl)
theorem dX0_isForbidden_42 : decode cX0_isForbidden 42 = .ok (.iconst 1, 1) := dk_4 (dk_at dksX0_isForbidden_1 20 rfl rfl)
theorem dX0_isForbidden_43 : decode cX0_isForbidden 43 = .ok (.ireturn, 1) := dk_172 (dk_at dksX0_isForbidden_1 21 rfl rfl)
theorem dX0_isForbidden_44 : decode cX0_isForbidden 44 = .ok (.iinc 4 1, 3) := dk_132 4 1 (dk_at dksX0_isForbidden_2 0 rfl rfl)
theorem dX0_isForbidden_47 : decode cX0_isForbidden 47 = .ok (.goto (-44), 3) := dk_167 255 212 (dk_at dksX0_isForbidden_2 3 rfl rfl)
theorem dX0_isForbidden_50 : decode cX0_isForbidden 50 = .ok (.iconst 0, 1) := dk_3 (dk_at dksX0_isForbidden_2 6 rfl rfl)
theorem dX0_isForbidden_51 : decode cX0_isForbidden 51 = .ok (.ireturn, 1) := dk_172 (dk_at dksX0_isForbidden_2 7 rfl rfl)
abbrev cX0_partTrees : ByteArray := prog_1_method_94_code
def yX0_partTrees : MethodName := ⟨RX0, "partTrees", "(IIII)I"⟩
def dkwX0_partTrees_4 : List UInt8 := [21, 4, 184, 2, 34, 46, 184, 2, 40, 54, 6, 132, 7, 1, 167, 255, 194, 21, 6, 172]
abbrev dktX0_partTrees_4 : List UInt8 := dkwX0_partTrees_4 ++ []
def dkwX0_partTrees_3 : List UInt8 := [153, 0, 34, 42, 27, 28, 21, 7, 182, 2, 37, 153, 0, 23, 21, 6, 42, 180, 0, 161, 21, 7, 29]
abbrev dktX0_partTrees_3 : List UInt8 := dkwX0_partTrees_3 ++ dktX0_partTrees_4
def dkwX0_partTrees_2 : List UInt8 := [180, 0, 199, 180, 0, 203, 162, 0, 56, 42, 180, 0, 157, 21, 7, 29, 21, 4, 184, 2, 34, 51]
abbrev dktX0_partTrees_2 : List UInt8 := dkwX0_partTrees_2 ++ dktX0_partTrees_3
def dkwX0_partTrees_1 : List UInt8 := [21, 4, 182, 2, 31, 153, 0, 7, 4, 167, 0, 4, 3, 172, 3, 54, 6, 3, 54, 7, 21, 7, 42]
abbrev dktX0_partTrees_1 : List UInt8 := dkwX0_partTrees_1 ++ dktX0_partTrees_2
def dkwX0_partTrees_0 : List UInt8 := [42, 180, 0, 199, 27, 28, 182, 1, 52, 54, 5, 21, 5, 184, 1, 55, 154, 0, 21, 42, 21, 5, 29]
abbrev dktX0_partTrees_0 : List UInt8 := dkwX0_partTrees_0 ++ dktX0_partTrees_1
theorem dksX0_partTrees_0 : cX0_partTrees.data.toList.drop 0 = dktX0_partTrees_0 := by decide +kernel
theorem dksX0_partTrees_1 : cX0_partTrees.data.toList.drop 23 = dktX0_partTrees_1 := dk_seg dksX0_partTrees_0 23 rfl rfl
theorem dksX0_partTrees_2 : cX0_partTrees.data.toList.drop 46 = dktX0_partTrees_2 := dk_seg dksX0_partTrees_1 23 rfl rfl
theorem dksX0_partTrees_3 : cX0_partTrees.data.toList.drop 68 = dktX0_partTrees_3 := dk_seg dksX0_partTrees_2 22 rfl rfl
theorem dksX0_partTrees_4 : cX0_partTrees.data.toList.drop 91 = dktX0_partTrees_4 := dk_seg dksX0_partTrees_3 23 rfl rfl
theorem dX0_partTrees_0 : decode cX0_partTrees 0 = .ok (.aload_n 0, 1) := dk_42 (dk_at dksX0_partTrees_0 0 rfl rfl)
theorem dX0_partTrees_1 : decode cX0_partTrees 1 = .ok (.getfield 199, 3) := dk_180 0 199 (dk_at dksX0_partTrees_0 1 rfl rfl)
theorem dX0_partTrees_4 : decode cX0_partTrees 4 = .ok (.iload_n 1, 1) := dk_27 (dk_at dksX0_partTrees_0 4 rfl rfl)
theorem dX0_partTrees_5 : decode cX0_partTrees 5 = .ok (.iload_n 2, 1) := dk_28 (dk_at dksX0_partTrees_0 5 rfl rfl)
theorem dX0_partTrees_6 : decode cX0_partTrees 6 = .ok (.invokevirtual 308, 3) := dk_182 1 52 (dk_at dksX0_partTrees_0 6 rfl rfl)
theorem dX0_partTrees_9 : decode cX0_partTrees 9 = .ok (.istore 5, 2) := dk_54 5 (dk_at dksX0_partTrees_0 9 rfl rfl)
theorem dX0_partTrees_11 : decode cX0_partTrees 11 = .ok (.iload 5, 2) := dk_21 5 (dk_at dksX0_partTrees_0 11 rfl rfl)
theorem dX0_partTrees_13 : decode cX0_partTrees 13 = .ok (.invokestatic 311, 3) := dk_184 1 55 (dk_at dksX0_partTrees_0 13 rfl rfl)
theorem dX0_partTrees_16 : decode cX0_partTrees 16 = .ok (.ifCond .ne 21, 3) := dk_154 0 21 (dk_at dksX0_partTrees_0 16 rfl rfl)
theorem dX0_partTrees_19 : decode cX0_partTrees 19 = .ok (.aload_n 0, 1) := dk_42 (dk_at dksX0_partTrees_0 19 rfl rfl)
theorem dX0_partTrees_20 : decode cX0_partTrees 20 = .ok (.iload 5, 2) := dk_21 5 (dk_at dksX0_partTrees_0 20 rfl rfl)
theorem dX0_partTrees_22 : decode cX0_partTrees 22 = .ok (.iload_n 3, 1) := dk_29 (dk_at dksX0_partTrees_0 22 rfl rfl)
theorem dX0_partTrees_23 : decode cX0_partTrees 23 = .ok (.iload 4, 2) := dk_21 4 (dk_at dksX0_partTrees_1 0 rfl rfl)
theorem dX0_partTrees_25 : decode cX0_partTrees 25 = .ok (.invokevirtual 543, 3) := dk_182 2 31 (dk_at dksX0_partTrees_1 2 rfl rfl)
theorem dX0_partTrees_28 : decode cX0_partTrees 28 = .ok (.ifCond .eq 7, 3) := dk_153 0 7 (dk_at dksX0_partTrees_1 5 rfl rfl)
theorem dX0_partTrees_31 : decode cX0_partTrees 31 = .ok (.iconst 1, 1) := dk_4 (dk_at dksX0_partTrees_1 8 rfl rfl)
theorem dX0_partTrees_32 : decode cX0_partTrees 32 = .ok (.goto 4, 3) := dk_167 0 4 (dk_at dksX0_partTrees_1 9 rfl rfl)
theorem dX0_partTrees_35 : decode cX0_partTrees 35 = .ok (.iconst 0, 1) := dk_3 (dk_at dksX0_partTrees_1 12 rfl rfl)
theorem dX0_partTrees_36 : decode cX0_partTrees 36 = .ok (.ireturn, 1) := dk_172 (dk_at dksX0_partTrees_1 13 rfl rfl)
theorem dX0_partTrees_37 : decode cX0_partTrees 37 = .ok (.iconst 0, 1) := dk_3 (dk_at dksX0_partTrees_1 14 rfl rfl)
theorem dX0_partTrees_38 : decode cX0_partTrees 38 = .ok (.istore 6, 2) := dk_54 6 (dk_at dksX0_partTrees_1 15 rfl rfl)
theorem dX0_partTrees_40 : decode cX0_partTrees 40 = .ok (.iconst 0, 1) := dk_3 (dk_at dksX0_partTrees_1 17 rfl rfl)
theorem dX0_partTrees_41 : decode cX0_partTrees 41 = .ok (.istore 7, 2) := dk_54 7 (dk_at dksX0_partTrees_1 18 rfl rfl)
theorem dX0_partTrees_43 : decode cX0_partTrees 43 = .ok (.iload 7, 2) := dk_21 7 (dk_at dksX0_partTrees_1 20 rfl rfl)
theorem dX0_partTrees_45 : decode cX0_partTrees 45 = .ok (.aload_n 0, 1) := dk_42 (dk_at dksX0_partTrees_1 22 rfl rfl)
theorem dX0_partTrees_46 : decode cX0_partTrees 46 = .ok (.getfield 199, 3) := dk_180 0 199 (dk_at dksX0_partTrees_2 0 rfl rfl)
theorem dX0_partTrees_49 : decode cX0_partTrees 49 = .ok (.getfield 203, 3) := dk_180 0 203 (dk_at dksX0_partTrees_2 3 rfl rfl)
theorem dX0_partTrees_52 : decode cX0_partTrees 52 = .ok (.if_icmp .ge 56, 3) := dk_162 0 56 (dk_at dksX0_partTrees_2 6 rfl rfl)
theorem dX0_partTrees_55 : decode cX0_partTrees 55 = .ok (.aload_n 0, 1) := dk_42 (dk_at dksX0_partTrees_2 9 rfl rfl)
theorem dX0_partTrees_56 : decode cX0_partTrees 56 = .ok (.getfield 157, 3) := dk_180 0 157 (dk_at dksX0_partTrees_2 10 rfl rfl)
theorem dX0_partTrees_59 : decode cX0_partTrees 59 = .ok (.iload 7, 2) := dk_21 7 (dk_at dksX0_partTrees_2 13 rfl rfl)
theorem dX0_partTrees_61 : decode cX0_partTrees 61 = .ok (.iload_n 3, 1) := dk_29 (dk_at dksX0_partTrees_2 15 rfl rfl)
theorem dX0_partTrees_62 : decode cX0_partTrees 62 = .ok (.iload 4, 2) := dk_21 4 (dk_at dksX0_partTrees_2 16 rfl rfl)
theorem dX0_partTrees_64 : decode cX0_partTrees 64 = .ok (.invokestatic 546, 3) := dk_184 2 34 (dk_at dksX0_partTrees_2 18 rfl rfl)
theorem dX0_partTrees_67 : decode cX0_partTrees 67 = .ok (.baload, 1) := dk_51 (dk_at dksX0_partTrees_2 21 rfl rfl)
theorem dX0_partTrees_68 : decode cX0_partTrees 68 = .ok (.ifCond .eq 34, 3) := dk_153 0 34 (dk_at dksX0_partTrees_3 0 rfl rfl)
theorem dX0_partTrees_71 : decode cX0_partTrees 71 = .ok (.aload_n 0, 1) := dk_42 (dk_at dksX0_partTrees_3 3 rfl rfl)
theorem dX0_partTrees_72 : decode cX0_partTrees 72 = .ok (.iload_n 1, 1) := dk_27 (dk_at dksX0_partTrees_3 4 rfl rfl)
theorem dX0_partTrees_73 : decode cX0_partTrees 73 = .ok (.iload_n 2, 1) := dk_28 (dk_at dksX0_partTrees_3 5 rfl rfl)
theorem dX0_partTrees_74 : decode cX0_partTrees 74 = .ok (.iload 7, 2) := dk_21 7 (dk_at dksX0_partTrees_3 6 rfl rfl)
theorem dX0_partTrees_76 : decode cX0_partTrees 76 = .ok (.invokevirtual 549, 3) := dk_182 2 37 (dk_at dksX0_partTrees_3 8 rfl rfl)
theorem dX0_partTrees_79 : decode cX0_partTrees 79 = .ok (.ifCond .eq 23, 3) := dk_153 0 23 (dk_at dksX0_partTrees_3 11 rfl rfl)
theorem dX0_partTrees_82 : decode cX0_partTrees 82 = .ok (.iload 6, 2) := dk_21 6 (dk_at dksX0_partTrees_3 14 rfl rfl)
theorem dX0_partTrees_84 : decode cX0_partTrees 84 = .ok (.aload_n 0, 1) := dk_42 (dk_at dksX0_partTrees_3 16 rfl rfl)
theorem dX0_partTrees_85 : decode cX0_partTrees 85 = .ok (.getfield 161, 3) := dk_180 0 161 (dk_at dksX0_partTrees_3 17 rfl rfl)
theorem dX0_partTrees_88 : decode cX0_partTrees 88 = .ok (.iload 7, 2) := dk_21 7 (dk_at dksX0_partTrees_3 20 rfl rfl)
theorem dX0_partTrees_90 : decode cX0_partTrees 90 = .ok (.iload_n 3, 1) := dk_29 (dk_at dksX0_partTrees_3 22 rfl rfl)
theorem dX0_partTrees_91 : decode cX0_partTrees 91 = .ok (.iload 4, 2) := dk_21 4 (dk_at dksX0_partTrees_4 0 rfl rfl)
theorem dX0_partTrees_93 : decode cX0_partTrees 93 = .ok (.invokestatic 546, 3) := dk_184 2 34 (dk_at dksX0_partTrees_4 2 rfl rfl)
theorem dX0_partTrees_96 : decode cX0_partTrees 96 = .ok (.iaload, 1) := dk_46 (dk_at dksX0_partTrees_4 5 rfl rfl)
theorem dX0_partTrees_97 : decode cX0_partTrees 97 = .ok (.invokestatic 552, 3) := dk_184 2 40 (dk_at dksX0_partTrees_4 6 rfl rfl)
theorem dX0_partTrees_100 : decode cX0_partTrees 100 = .ok (.istore 6, 2) := dk_54 6 (dk_at dksX0_partTrees_4 9 rfl rfl)
theorem dX0_partTrees_102 : decode cX0_partTrees 102 = .ok (.iinc 7 1, 3) := dk_132 7 1 (dk_at dksX0_partTrees_4 11 rfl rfl)
theorem dX0_partTrees_105 : decode cX0_partTrees 105 = .ok (.goto (-62), 3) := dk_167 255 194 (dk_at dksX0_partTrees_4 14 rfl rfl)
theorem dX0_partTrees_108 : decode cX0_partTrees 108 = .ok (.iload 6, 2) := dk_21 6 (dk_at dksX0_partTrees_4 17 rfl rfl)
theorem dX0_partTrees_110 : decode cX0_partTrees 110 = .ok (.ireturn, 1) := dk_172 (dk_at dksX0_partTrees_4 19 rfl rfl)
abbrev cX0_more : ByteArray := prog_1_method_3_code
def yX0_more : MethodName := ⟨RX0, "more", "(II)I"⟩
def dkwX0_more_1 : List UInt8 := [160, 0, 6, 16, 254, 172, 26, 18, 5, 27, 100, 163, 0, 9, 26, 27, 96, 167, 0, 5, 16, 254, 172]
abbrev dktX0_more_1 : List UInt8 := dkwX0_more_1 ++ []
def dkwX0_more_0 : List UInt8 := [26, 16, 253, 159, 0, 9, 27, 16, 253, 160, 0, 6, 16, 253, 172, 26, 16, 254, 159, 0, 9, 27, 16, 254]
abbrev dktX0_more_0 : List UInt8 := dkwX0_more_0 ++ dktX0_more_1
theorem dksX0_more_0 : cX0_more.data.toList.drop 0 = dktX0_more_0 := by decide +kernel
theorem dksX0_more_1 : cX0_more.data.toList.drop 24 = dktX0_more_1 := dk_seg dksX0_more_0 24 rfl rfl
theorem dX0_more_0 : decode cX0_more 0 = .ok (.iload_n 0, 1) := dk_26 (dk_at dksX0_more_0 0 rfl rfl)
theorem dX0_more_1 : decode cX0_more 1 = .ok (.bipush (-3), 2) := dk_16 253 (dk_at dksX0_more_0 1 rfl rfl)
theorem dX0_more_3 : decode cX0_more 3 = .ok (.if_icmp .eq 9, 3) := dk_159 0 9 (dk_at dksX0_more_0 3 rfl rfl)
theorem dX0_more_6 : decode cX0_more 6 = .ok (.iload_n 1, 1) := dk_27 (dk_at dksX0_more_0 6 rfl rfl)
theorem dX0_more_7 : decode cX0_more 7 = .ok (.bipush (-3), 2) := dk_16 253 (dk_at dksX0_more_0 7 rfl rfl)
theorem dX0_more_9 : decode cX0_more 9 = .ok (.if_icmp .ne 6, 3) := dk_160 0 6 (dk_at dksX0_more_0 9 rfl rfl)
theorem dX0_more_12 : decode cX0_more 12 = .ok (.bipush (-3), 2) := dk_16 253 (dk_at dksX0_more_0 12 rfl rfl)
theorem dX0_more_14 : decode cX0_more 14 = .ok (.ireturn, 1) := dk_172 (dk_at dksX0_more_0 14 rfl rfl)
theorem dX0_more_15 : decode cX0_more 15 = .ok (.iload_n 0, 1) := dk_26 (dk_at dksX0_more_0 15 rfl rfl)
theorem dX0_more_16 : decode cX0_more 16 = .ok (.bipush (-2), 2) := dk_16 254 (dk_at dksX0_more_0 16 rfl rfl)
theorem dX0_more_18 : decode cX0_more 18 = .ok (.if_icmp .eq 9, 3) := dk_159 0 9 (dk_at dksX0_more_0 18 rfl rfl)
theorem dX0_more_21 : decode cX0_more 21 = .ok (.iload_n 1, 1) := dk_27 (dk_at dksX0_more_0 21 rfl rfl)
theorem dX0_more_22 : decode cX0_more 22 = .ok (.bipush (-2), 2) := dk_16 254 (dk_at dksX0_more_0 22 rfl rfl)
theorem dX0_more_24 : decode cX0_more 24 = .ok (.if_icmp .ne 6, 3) := dk_160 0 6 (dk_at dksX0_more_1 0 rfl rfl)
theorem dX0_more_27 : decode cX0_more 27 = .ok (.bipush (-2), 2) := dk_16 254 (dk_at dksX0_more_1 3 rfl rfl)
theorem dX0_more_29 : decode cX0_more 29 = .ok (.ireturn, 1) := dk_172 (dk_at dksX0_more_1 5 rfl rfl)
theorem dX0_more_30 : decode cX0_more 30 = .ok (.iload_n 0, 1) := dk_26 (dk_at dksX0_more_1 6 rfl rfl)
theorem dX0_more_31 : decode cX0_more 31 = .ok (.ldc 5, 2) := dk_18 5 (dk_at dksX0_more_1 7 rfl rfl)
theorem dX0_more_33 : decode cX0_more 33 = .ok (.iload_n 1, 1) := dk_27 (dk_at dksX0_more_1 9 rfl rfl)
theorem dX0_more_34 : decode cX0_more 34 = .ok (.isub, 1) := dk_100 (dk_at dksX0_more_1 10 rfl rfl)
theorem dX0_more_35 : decode cX0_more 35 = .ok (.if_icmp .gt 9, 3) := dk_163 0 9 (dk_at dksX0_more_1 11 rfl rfl)
theorem dX0_more_38 : decode cX0_more 38 = .ok (.iload_n 0, 1) := dk_26 (dk_at dksX0_more_1 14 rfl rfl)
theorem dX0_more_39 : decode cX0_more 39 = .ok (.iload_n 1, 1) := dk_27 (dk_at dksX0_more_1 15 rfl rfl)
theorem dX0_more_40 : decode cX0_more 40 = .ok (.iadd, 1) := dk_96 (dk_at dksX0_more_1 16 rfl rfl)
theorem dX0_more_41 : decode cX0_more 41 = .ok (.goto 5, 3) := dk_167 0 5 (dk_at dksX0_more_1 17 rfl rfl)
theorem dX0_more_44 : decode cX0_more 44 = .ok (.bipush (-2), 2) := dk_16 254 (dk_at dksX0_more_1 20 rfl rfl)
theorem dX0_more_46 : decode cX0_more 46 = .ok (.ireturn, 1) := dk_172 (dk_at dksX0_more_1 22 rfl rfl)
abbrev cX0_partLeast : ByteArray := prog_1_method_95_code
def yX0_partLeast : MethodName := ⟨RX0, "partLeast", "(IIII)I"⟩
def dkwX0_partLeast_4 : List UInt8 := [21, 4, 184, 2, 34, 46, 184, 1, 92, 54, 6, 132, 7, 1, 167, 255, 194, 21, 6, 172]
abbrev dktX0_partLeast_4 : List UInt8 := dkwX0_partLeast_4 ++ []
def dkwX0_partLeast_3 : List UInt8 := [153, 0, 34, 42, 27, 28, 21, 7, 182, 2, 37, 153, 0, 23, 21, 6, 42, 180, 0, 164, 21, 7, 29]
abbrev dktX0_partLeast_3 : List UInt8 := dkwX0_partLeast_3 ++ dktX0_partLeast_4
def dkwX0_partLeast_2 : List UInt8 := [42, 180, 0, 199, 180, 0, 203, 162, 0, 56, 42, 180, 0, 157, 21, 7, 29, 21, 4, 184, 2, 34, 51]
abbrev dktX0_partLeast_2 : List UInt8 := dkwX0_partLeast_2 ++ dktX0_partLeast_3
def dkwX0_partLeast_1 : List UInt8 := [21, 4, 182, 2, 31, 153, 0, 7, 3, 167, 0, 5, 18, 12, 172, 18, 12, 54, 6, 3, 54, 7, 21, 7]
abbrev dktX0_partLeast_1 : List UInt8 := dkwX0_partLeast_1 ++ dktX0_partLeast_2
def dkwX0_partLeast_0 : List UInt8 := [42, 180, 0, 199, 27, 28, 182, 1, 52, 54, 5, 21, 5, 184, 1, 55, 154, 0, 22, 42, 21, 5, 29]
abbrev dktX0_partLeast_0 : List UInt8 := dkwX0_partLeast_0 ++ dktX0_partLeast_1
theorem dksX0_partLeast_0 : cX0_partLeast.data.toList.drop 0 = dktX0_partLeast_0 := by decide +kernel
theorem dksX0_partLeast_1 : cX0_partLeast.data.toList.drop 23 = dktX0_partLeast_1 := dk_seg dksX0_partLeast_0 23 rfl rfl
theorem dksX0_partLeast_2 : cX0_partLeast.data.toList.drop 47 = dktX0_partLeast_2 := dk_seg dksX0_partLeast_1 24 rfl rfl
theorem dksX0_partLeast_3 : cX0_partLeast.data.toList.drop 70 = dktX0_partLeast_3 := dk_seg dksX0_partLeast_2 23 rfl rfl
theorem dksX0_partLeast_4 : cX0_partLeast.data.toList.drop 93 = dktX0_partLeast_4 := dk_seg dksX0_partLeast_3 23 rfl rfl
theorem dX0_partLeast_0 : decode cX0_partLeast 0 = .ok (.aload_n 0, 1) := dk_42 (dk_at dksX0_partLeast_0 0 rfl rfl)
theorem dX0_partLeast_1 : decode cX0_partLeast 1 = .ok (.getfield 199, 3) := dk_180 0 199 (dk_at dksX0_partLeast_0 1 rfl rfl)
theorem dX0_partLeast_4 : decode cX0_partLeast 4 = .ok (.iload_n 1, 1) := dk_27 (dk_at dksX0_partLeast_0 4 rfl rfl)
theorem dX0_partLeast_5 : decode cX0_partLeast 5 = .ok (.iload_n 2, 1) := dk_28 (dk_at dksX0_partLeast_0 5 rfl rfl)
theorem dX0_partLeast_6 : decode cX0_partLeast 6 = .ok (.invokevirtual 308, 3) := dk_182 1 52 (dk_at dksX0_partLeast_0 6 rfl rfl)
theorem dX0_partLeast_9 : decode cX0_partLeast 9 = .ok (.istore 5, 2) := dk_54 5 (dk_at dksX0_partLeast_0 9 rfl rfl)
theorem dX0_partLeast_11 : decode cX0_partLeast 11 = .ok (.iload 5, 2) := dk_21 5 (dk_at dksX0_partLeast_0 11 rfl rfl)
theorem dX0_partLeast_13 : decode cX0_partLeast 13 = .ok (.invokestatic 311, 3) := dk_184 1 55 (dk_at dksX0_partLeast_0 13 rfl rfl)
theorem dX0_partLeast_16 : decode cX0_partLeast 16 = .ok (.ifCond .ne 22, 3) := dk_154 0 22 (dk_at dksX0_partLeast_0 16 rfl rfl)
theorem dX0_partLeast_19 : decode cX0_partLeast 19 = .ok (.aload_n 0, 1) := dk_42 (dk_at dksX0_partLeast_0 19 rfl rfl)
theorem dX0_partLeast_20 : decode cX0_partLeast 20 = .ok (.iload 5, 2) := dk_21 5 (dk_at dksX0_partLeast_0 20 rfl rfl)
theorem dX0_partLeast_22 : decode cX0_partLeast 22 = .ok (.iload_n 3, 1) := dk_29 (dk_at dksX0_partLeast_0 22 rfl rfl)
theorem dX0_partLeast_23 : decode cX0_partLeast 23 = .ok (.iload 4, 2) := dk_21 4 (dk_at dksX0_partLeast_1 0 rfl rfl)
theorem dX0_partLeast_25 : decode cX0_partLeast 25 = .ok (.invokevirtual 543, 3) := dk_182 2 31 (dk_at dksX0_partLeast_1 2 rfl rfl)
theorem dX0_partLeast_28 : decode cX0_partLeast 28 = .ok (.ifCond .eq 7, 3) := dk_153 0 7 (dk_at dksX0_partLeast_1 5 rfl rfl)
theorem dX0_partLeast_31 : decode cX0_partLeast 31 = .ok (.iconst 0, 1) := dk_3 (dk_at dksX0_partLeast_1 8 rfl rfl)
theorem dX0_partLeast_32 : decode cX0_partLeast 32 = .ok (.goto 5, 3) := dk_167 0 5 (dk_at dksX0_partLeast_1 9 rfl rfl)
theorem dX0_partLeast_35 : decode cX0_partLeast 35 = .ok (.ldc 12, 2) := dk_18 12 (dk_at dksX0_partLeast_1 12 rfl rfl)
theorem dX0_partLeast_37 : decode cX0_partLeast 37 = .ok (.ireturn, 1) := dk_172 (dk_at dksX0_partLeast_1 14 rfl rfl)
theorem dX0_partLeast_38 : decode cX0_partLeast 38 = .ok (.ldc 12, 2) := dk_18 12 (dk_at dksX0_partLeast_1 15 rfl rfl)
theorem dX0_partLeast_40 : decode cX0_partLeast 40 = .ok (.istore 6, 2) := dk_54 6 (dk_at dksX0_partLeast_1 17 rfl rfl)
theorem dX0_partLeast_42 : decode cX0_partLeast 42 = .ok (.iconst 0, 1) := dk_3 (dk_at dksX0_partLeast_1 19 rfl rfl)
theorem dX0_partLeast_43 : decode cX0_partLeast 43 = .ok (.istore 7, 2) := dk_54 7 (dk_at dksX0_partLeast_1 20 rfl rfl)
theorem dX0_partLeast_45 : decode cX0_partLeast 45 = .ok (.iload 7, 2) := dk_21 7 (dk_at dksX0_partLeast_1 22 rfl rfl)
theorem dX0_partLeast_47 : decode cX0_partLeast 47 = .ok (.aload_n 0, 1) := dk_42 (dk_at dksX0_partLeast_2 0 rfl rfl)
theorem dX0_partLeast_48 : decode cX0_partLeast 48 = .ok (.getfield 199, 3) := dk_180 0 199 (dk_at dksX0_partLeast_2 1 rfl rfl)
theorem dX0_partLeast_51 : decode cX0_partLeast 51 = .ok (.getfield 203, 3) := dk_180 0 203 (dk_at dksX0_partLeast_2 4 rfl rfl)
theorem dX0_partLeast_54 : decode cX0_partLeast 54 = .ok (.if_icmp .ge 56, 3) := dk_162 0 56 (dk_at dksX0_partLeast_2 7 rfl rfl)
theorem dX0_partLeast_57 : decode cX0_partLeast 57 = .ok (.aload_n 0, 1) := dk_42 (dk_at dksX0_partLeast_2 10 rfl rfl)
theorem dX0_partLeast_58 : decode cX0_partLeast 58 = .ok (.getfield 157, 3) := dk_180 0 157 (dk_at dksX0_partLeast_2 11 rfl rfl)
theorem dX0_partLeast_61 : decode cX0_partLeast 61 = .ok (.iload 7, 2) := dk_21 7 (dk_at dksX0_partLeast_2 14 rfl rfl)
theorem dX0_partLeast_63 : decode cX0_partLeast 63 = .ok (.iload_n 3, 1) := dk_29 (dk_at dksX0_partLeast_2 16 rfl rfl)
theorem dX0_partLeast_64 : decode cX0_partLeast 64 = .ok (.iload 4, 2) := dk_21 4 (dk_at dksX0_partLeast_2 17 rfl rfl)
theorem dX0_partLeast_66 : decode cX0_partLeast 66 = .ok (.invokestatic 546, 3) := dk_184 2 34 (dk_at dksX0_partLeast_2 19 rfl rfl)
theorem dX0_partLeast_69 : decode cX0_partLeast 69 = .ok (.baload, 1) := dk_51 (dk_at dksX0_partLeast_2 22 rfl rfl)
theorem dX0_partLeast_70 : decode cX0_partLeast 70 = .ok (.ifCond .eq 34, 3) := dk_153 0 34 (dk_at dksX0_partLeast_3 0 rfl rfl)
theorem dX0_partLeast_73 : decode cX0_partLeast 73 = .ok (.aload_n 0, 1) := dk_42 (dk_at dksX0_partLeast_3 3 rfl rfl)
theorem dX0_partLeast_74 : decode cX0_partLeast 74 = .ok (.iload_n 1, 1) := dk_27 (dk_at dksX0_partLeast_3 4 rfl rfl)
theorem dX0_partLeast_75 : decode cX0_partLeast 75 = .ok (.iload_n 2, 1) := dk_28 (dk_at dksX0_partLeast_3 5 rfl rfl)
theorem dX0_partLeast_76 : decode cX0_partLeast 76 = .ok (.iload 7, 2) := dk_21 7 (dk_at dksX0_partLeast_3 6 rfl rfl)
theorem dX0_partLeast_78 : decode cX0_partLeast 78 = .ok (.invokevirtual 549, 3) := dk_182 2 37 (dk_at dksX0_partLeast_3 8 rfl rfl)
theorem dX0_partLeast_81 : decode cX0_partLeast 81 = .ok (.ifCond .eq 23, 3) := dk_153 0 23 (dk_at dksX0_partLeast_3 11 rfl rfl)
theorem dX0_partLeast_84 : decode cX0_partLeast 84 = .ok (.iload 6, 2) := dk_21 6 (dk_at dksX0_partLeast_3 14 rfl rfl)
theorem dX0_partLeast_86 : decode cX0_partLeast 86 = .ok (.aload_n 0, 1) := dk_42 (dk_at dksX0_partLeast_3 16 rfl rfl)
theorem dX0_partLeast_87 : decode cX0_partLeast 87 = .ok (.getfield 164, 3) := dk_180 0 164 (dk_at dksX0_partLeast_3 17 rfl rfl)
theorem dX0_partLeast_90 : decode cX0_partLeast 90 = .ok (.iload 7, 2) := dk_21 7 (dk_at dksX0_partLeast_3 20 rfl rfl)
theorem dX0_partLeast_92 : decode cX0_partLeast 92 = .ok (.iload_n 3, 1) := dk_29 (dk_at dksX0_partLeast_3 22 rfl rfl)
theorem dX0_partLeast_93 : decode cX0_partLeast 93 = .ok (.iload 4, 2) := dk_21 4 (dk_at dksX0_partLeast_4 0 rfl rfl)
theorem dX0_partLeast_95 : decode cX0_partLeast 95 = .ok (.invokestatic 546, 3) := dk_184 2 34 (dk_at dksX0_partLeast_4 2 rfl rfl)
theorem dX0_partLeast_98 : decode cX0_partLeast 98 = .ok (.iaload, 1) := dk_46 (dk_at dksX0_partLeast_4 5 rfl rfl)
theorem dX0_partLeast_99 : decode cX0_partLeast 99 = .ok (.invokestatic 348, 3) := dk_184 1 92 (dk_at dksX0_partLeast_4 6 rfl rfl)
theorem dX0_partLeast_102 : decode cX0_partLeast 102 = .ok (.istore 6, 2) := dk_54 6 (dk_at dksX0_partLeast_4 9 rfl rfl)
theorem dX0_partLeast_104 : decode cX0_partLeast 104 = .ok (.iinc 7 1, 3) := dk_132 7 1 (dk_at dksX0_partLeast_4 11 rfl rfl)
theorem dX0_partLeast_107 : decode cX0_partLeast 107 = .ok (.goto (-62), 3) := dk_167 255 194 (dk_at dksX0_partLeast_4 14 rfl rfl)
theorem dX0_partLeast_110 : decode cX0_partLeast 110 = .ok (.iload 6, 2) := dk_21 6 (dk_at dksX0_partLeast_4 17 rfl rfl)
theorem dX0_partLeast_112 : decode cX0_partLeast 112 = .ok (.ireturn, 1) := dk_172 (dk_at dksX0_partLeast_4 19 rfl rfl)
abbrev cX0_lesser : ByteArray := prog_1_method_5_code
def yX0_lesser : MethodName := ⟨RX0, "lesser", "(II)I"⟩
def dkwX0_lesser_0 : List UInt8 := [26, 27, 184, 0, 6, 172]
abbrev dktX0_lesser_0 : List UInt8 := dkwX0_lesser_0 ++ []
theorem dksX0_lesser_0 : cX0_lesser.data.toList.drop 0 = dktX0_lesser_0 := by decide +kernel
theorem dX0_lesser_0 : decode cX0_lesser 0 = .ok (.iload_n 0, 1) := dk_26 (dk_at dksX0_lesser_0 0 rfl rfl)
theorem dX0_lesser_1 : decode cX0_lesser 1 = .ok (.iload_n 1, 1) := dk_27 (dk_at dksX0_lesser_0 1 rfl rfl)
theorem dX0_lesser_2 : decode cX0_lesser 2 = .ok (.invokestatic 6, 3) := dk_184 0 6 (dk_at dksX0_lesser_0 2 rfl rfl)
theorem dX0_lesser_5 : decode cX0_lesser 5 = .ok (.ireturn, 1) := dk_172 (dk_at dksX0_lesser_0 5 rfl rfl)
abbrev cX0_partCost : ByteArray := prog_1_method_96_code
def yX0_partCost : MethodName := ⟨RX0, "partCost", "(IIII)I"⟩
def dkwX0_partCost_3 : List UInt8 := [132, 6, 1, 167, 255, 227, 4, 21, 4, 29, 100, 184, 2, 43, 172]
abbrev dktX0_partCost_3 : List UInt8 := dkwX0_partCost_3 ++ []
def dkwX0_partCost_2 : List UInt8 := [21, 4, 162, 0, 28, 42, 180, 0, 19, 21, 6, 46, 21, 5, 160, 0, 10, 21, 4, 29, 100, 4, 100, 172]
abbrev dktX0_partCost_2 : List UInt8 := dkwX0_partCost_2 ++ dktX0_partCost_3
def dkwX0_partCost_1 : List UInt8 := [17, 0, 169, 21, 5, 16, 26, 100, 104, 29, 21, 4, 184, 2, 25, 96, 46, 172, 29, 54, 6, 21, 6]
abbrev dktX0_partCost_1 : List UInt8 := dkwX0_partCost_1 ++ dktX0_partCost_2
def dkwX0_partCost_0 : List UInt8 := [42, 180, 0, 199, 27, 28, 182, 1, 52, 54, 5, 21, 5, 184, 1, 55, 153, 0, 25, 42, 180, 0, 173]
abbrev dktX0_partCost_0 : List UInt8 := dkwX0_partCost_0 ++ dktX0_partCost_1
theorem dksX0_partCost_0 : cX0_partCost.data.toList.drop 0 = dktX0_partCost_0 := by decide +kernel
theorem dksX0_partCost_1 : cX0_partCost.data.toList.drop 23 = dktX0_partCost_1 := dk_seg dksX0_partCost_0 23 rfl rfl
theorem dksX0_partCost_2 : cX0_partCost.data.toList.drop 46 = dktX0_partCost_2 := dk_seg dksX0_partCost_1 23 rfl rfl
theorem dksX0_partCost_3 : cX0_partCost.data.toList.drop 70 = dktX0_partCost_3 := dk_seg dksX0_partCost_2 24 rfl rfl
theorem dX0_partCost_0 : decode cX0_partCost 0 = .ok (.aload_n 0, 1) := dk_42 (dk_at dksX0_partCost_0 0 rfl rfl)
theorem dX0_partCost_1 : decode cX0_partCost 1 = .ok (.getfield 199, 3) := dk_180 0 199 (dk_at dksX0_partCost_0 1 rfl rfl)
theorem dX0_partCost_4 : decode cX0_partCost 4 = .ok (.iload_n 1, 1) := dk_27 (dk_at dksX0_partCost_0 4 rfl rfl)
theorem dX0_partCost_5 : decode cX0_partCost 5 = .ok (.iload_n 2, 1) := dk_28 (dk_at dksX0_partCost_0 5 rfl rfl)
theorem dX0_partCost_6 : decode cX0_partCost 6 = .ok (.invokevirtual 308, 3) := dk_182 1 52 (dk_at dksX0_partCost_0 6 rfl rfl)
theorem dX0_partCost_9 : decode cX0_partCost 9 = .ok (.istore 5, 2) := dk_54 5 (dk_at dksX0_partCost_0 9 rfl rfl)
theorem dX0_partCost_11 : decode cX0_partCost 11 = .ok (.iload 5, 2) := dk_21 5 (dk_at dksX0_partCost_0 11 rfl rfl)
theorem dX0_partCost_13 : decode cX0_partCost 13 = .ok (.invokestatic 311, 3) := dk_184 1 55 (dk_at dksX0_partCost_0 13 rfl rfl)
theorem dX0_partCost_16 : decode cX0_partCost 16 = .ok (.ifCond .eq 25, 3) := dk_153 0 25 (dk_at dksX0_partCost_0 16 rfl rfl)
theorem dX0_partCost_19 : decode cX0_partCost 19 = .ok (.aload_n 0, 1) := dk_42 (dk_at dksX0_partCost_0 19 rfl rfl)
theorem dX0_partCost_20 : decode cX0_partCost 20 = .ok (.getfield 173, 3) := dk_180 0 173 (dk_at dksX0_partCost_0 20 rfl rfl)
theorem dX0_partCost_23 : decode cX0_partCost 23 = .ok (.sipush 169, 3) := dk_17 0 169 (dk_at dksX0_partCost_1 0 rfl rfl)
theorem dX0_partCost_26 : decode cX0_partCost 26 = .ok (.iload 5, 2) := dk_21 5 (dk_at dksX0_partCost_1 3 rfl rfl)
theorem dX0_partCost_28 : decode cX0_partCost 28 = .ok (.bipush 26, 2) := dk_16 26 (dk_at dksX0_partCost_1 5 rfl rfl)
theorem dX0_partCost_30 : decode cX0_partCost 30 = .ok (.isub, 1) := dk_100 (dk_at dksX0_partCost_1 7 rfl rfl)
theorem dX0_partCost_31 : decode cX0_partCost 31 = .ok (.imul, 1) := dk_104 (dk_at dksX0_partCost_1 8 rfl rfl)
theorem dX0_partCost_32 : decode cX0_partCost 32 = .ok (.iload_n 3, 1) := dk_29 (dk_at dksX0_partCost_1 9 rfl rfl)
theorem dX0_partCost_33 : decode cX0_partCost 33 = .ok (.iload 4, 2) := dk_21 4 (dk_at dksX0_partCost_1 10 rfl rfl)
theorem dX0_partCost_35 : decode cX0_partCost 35 = .ok (.invokestatic 537, 3) := dk_184 2 25 (dk_at dksX0_partCost_1 12 rfl rfl)
theorem dX0_partCost_38 : decode cX0_partCost 38 = .ok (.iadd, 1) := dk_96 (dk_at dksX0_partCost_1 15 rfl rfl)
theorem dX0_partCost_39 : decode cX0_partCost 39 = .ok (.iaload, 1) := dk_46 (dk_at dksX0_partCost_1 16 rfl rfl)
theorem dX0_partCost_40 : decode cX0_partCost 40 = .ok (.ireturn, 1) := dk_172 (dk_at dksX0_partCost_1 17 rfl rfl)
theorem dX0_partCost_41 : decode cX0_partCost 41 = .ok (.iload_n 3, 1) := dk_29 (dk_at dksX0_partCost_1 18 rfl rfl)
theorem dX0_partCost_42 : decode cX0_partCost 42 = .ok (.istore 6, 2) := dk_54 6 (dk_at dksX0_partCost_1 19 rfl rfl)
theorem dX0_partCost_44 : decode cX0_partCost 44 = .ok (.iload 6, 2) := dk_21 6 (dk_at dksX0_partCost_1 21 rfl rfl)
theorem dX0_partCost_46 : decode cX0_partCost 46 = .ok (.iload 4, 2) := dk_21 4 (dk_at dksX0_partCost_2 0 rfl rfl)
theorem dX0_partCost_48 : decode cX0_partCost 48 = .ok (.if_icmp .ge 28, 3) := dk_162 0 28 (dk_at dksX0_partCost_2 2 rfl rfl)
theorem dX0_partCost_51 : decode cX0_partCost 51 = .ok (.aload_n 0, 1) := dk_42 (dk_at dksX0_partCost_2 5 rfl rfl)
theorem dX0_partCost_52 : decode cX0_partCost 52 = .ok (.getfield 19, 3) := dk_180 0 19 (dk_at dksX0_partCost_2 6 rfl rfl)
theorem dX0_partCost_55 : decode cX0_partCost 55 = .ok (.iload 6, 2) := dk_21 6 (dk_at dksX0_partCost_2 9 rfl rfl)
theorem dX0_partCost_57 : decode cX0_partCost 57 = .ok (.iaload, 1) := dk_46 (dk_at dksX0_partCost_2 11 rfl rfl)
theorem dX0_partCost_58 : decode cX0_partCost 58 = .ok (.iload 5, 2) := dk_21 5 (dk_at dksX0_partCost_2 12 rfl rfl)
theorem dX0_partCost_60 : decode cX0_partCost 60 = .ok (.if_icmp .ne 10, 3) := dk_160 0 10 (dk_at dksX0_partCost_2 14 rfl rfl)
theorem dX0_partCost_63 : decode cX0_partCost 63 = .ok (.iload 4, 2) := dk_21 4 (dk_at dksX0_partCost_2 17 rfl rfl)
theorem dX0_partCost_65 : decode cX0_partCost 65 = .ok (.iload_n 3, 1) := dk_29 (dk_at dksX0_partCost_2 19 rfl rfl)
theorem dX0_partCost_66 : decode cX0_partCost 66 = .ok (.isub, 1) := dk_100 (dk_at dksX0_partCost_2 20 rfl rfl)
theorem dX0_partCost_67 : decode cX0_partCost 67 = .ok (.iconst 1, 1) := dk_4 (dk_at dksX0_partCost_2 21 rfl rfl)
theorem dX0_partCost_68 : decode cX0_partCost 68 = .ok (.isub, 1) := dk_100 (dk_at dksX0_partCost_2 22 rfl rfl)
theorem dX0_partCost_69 : decode cX0_partCost 69 = .ok (.ireturn, 1) := dk_172 (dk_at dksX0_partCost_2 23 rfl rfl)
theorem dX0_partCost_70 : decode cX0_partCost 70 = .ok (.iinc 6 1, 3) := dk_132 6 1 (dk_at dksX0_partCost_3 0 rfl rfl)
theorem dX0_partCost_73 : decode cX0_partCost 73 = .ok (.goto (-29), 3) := dk_167 255 227 (dk_at dksX0_partCost_3 3 rfl rfl)
theorem dX0_partCost_76 : decode cX0_partCost 76 = .ok (.iconst 1, 1) := dk_4 (dk_at dksX0_partCost_3 6 rfl rfl)
theorem dX0_partCost_77 : decode cX0_partCost 77 = .ok (.iload 4, 2) := dk_21 4 (dk_at dksX0_partCost_3 7 rfl rfl)
theorem dX0_partCost_79 : decode cX0_partCost 79 = .ok (.iload_n 3, 1) := dk_29 (dk_at dksX0_partCost_3 9 rfl rfl)
theorem dX0_partCost_80 : decode cX0_partCost 80 = .ok (.isub, 1) := dk_100 (dk_at dksX0_partCost_3 10 rfl rfl)
theorem dX0_partCost_81 : decode cX0_partCost 81 = .ok (.invokestatic 555, 3) := dk_184 2 43 (dk_at dksX0_partCost_3 11 rfl rfl)
theorem dX0_partCost_84 : decode cX0_partCost 84 = .ok (.ireturn, 1) := dk_172 (dk_at dksX0_partCost_3 14 rfl rfl)
abbrev cX0_or : ByteArray := prog_1_method_86_code
def yX0_or : MethodName := ⟨RX0, "or", "(II)I"⟩
def dkwX0_or_0 : List UInt8 := [26, 27, 128, 172]
abbrev dktX0_or_0 : List UInt8 := dkwX0_or_0 ++ []
theorem dksX0_or_0 : cX0_or.data.toList.drop 0 = dktX0_or_0 := by decide +kernel
theorem dX0_or_0 : decode cX0_or 0 = .ok (.iload_n 0, 1) := dk_26 (dk_at dksX0_or_0 0 rfl rfl)
theorem dX0_or_1 : decode cX0_or 1 = .ok (.iload_n 1, 1) := dk_27 (dk_at dksX0_or_0 1 rfl rfl)
theorem dX0_or_2 : decode cX0_or 2 = .ok (.ior, 1) := dk_128 (dk_at dksX0_or_0 2 rfl rfl)
theorem dX0_or_3 : decode cX0_or 3 = .ok (.ireturn, 1) := dk_172 (dk_at dksX0_or_0 3 rfl rfl)
abbrev cX0_and : ByteArray := prog_1_method_87_code
def yX0_and : MethodName := ⟨RX0, "and", "(II)I"⟩
def dkwX0_and_0 : List UInt8 := [26, 27, 126, 172]
abbrev dktX0_and_0 : List UInt8 := dkwX0_and_0 ++ []
theorem dksX0_and_0 : cX0_and.data.toList.drop 0 = dktX0_and_0 := by decide +kernel
theorem dX0_and_0 : decode cX0_and 0 = .ok (.iload_n 0, 1) := dk_26 (dk_at dksX0_and_0 0 rfl rfl)
theorem dX0_and_1 : decode cX0_and 1 = .ok (.iload_n 1, 1) := dk_27 (dk_at dksX0_and_0 1 rfl rfl)
theorem dX0_and_2 : decode cX0_and 2 = .ok (.iand, 1) := dk_126 (dk_at dksX0_and_0 2 rfl rfl)
theorem dX0_and_3 : decode cX0_and 3 = .ok (.ireturn, 1) := dk_172 (dk_at dksX0_and_0 3 rfl rfl)
abbrev cX0_together : ByteArray := prog_1_method_6_code
def yX0_together : MethodName := ⟨RX0, "together", "(II)I"⟩
def dkwX0_together_0 : List UInt8 := [26, 18, 12, 27, 100, 163, 0, 9, 26, 27, 96, 167, 0, 5, 18, 12, 172]
abbrev dktX0_together_0 : List UInt8 := dkwX0_together_0 ++ []
theorem dksX0_together_0 : cX0_together.data.toList.drop 0 = dktX0_together_0 := by decide +kernel
theorem dX0_together_0 : decode cX0_together 0 = .ok (.iload_n 0, 1) := dk_26 (dk_at dksX0_together_0 0 rfl rfl)
theorem dX0_together_1 : decode cX0_together 1 = .ok (.ldc 12, 2) := dk_18 12 (dk_at dksX0_together_0 1 rfl rfl)
theorem dX0_together_3 : decode cX0_together 3 = .ok (.iload_n 1, 1) := dk_27 (dk_at dksX0_together_0 3 rfl rfl)
theorem dX0_together_4 : decode cX0_together 4 = .ok (.isub, 1) := dk_100 (dk_at dksX0_together_0 4 rfl rfl)
theorem dX0_together_5 : decode cX0_together 5 = .ok (.if_icmp .gt 9, 3) := dk_163 0 9 (dk_at dksX0_together_0 5 rfl rfl)
theorem dX0_together_8 : decode cX0_together 8 = .ok (.iload_n 0, 1) := dk_26 (dk_at dksX0_together_0 8 rfl rfl)
theorem dX0_together_9 : decode cX0_together 9 = .ok (.iload_n 1, 1) := dk_27 (dk_at dksX0_together_0 9 rfl rfl)
theorem dX0_together_10 : decode cX0_together 10 = .ok (.iadd, 1) := dk_96 (dk_at dksX0_together_0 10 rfl rfl)
theorem dX0_together_11 : decode cX0_together 11 = .ok (.goto 5, 3) := dk_167 0 5 (dk_at dksX0_together_0 11 rfl rfl)
theorem dX0_together_14 : decode cX0_together 14 = .ok (.ldc 12, 2) := dk_18 12 (dk_at dksX0_together_0 14 rfl rfl)
theorem dX0_together_16 : decode cX0_together 16 = .ok (.ireturn, 1) := dk_172 (dk_at dksX0_together_0 16 rfl rfl)
abbrev cX0_times : ByteArray := prog_1_method_4_code
def yX0_times : MethodName := ⟨RX0, "times", "(II)I"⟩
def dkwX0_times_2 : List UInt8 := [26, 27, 104, 167, 0, 5, 16, 254, 172]
abbrev dktX0_times_2 : List UInt8 := dkwX0_times_2 ++ []
def dkwX0_times_1 : List UInt8 := [172, 26, 16, 254, 159, 0, 9, 27, 16, 254, 160, 0, 6, 16, 254, 172, 26, 18, 5, 27, 108, 163, 0, 9]
abbrev dktX0_times_1 : List UInt8 := dkwX0_times_1 ++ dktX0_times_2
def dkwX0_times_0 : List UInt8 := [26, 153, 0, 7, 27, 154, 0, 5, 3, 172, 26, 16, 253, 159, 0, 9, 27, 16, 253, 160, 0, 6, 16, 253]
abbrev dktX0_times_0 : List UInt8 := dkwX0_times_0 ++ dktX0_times_1
theorem dksX0_times_0 : cX0_times.data.toList.drop 0 = dktX0_times_0 := by decide +kernel
theorem dksX0_times_1 : cX0_times.data.toList.drop 24 = dktX0_times_1 := dk_seg dksX0_times_0 24 rfl rfl
theorem dksX0_times_2 : cX0_times.data.toList.drop 48 = dktX0_times_2 := dk_seg dksX0_times_1 24 rfl rfl
theorem dX0_times_0 : decode cX0_times 0 = .ok (.iload_n 0, 1) := dk_26 (dk_at dksX0_times_0 0 rfl rfl)
theorem dX0_times_1 : decode cX0_times 1 = .ok (.ifCond .eq 7, 3) := dk_153 0 7 (dk_at dksX0_times_0 1 rfl rfl)
theorem dX0_times_4 : decode cX0_times 4 = .ok (.iload_n 1, 1) := dk_27 (dk_at dksX0_times_0 4 rfl rfl)
theorem dX0_times_5 : decode cX0_times 5 = .ok (.ifCond .ne 5, 3) := dk_154 0 5 (dk_at dksX0_times_0 5 rfl rfl)
theorem dX0_times_8 : decode cX0_times 8 = .ok (.iconst 0, 1) := dk_3 (dk_at dksX0_times_0 8 rfl rfl)
theorem dX0_times_9 : decode cX0_times 9 = .ok (.ireturn, 1) := dk_172 (dk_at dksX0_times_0 9 rfl rfl)
theorem dX0_times_10 : decode cX0_times 10 = .ok (.iload_n 0, 1) := dk_26 (dk_at dksX0_times_0 10 rfl rfl)
theorem dX0_times_11 : decode cX0_times 11 = .ok (.bipush (-3), 2) := dk_16 253 (dk_at dksX0_times_0 11 rfl rfl)
theorem dX0_times_13 : decode cX0_times 13 = .ok (.if_icmp .eq 9, 3) := dk_159 0 9 (dk_at dksX0_times_0 13 rfl rfl)
theorem dX0_times_16 : decode cX0_times 16 = .ok (.iload_n 1, 1) := dk_27 (dk_at dksX0_times_0 16 rfl rfl)
theorem dX0_times_17 : decode cX0_times 17 = .ok (.bipush (-3), 2) := dk_16 253 (dk_at dksX0_times_0 17 rfl rfl)
theorem dX0_times_19 : decode cX0_times 19 = .ok (.if_icmp .ne 6, 3) := dk_160 0 6 (dk_at dksX0_times_0 19 rfl rfl)
theorem dX0_times_22 : decode cX0_times 22 = .ok (.bipush (-3), 2) := dk_16 253 (dk_at dksX0_times_0 22 rfl rfl)
theorem dX0_times_24 : decode cX0_times 24 = .ok (.ireturn, 1) := dk_172 (dk_at dksX0_times_1 0 rfl rfl)
theorem dX0_times_25 : decode cX0_times 25 = .ok (.iload_n 0, 1) := dk_26 (dk_at dksX0_times_1 1 rfl rfl)
theorem dX0_times_26 : decode cX0_times 26 = .ok (.bipush (-2), 2) := dk_16 254 (dk_at dksX0_times_1 2 rfl rfl)
theorem dX0_times_28 : decode cX0_times 28 = .ok (.if_icmp .eq 9, 3) := dk_159 0 9 (dk_at dksX0_times_1 4 rfl rfl)
theorem dX0_times_31 : decode cX0_times 31 = .ok (.iload_n 1, 1) := dk_27 (dk_at dksX0_times_1 7 rfl rfl)
theorem dX0_times_32 : decode cX0_times 32 = .ok (.bipush (-2), 2) := dk_16 254 (dk_at dksX0_times_1 8 rfl rfl)
theorem dX0_times_34 : decode cX0_times 34 = .ok (.if_icmp .ne 6, 3) := dk_160 0 6 (dk_at dksX0_times_1 10 rfl rfl)
theorem dX0_times_37 : decode cX0_times 37 = .ok (.bipush (-2), 2) := dk_16 254 (dk_at dksX0_times_1 13 rfl rfl)
theorem dX0_times_39 : decode cX0_times 39 = .ok (.ireturn, 1) := dk_172 (dk_at dksX0_times_1 15 rfl rfl)
theorem dX0_times_40 : decode cX0_times 40 = .ok (.iload_n 0, 1) := dk_26 (dk_at dksX0_times_1 16 rfl rfl)
theorem dX0_times_41 : decode cX0_times 41 = .ok (.ldc 5, 2) := dk_18 5 (dk_at dksX0_times_1 17 rfl rfl)
theorem dX0_times_43 : decode cX0_times 43 = .ok (.iload_n 1, 1) := dk_27 (dk_at dksX0_times_1 19 rfl rfl)
theorem dX0_times_44 : decode cX0_times 44 = .ok (.idiv, 1) := dk_108 (dk_at dksX0_times_1 20 rfl rfl)
theorem dX0_times_45 : decode cX0_times 45 = .ok (.if_icmp .gt 9, 3) := dk_163 0 9 (dk_at dksX0_times_1 21 rfl rfl)
theorem dX0_times_48 : decode cX0_times 48 = .ok (.iload_n 0, 1) := dk_26 (dk_at dksX0_times_2 0 rfl rfl)
theorem dX0_times_49 : decode cX0_times 49 = .ok (.iload_n 1, 1) := dk_27 (dk_at dksX0_times_2 1 rfl rfl)
theorem dX0_times_50 : decode cX0_times 50 = .ok (.imul, 1) := dk_104 (dk_at dksX0_times_2 2 rfl rfl)
theorem dX0_times_51 : decode cX0_times 51 = .ok (.goto 5, 3) := dk_167 0 5 (dk_at dksX0_times_2 3 rfl rfl)
theorem dX0_times_54 : decode cX0_times 54 = .ok (.bipush (-2), 2) := dk_16 254 (dk_at dksX0_times_2 6 rfl rfl)
theorem dX0_times_56 : decode cX0_times 56 = .ok (.ireturn, 1) := dk_172 (dk_at dksX0_times_2 8 rfl rfl)
abbrev cX0_plain : ByteArray := prog_1_method_114_code
def yX0_plain : MethodName := ⟨RX0, "plain", "(II)I"⟩
def dkwX0_plain_0 : List UInt8 := [26, 27, 96, 172]
abbrev dktX0_plain_0 : List UInt8 := dkwX0_plain_0 ++ []
theorem dksX0_plain_0 : cX0_plain.data.toList.drop 0 = dktX0_plain_0 := by decide +kernel
theorem dX0_plain_0 : decode cX0_plain 0 = .ok (.iload_n 0, 1) := dk_26 (dk_at dksX0_plain_0 0 rfl rfl)
theorem dX0_plain_1 : decode cX0_plain 1 = .ok (.iload_n 1, 1) := dk_27 (dk_at dksX0_plain_0 1 rfl rfl)
theorem dX0_plain_2 : decode cX0_plain 2 = .ok (.iadd, 1) := dk_96 (dk_at dksX0_plain_0 2 rfl rfl)
theorem dX0_plain_3 : decode cX0_plain 3 = .ok (.ireturn, 1) := dk_172 (dk_at dksX0_plain_0 3 rfl rfl)
abbrev cX0_timesPlain : ByteArray := prog_1_method_115_code
def yX0_timesPlain : MethodName := ⟨RX0, "timesPlain", "(II)I"⟩
def dkwX0_timesPlain_0 : List UInt8 := [26, 27, 104, 172]
abbrev dktX0_timesPlain_0 : List UInt8 := dkwX0_timesPlain_0 ++ []
theorem dksX0_timesPlain_0 : cX0_timesPlain.data.toList.drop 0 = dktX0_timesPlain_0 := by decide +kernel
theorem dX0_timesPlain_0 : decode cX0_timesPlain 0 = .ok (.iload_n 0, 1) := dk_26 (dk_at dksX0_timesPlain_0 0 rfl rfl)
theorem dX0_timesPlain_1 : decode cX0_timesPlain 1 = .ok (.iload_n 1, 1) := dk_27 (dk_at dksX0_timesPlain_0 1 rfl rfl)
theorem dX0_timesPlain_2 : decode cX0_timesPlain 2 = .ok (.imul, 1) := dk_104 (dk_at dksX0_timesPlain_0 2 rfl rfl)
theorem dX0_timesPlain_3 : decode cX0_timesPlain 3 = .ok (.ireturn, 1) := dk_172 (dk_at dksX0_timesPlain_0 3 rfl rfl)
abbrev cX0_isOutranked : ByteArray := prog_1_method_12_code
def yX0_isOutranked : MethodName := ⟨RX0, "isOutranked", "(III)Z"⟩
def dkwX0_isOutranked_2 : List UInt8 := [167, 0, 4, 3, 172]
abbrev dktX0_isOutranked_2 : List UInt8 := dkwX0_isOutranked_2 ++ []
def dkwX0_isOutranked_1 : List UInt8 := [42, 180, 0, 199, 180, 0, 226, 29, 46, 42, 180, 0, 199, 180, 0, 226, 27, 46, 162, 0, 7, 4]
abbrev dktX0_isOutranked_1 : List UInt8 := dkwX0_isOutranked_1 ++ dktX0_isOutranked_2
def dkwX0_isOutranked_0 : List UInt8 := [42, 180, 0, 199, 180, 0, 226, 27, 46, 158, 0, 40, 42, 180, 0, 199, 180, 0, 226, 29, 46, 158, 0, 28]
abbrev dktX0_isOutranked_0 : List UInt8 := dkwX0_isOutranked_0 ++ dktX0_isOutranked_1
theorem dksX0_isOutranked_0 : cX0_isOutranked.data.toList.drop 0 = dktX0_isOutranked_0 := by decide +kernel
theorem dksX0_isOutranked_1 : cX0_isOutranked.data.toList.drop 24 = dktX0_isOutranked_1 := dk_seg dksX0_isOutranked_0 24 rfl rfl
theorem dksX0_isOutranked_2 : cX0_isOutranked.data.toList.drop 46 = dktX0_isOutranked_2 := dk_seg dksX0_isOutranked_1 22 rfl rfl
theorem dX0_isOutranked_0 : decode cX0_isOutranked 0 = .ok (.aload_n 0, 1) := dk_42 (dk_at dksX0_isOutranked_0 0 rfl rfl)
theorem dX0_isOutranked_1 : decode cX0_isOutranked 1 = .ok (.getfield 199, 3) := dk_180 0 199 (dk_at dksX0_isOutranked_0 1 rfl rfl)
theorem dX0_isOutranked_4 : decode cX0_isOutranked 4 = .ok (.getfield 226, 3) := dk_180 0 226 (dk_at dksX0_isOutranked_0 4 rfl rfl)
theorem dX0_isOutranked_7 : decode cX0_isOutranked 7 = .ok (.iload_n 1, 1) := dk_27 (dk_at dksX0_isOutranked_0 7 rfl rfl)
theorem dX0_isOutranked_8 : decode cX0_isOutranked 8 = .ok (.iaload, 1) := dk_46 (dk_at dksX0_isOutranked_0 8 rfl rfl)
theorem dX0_isOutranked_9 : decode cX0_isOutranked 9 = .ok (.ifCond .le 40, 3) := dk_158 0 40 (dk_at dksX0_isOutranked_0 9 rfl rfl)
theorem dX0_isOutranked_12 : decode cX0_isOutranked 12 = .ok (.aload_n 0, 1) := dk_42 (dk_at dksX0_isOutranked_0 12 rfl rfl)
theorem dX0_isOutranked_13 : decode cX0_isOutranked 13 = .ok (.getfield 199, 3) := dk_180 0 199 (dk_at dksX0_isOutranked_0 13 rfl rfl)
theorem dX0_isOutranked_16 : decode cX0_isOutranked 16 = .ok (.getfield 226, 3) := dk_180 0 226 (dk_at dksX0_isOutranked_0 16 rfl rfl)
theorem dX0_isOutranked_19 : decode cX0_isOutranked 19 = .ok (.iload_n 3, 1) := dk_29 (dk_at dksX0_isOutranked_0 19 rfl rfl)
theorem dX0_isOutranked_20 : decode cX0_isOutranked 20 = .ok (.iaload, 1) := dk_46 (dk_at dksX0_isOutranked_0 20 rfl rfl)
theorem dX0_isOutranked_21 : decode cX0_isOutranked 21 = .ok (.ifCond .le 28, 3) := dk_158 0 28 (dk_at dksX0_isOutranked_0 21 rfl rfl)
theorem dX0_isOutranked_24 : decode cX0_isOutranked 24 = .ok (.aload_n 0, 1) := dk_42 (dk_at dksX0_isOutranked_1 0 rfl rfl)
theorem dX0_isOutranked_25 : decode cX0_isOutranked 25 = .ok (.getfield 199, 3) := dk_180 0 199 (dk_at dksX0_isOutranked_1 1 rfl rfl)
theorem dX0_isOutranked_28 : decode cX0_isOutranked 28 = .ok (.getfield 226, 3) := dk_180 0 226 (dk_at dksX0_isOutranked_1 4 rfl rfl)
theorem dX0_isOutranked_31 : decode cX0_isOutranked 31 = .ok (.iload_n 3, 1) := dk_29 (dk_at dksX0_isOutranked_1 7 rfl rfl)
theorem dX0_isOutranked_32 : decode cX0_isOutranked 32 = .ok (.iaload, 1) := dk_46 (dk_at dksX0_isOutranked_1 8 rfl rfl)
theorem dX0_isOutranked_33 : decode cX0_isOutranked 33 = .ok (.aload_n 0, 1) := dk_42 (dk_at dksX0_isOutranked_1 9 rfl rfl)
theorem dX0_isOutranked_34 : decode cX0_isOutranked 34 = .ok (.getfield 199, 3) := dk_180 0 199 (dk_at dksX0_isOutranked_1 10 rfl rfl)
theorem dX0_isOutranked_37 : decode cX0_isOutranked 37 = .ok (.getfield 226, 3) := dk_180 0 226 (dk_at dksX0_isOutranked_1 13 rfl rfl)
theorem dX0_isOutranked_40 : decode cX0_isOutranked 40 = .ok (.iload_n 1, 1) := dk_27 (dk_at dksX0_isOutranked_1 16 rfl rfl)
theorem dX0_isOutranked_41 : decode cX0_isOutranked 41 = .ok (.iaload, 1) := dk_46 (dk_at dksX0_isOutranked_1 17 rfl rfl)
theorem dX0_isOutranked_42 : decode cX0_isOutranked 42 = .ok (.if_icmp .ge 7, 3) := dk_162 0 7 (dk_at dksX0_isOutranked_1 18 rfl rfl)
theorem dX0_isOutranked_45 : decode cX0_isOutranked 45 = .ok (.iconst 1, 1) := dk_4 (dk_at dksX0_isOutranked_1 21 rfl rfl)
theorem dX0_isOutranked_46 : decode cX0_isOutranked 46 = .ok (.goto 4, 3) := dk_167 0 4 (dk_at dksX0_isOutranked_2 0 rfl rfl)
theorem dX0_isOutranked_49 : decode cX0_isOutranked 49 = .ok (.iconst 0, 1) := dk_3 (dk_at dksX0_isOutranked_2 3 rfl rfl)
theorem dX0_isOutranked_50 : decode cX0_isOutranked 50 = .ok (.ireturn, 1) := dk_172 (dk_at dksX0_isOutranked_2 4 rfl rfl)
abbrev cX0_isOnSide : ByteArray := prog_1_method_13_code
def yX0_isOnSide : MethodName := ⟨RX0, "isOnSide", "(III)Z"⟩
def dkwX0_isOnSide_4 : List UInt8 := [159, 0, 7, 4, 167, 0, 4, 3, 172, 4, 172, 3, 172]
abbrev dktX0_isOnSide_4 : List UInt8 := dkwX0_isOnSide_4 ++ []
def dkwX0_isOnSide_3 : List UInt8 := [28, 153, 0, 7, 4, 167, 0, 4, 3, 172, 28, 42, 180, 0, 199, 180, 0, 232, 27, 46, 4, 100]
abbrev dktX0_isOnSide_3 : List UInt8 := dkwX0_isOnSide_3 ++ dktX0_isOnSide_4
def dkwX0_isOnSide_2 : List UInt8 := [170, 0, 0, 0, 0, 0, 0, 61, 0, 0, 0, 1, 0, 0, 0, 3, 0, 0, 0, 28, 0, 0, 0, 38, 0, 0, 0, 59]
abbrev dktX0_isOnSide_2 : List UInt8 := dkwX0_isOnSide_2 ++ dktX0_isOnSide_3
def dkwX0_isOnSide_1 : List UInt8 := [180, 0, 199, 180, 0, 226, 29, 46, 159, 0, 5, 3, 172, 42, 180, 0, 199, 180, 0, 229, 27, 46]
abbrev dktX0_isOnSide_1 : List UInt8 := dkwX0_isOnSide_1 ++ dktX0_isOnSide_2
def dkwX0_isOnSide_0 : List UInt8 := [42, 180, 0, 199, 180, 0, 226, 27, 46, 153, 0, 24, 42, 180, 0, 199, 180, 0, 226, 27, 46, 42]
abbrev dktX0_isOnSide_0 : List UInt8 := dkwX0_isOnSide_0 ++ dktX0_isOnSide_1
theorem dksX0_isOnSide_0 : cX0_isOnSide.data.toList.drop 0 = dktX0_isOnSide_0 := by decide +kernel
theorem dksX0_isOnSide_1 : cX0_isOnSide.data.toList.drop 22 = dktX0_isOnSide_1 := dk_seg dksX0_isOnSide_0 22 rfl rfl
theorem dksX0_isOnSide_2 : cX0_isOnSide.data.toList.drop 44 = dktX0_isOnSide_2 := dk_seg dksX0_isOnSide_1 22 rfl rfl
theorem dksX0_isOnSide_3 : cX0_isOnSide.data.toList.drop 72 = dktX0_isOnSide_3 := dk_seg dksX0_isOnSide_2 28 rfl rfl
theorem dksX0_isOnSide_4 : cX0_isOnSide.data.toList.drop 94 = dktX0_isOnSide_4 := dk_seg dksX0_isOnSide_3 22 rfl rfl
theorem dX0_isOnSide_0 : decode cX0_isOnSide 0 = .ok (.aload_n 0, 1) := dk_42 (dk_at dksX0_isOnSide_0 0 rfl rfl)
theorem dX0_isOnSide_1 : decode cX0_isOnSide 1 = .ok (.getfield 199, 3) := dk_180 0 199 (dk_at dksX0_isOnSide_0 1 rfl rfl)
theorem dX0_isOnSide_4 : decode cX0_isOnSide 4 = .ok (.getfield 226, 3) := dk_180 0 226 (dk_at dksX0_isOnSide_0 4 rfl rfl)
theorem dX0_isOnSide_7 : decode cX0_isOnSide 7 = .ok (.iload_n 1, 1) := dk_27 (dk_at dksX0_isOnSide_0 7 rfl rfl)
theorem dX0_isOnSide_8 : decode cX0_isOnSide 8 = .ok (.iaload, 1) := dk_46 (dk_at dksX0_isOnSide_0 8 rfl rfl)
theorem dX0_isOnSide_9 : decode cX0_isOnSide 9 = .ok (.ifCond .eq 24, 3) := dk_153 0 24 (dk_at dksX0_isOnSide_0 9 rfl rfl)
theorem dX0_isOnSide_12 : decode cX0_isOnSide 12 = .ok (.aload_n 0, 1) := dk_42 (dk_at dksX0_isOnSide_0 12 rfl rfl)
theorem dX0_isOnSide_13 : decode cX0_isOnSide 13 = .ok (.getfield 199, 3) := dk_180 0 199 (dk_at dksX0_isOnSide_0 13 rfl rfl)
theorem dX0_isOnSide_16 : decode cX0_isOnSide 16 = .ok (.getfield 226, 3) := dk_180 0 226 (dk_at dksX0_isOnSide_0 16 rfl rfl)
theorem dX0_isOnSide_19 : decode cX0_isOnSide 19 = .ok (.iload_n 1, 1) := dk_27 (dk_at dksX0_isOnSide_0 19 rfl rfl)
theorem dX0_isOnSide_20 : decode cX0_isOnSide 20 = .ok (.iaload, 1) := dk_46 (dk_at dksX0_isOnSide_0 20 rfl rfl)
theorem dX0_isOnSide_21 : decode cX0_isOnSide 21 = .ok (.aload_n 0, 1) := dk_42 (dk_at dksX0_isOnSide_0 21 rfl rfl)
theorem dX0_isOnSide_22 : decode cX0_isOnSide 22 = .ok (.getfield 199, 3) := dk_180 0 199 (dk_at dksX0_isOnSide_1 0 rfl rfl)
theorem dX0_isOnSide_25 : decode cX0_isOnSide 25 = .ok (.getfield 226, 3) := dk_180 0 226 (dk_at dksX0_isOnSide_1 3 rfl rfl)
theorem dX0_isOnSide_28 : decode cX0_isOnSide 28 = .ok (.iload_n 3, 1) := dk_29 (dk_at dksX0_isOnSide_1 6 rfl rfl)
theorem dX0_isOnSide_29 : decode cX0_isOnSide 29 = .ok (.iaload, 1) := dk_46 (dk_at dksX0_isOnSide_1 7 rfl rfl)
theorem dX0_isOnSide_30 : decode cX0_isOnSide 30 = .ok (.if_icmp .eq 5, 3) := dk_159 0 5 (dk_at dksX0_isOnSide_1 8 rfl rfl)
theorem dX0_isOnSide_33 : decode cX0_isOnSide 33 = .ok (.iconst 0, 1) := dk_3 (dk_at dksX0_isOnSide_1 11 rfl rfl)
theorem dX0_isOnSide_34 : decode cX0_isOnSide 34 = .ok (.ireturn, 1) := dk_172 (dk_at dksX0_isOnSide_1 12 rfl rfl)
theorem dX0_isOnSide_35 : decode cX0_isOnSide 35 = .ok (.aload_n 0, 1) := dk_42 (dk_at dksX0_isOnSide_1 13 rfl rfl)
theorem dX0_isOnSide_36 : decode cX0_isOnSide 36 = .ok (.getfield 199, 3) := dk_180 0 199 (dk_at dksX0_isOnSide_1 14 rfl rfl)
theorem dX0_isOnSide_39 : decode cX0_isOnSide 39 = .ok (.getfield 229, 3) := dk_180 0 229 (dk_at dksX0_isOnSide_1 17 rfl rfl)
theorem dX0_isOnSide_42 : decode cX0_isOnSide 42 = .ok (.iload_n 1, 1) := dk_27 (dk_at dksX0_isOnSide_1 20 rfl rfl)
theorem dX0_isOnSide_43 : decode cX0_isOnSide 43 = .ok (.iaload, 1) := dk_46 (dk_at dksX0_isOnSide_1 21 rfl rfl)
theorem dX0_isOnSide_44 : decode cX0_isOnSide 44 = .ok (.tableswitch 61 1 3 #[28, 38, 59], 28) := by decide +kernel
theorem dX0_isOnSide_72 : decode cX0_isOnSide 72 = .ok (.iload_n 2, 1) := dk_28 (dk_at dksX0_isOnSide_3 0 rfl rfl)
theorem dX0_isOnSide_73 : decode cX0_isOnSide 73 = .ok (.ifCond .eq 7, 3) := dk_153 0 7 (dk_at dksX0_isOnSide_3 1 rfl rfl)
theorem dX0_isOnSide_76 : decode cX0_isOnSide 76 = .ok (.iconst 1, 1) := dk_4 (dk_at dksX0_isOnSide_3 4 rfl rfl)
theorem dX0_isOnSide_77 : decode cX0_isOnSide 77 = .ok (.goto 4, 3) := dk_167 0 4 (dk_at dksX0_isOnSide_3 5 rfl rfl)
theorem dX0_isOnSide_80 : decode cX0_isOnSide 80 = .ok (.iconst 0, 1) := dk_3 (dk_at dksX0_isOnSide_3 8 rfl rfl)
theorem dX0_isOnSide_81 : decode cX0_isOnSide 81 = .ok (.ireturn, 1) := dk_172 (dk_at dksX0_isOnSide_3 9 rfl rfl)
theorem dX0_isOnSide_82 : decode cX0_isOnSide 82 = .ok (.iload_n 2, 1) := dk_28 (dk_at dksX0_isOnSide_3 10 rfl rfl)
theorem dX0_isOnSide_83 : decode cX0_isOnSide 83 = .ok (.aload_n 0, 1) := dk_42 (dk_at dksX0_isOnSide_3 11 rfl rfl)
theorem dX0_isOnSide_84 : decode cX0_isOnSide 84 = .ok (.getfield 199, 3) := dk_180 0 199 (dk_at dksX0_isOnSide_3 12 rfl rfl)
theorem dX0_isOnSide_87 : decode cX0_isOnSide 87 = .ok (.getfield 232, 3) := dk_180 0 232 (dk_at dksX0_isOnSide_3 15 rfl rfl)
theorem dX0_isOnSide_90 : decode cX0_isOnSide 90 = .ok (.iload_n 1, 1) := dk_27 (dk_at dksX0_isOnSide_3 18 rfl rfl)
theorem dX0_isOnSide_91 : decode cX0_isOnSide 91 = .ok (.iaload, 1) := dk_46 (dk_at dksX0_isOnSide_3 19 rfl rfl)
theorem dX0_isOnSide_92 : decode cX0_isOnSide 92 = .ok (.iconst 1, 1) := dk_4 (dk_at dksX0_isOnSide_3 20 rfl rfl)
theorem dX0_isOnSide_93 : decode cX0_isOnSide 93 = .ok (.isub, 1) := dk_100 (dk_at dksX0_isOnSide_3 21 rfl rfl)
theorem dX0_isOnSide_94 : decode cX0_isOnSide 94 = .ok (.if_icmp .eq 7, 3) := dk_159 0 7 (dk_at dksX0_isOnSide_4 0 rfl rfl)
theorem dX0_isOnSide_97 : decode cX0_isOnSide 97 = .ok (.iconst 1, 1) := dk_4 (dk_at dksX0_isOnSide_4 3 rfl rfl)
theorem dX0_isOnSide_98 : decode cX0_isOnSide 98 = .ok (.goto 4, 3) := dk_167 0 4 (dk_at dksX0_isOnSide_4 4 rfl rfl)
theorem dX0_isOnSide_101 : decode cX0_isOnSide 101 = .ok (.iconst 0, 1) := dk_3 (dk_at dksX0_isOnSide_4 7 rfl rfl)
theorem dX0_isOnSide_102 : decode cX0_isOnSide 102 = .ok (.ireturn, 1) := dk_172 (dk_at dksX0_isOnSide_4 8 rfl rfl)
theorem dX0_isOnSide_103 : decode cX0_isOnSide 103 = .ok (.iconst 1, 1) := dk_4 (dk_at dksX0_isOnSide_4 9 rfl rfl)
theorem dX0_isOnSide_104 : decode cX0_isOnSide 104 = .ok (.ireturn, 1) := dk_172 (dk_at dksX0_isOnSide_4 10 rfl rfl)
theorem dX0_isOnSide_105 : decode cX0_isOnSide 105 = .ok (.iconst 0, 1) := dk_3 (dk_at dksX0_isOnSide_4 11 rfl rfl)
theorem dX0_isOnSide_106 : decode cX0_isOnSide 106 = .ok (.ireturn, 1) := dk_172 (dk_at dksX0_isOnSide_4 12 rfl rfl)
abbrev cX0_isBanned : ByteArray := prog_1_method_15_code
def yX0_isBanned : MethodName := ⟨RX0, "isBanned", "(III)Z"⟩
def dkwX0_isBanned_0 : List UInt8 := [42, 27, 28, 29, 182, 0, 238, 2, 159, 0, 7, 4, 167, 0, 4, 3, 172]
abbrev dktX0_isBanned_0 : List UInt8 := dkwX0_isBanned_0 ++ []
theorem dksX0_isBanned_0 : cX0_isBanned.data.toList.drop 0 = dktX0_isBanned_0 := by decide +kernel
theorem dX0_isBanned_0 : decode cX0_isBanned 0 = .ok (.aload_n 0, 1) := dk_42 (dk_at dksX0_isBanned_0 0 rfl rfl)
theorem dX0_isBanned_1 : decode cX0_isBanned 1 = .ok (.iload_n 1, 1) := dk_27 (dk_at dksX0_isBanned_0 1 rfl rfl)
theorem dX0_isBanned_2 : decode cX0_isBanned 2 = .ok (.iload_n 2, 1) := dk_28 (dk_at dksX0_isBanned_0 2 rfl rfl)
theorem dX0_isBanned_3 : decode cX0_isBanned 3 = .ok (.iload_n 3, 1) := dk_29 (dk_at dksX0_isBanned_0 3 rfl rfl)
theorem dX0_isBanned_4 : decode cX0_isBanned 4 = .ok (.invokevirtual 238, 3) := dk_182 0 238 (dk_at dksX0_isBanned_0 4 rfl rfl)
theorem dX0_isBanned_7 : decode cX0_isBanned 7 = .ok (.iconst (-1), 1) := dk_2 (dk_at dksX0_isBanned_0 7 rfl rfl)
theorem dX0_isBanned_8 : decode cX0_isBanned 8 = .ok (.if_icmp .eq 7, 3) := dk_159 0 7 (dk_at dksX0_isBanned_0 8 rfl rfl)
theorem dX0_isBanned_11 : decode cX0_isBanned 11 = .ok (.iconst 1, 1) := dk_4 (dk_at dksX0_isBanned_0 11 rfl rfl)
theorem dX0_isBanned_12 : decode cX0_isBanned 12 = .ok (.goto 4, 3) := dk_167 0 4 (dk_at dksX0_isBanned_0 12 rfl rfl)
theorem dX0_isBanned_15 : decode cX0_isBanned 15 = .ok (.iconst 0, 1) := dk_3 (dk_at dksX0_isBanned_0 15 rfl rfl)
theorem dX0_isBanned_16 : decode cX0_isBanned 16 = .ok (.ireturn, 1) := dk_172 (dk_at dksX0_isBanned_0 16 rfl rfl)
abbrev cX0_banOf : ByteArray := prog_1_method_14_code
def yX0_banOf : MethodName := ⟨RX0, "banOf", "(III)I"⟩
def dkwX0_banOf_2 : List UInt8 := [21, 4, 104, 5, 96, 46, 29, 160, 0, 6, 21, 4, 172, 132, 4, 1, 167, 255, 198, 2, 172]
abbrev dktX0_banOf_2 : List UInt8 := dkwX0_banOf_2 ++ []
def dkwX0_banOf_1 : List UInt8 := [160, 0, 36, 42, 180, 0, 27, 6, 21, 4, 104, 4, 96, 46, 28, 160, 0, 21, 42, 180, 0, 27, 6]
abbrev dktX0_banOf_1 : List UInt8 := dkwX0_banOf_1 ++ dktX0_banOf_2
def dkwX0_banOf_0 : List UInt8 := [3, 54, 4, 21, 4, 42, 180, 0, 235, 162, 0, 55, 42, 180, 0, 27, 6, 21, 4, 104, 46, 27]
abbrev dktX0_banOf_0 : List UInt8 := dkwX0_banOf_0 ++ dktX0_banOf_1
theorem dksX0_banOf_0 : cX0_banOf.data.toList.drop 0 = dktX0_banOf_0 := by decide +kernel
theorem dksX0_banOf_1 : cX0_banOf.data.toList.drop 22 = dktX0_banOf_1 := dk_seg dksX0_banOf_0 22 rfl rfl
theorem dksX0_banOf_2 : cX0_banOf.data.toList.drop 45 = dktX0_banOf_2 := dk_seg dksX0_banOf_1 23 rfl rfl
theorem dX0_banOf_0 : decode cX0_banOf 0 = .ok (.iconst 0, 1) := dk_3 (dk_at dksX0_banOf_0 0 rfl rfl)
theorem dX0_banOf_1 : decode cX0_banOf 1 = .ok (.istore 4, 2) := dk_54 4 (dk_at dksX0_banOf_0 1 rfl rfl)
theorem dX0_banOf_3 : decode cX0_banOf 3 = .ok (.iload 4, 2) := dk_21 4 (dk_at dksX0_banOf_0 3 rfl rfl)
theorem dX0_banOf_5 : decode cX0_banOf 5 = .ok (.aload_n 0, 1) := dk_42 (dk_at dksX0_banOf_0 5 rfl rfl)
theorem dX0_banOf_6 : decode cX0_banOf 6 = .ok (.getfield 235, 3) := dk_180 0 235 (dk_at dksX0_banOf_0 6 rfl rfl)
theorem dX0_banOf_9 : decode cX0_banOf 9 = .ok (.if_icmp .ge 55, 3) := dk_162 0 55 (dk_at dksX0_banOf_0 9 rfl rfl)
theorem dX0_banOf_12 : decode cX0_banOf 12 = .ok (.aload_n 0, 1) := dk_42 (dk_at dksX0_banOf_0 12 rfl rfl)
theorem dX0_banOf_13 : decode cX0_banOf 13 = .ok (.getfield 27, 3) := dk_180 0 27 (dk_at dksX0_banOf_0 13 rfl rfl)
theorem dX0_banOf_16 : decode cX0_banOf 16 = .ok (.iconst 3, 1) := dk_6 (dk_at dksX0_banOf_0 16 rfl rfl)
theorem dX0_banOf_17 : decode cX0_banOf 17 = .ok (.iload 4, 2) := dk_21 4 (dk_at dksX0_banOf_0 17 rfl rfl)
theorem dX0_banOf_19 : decode cX0_banOf 19 = .ok (.imul, 1) := dk_104 (dk_at dksX0_banOf_0 19 rfl rfl)
theorem dX0_banOf_20 : decode cX0_banOf 20 = .ok (.iaload, 1) := dk_46 (dk_at dksX0_banOf_0 20 rfl rfl)
theorem dX0_banOf_21 : decode cX0_banOf 21 = .ok (.iload_n 1, 1) := dk_27 (dk_at dksX0_banOf_0 21 rfl rfl)
theorem dX0_banOf_22 : decode cX0_banOf 22 = .ok (.if_icmp .ne 36, 3) := dk_160 0 36 (dk_at dksX0_banOf_1 0 rfl rfl)
theorem dX0_banOf_25 : decode cX0_banOf 25 = .ok (.aload_n 0, 1) := dk_42 (dk_at dksX0_banOf_1 3 rfl rfl)
theorem dX0_banOf_26 : decode cX0_banOf 26 = .ok (.getfield 27, 3) := dk_180 0 27 (dk_at dksX0_banOf_1 4 rfl rfl)
theorem dX0_banOf_29 : decode cX0_banOf 29 = .ok (.iconst 3, 1) := dk_6 (dk_at dksX0_banOf_1 7 rfl rfl)
theorem dX0_banOf_30 : decode cX0_banOf 30 = .ok (.iload 4, 2) := dk_21 4 (dk_at dksX0_banOf_1 8 rfl rfl)
theorem dX0_banOf_32 : decode cX0_banOf 32 = .ok (.imul, 1) := dk_104 (dk_at dksX0_banOf_1 10 rfl rfl)
theorem dX0_banOf_33 : decode cX0_banOf 33 = .ok (.iconst 1, 1) := dk_4 (dk_at dksX0_banOf_1 11 rfl rfl)
theorem dX0_banOf_34 : decode cX0_banOf 34 = .ok (.iadd, 1) := dk_96 (dk_at dksX0_banOf_1 12 rfl rfl)
theorem dX0_banOf_35 : decode cX0_banOf 35 = .ok (.iaload, 1) := dk_46 (dk_at dksX0_banOf_1 13 rfl rfl)
theorem dX0_banOf_36 : decode cX0_banOf 36 = .ok (.iload_n 2, 1) := dk_28 (dk_at dksX0_banOf_1 14 rfl rfl)
theorem dX0_banOf_37 : decode cX0_banOf 37 = .ok (.if_icmp .ne 21, 3) := dk_160 0 21 (dk_at dksX0_banOf_1 15 rfl rfl)
theorem dX0_banOf_40 : decode cX0_banOf 40 = .ok (.aload_n 0, 1) := dk_42 (dk_at dksX0_banOf_1 18 rfl rfl)
theorem dX0_banOf_41 : decode cX0_banOf 41 = .ok (.getfield 27, 3) := dk_180 0 27 (dk_at dksX0_banOf_1 19 rfl rfl)
theorem dX0_banOf_44 : decode cX0_banOf 44 = .ok (.iconst 3, 1) := dk_6 (dk_at dksX0_banOf_1 22 rfl rfl)
theorem dX0_banOf_45 : decode cX0_banOf 45 = .ok (.iload 4, 2) := dk_21 4 (dk_at dksX0_banOf_2 0 rfl rfl)
theorem dX0_banOf_47 : decode cX0_banOf 47 = .ok (.imul, 1) := dk_104 (dk_at dksX0_banOf_2 2 rfl rfl)
theorem dX0_banOf_48 : decode cX0_banOf 48 = .ok (.iconst 2, 1) := dk_5 (dk_at dksX0_banOf_2 3 rfl rfl)
theorem dX0_banOf_49 : decode cX0_banOf 49 = .ok (.iadd, 1) := dk_96 (dk_at dksX0_banOf_2 4 rfl rfl)
theorem dX0_banOf_50 : decode cX0_banOf 50 = .ok (.iaload, 1) := dk_46 (dk_at dksX0_banOf_2 5 rfl rfl)
theorem dX0_banOf_51 : decode cX0_banOf 51 = .ok (.iload_n 3, 1) := dk_29 (dk_at dksX0_banOf_2 6 rfl rfl)
theorem dX0_banOf_52 : decode cX0_banOf 52 = .ok (.if_icmp .ne 6, 3) := dk_160 0 6 (dk_at dksX0_banOf_2 7 rfl rfl)
theorem dX0_banOf_55 : decode cX0_banOf 55 = .ok (.iload 4, 2) := dk_21 4 (dk_at dksX0_banOf_2 10 rfl rfl)
theorem dX0_banOf_57 : decode cX0_banOf 57 = .ok (.ireturn, 1) := dk_172 (dk_at dksX0_banOf_2 12 rfl rfl)
theorem dX0_banOf_58 : decode cX0_banOf 58 = .ok (.iinc 4 1, 3) := dk_132 4 1 (dk_at dksX0_banOf_2 13 rfl rfl)
theorem dX0_banOf_61 : decode cX0_banOf 61 = .ok (.goto (-58), 3) := dk_167 255 198 (dk_at dksX0_banOf_2 16 rfl rfl)
theorem dX0_banOf_64 : decode cX0_banOf 64 = .ok (.iconst (-1), 1) := dk_2 (dk_at dksX0_banOf_2 19 rfl rfl)
theorem dX0_banOf_65 : decode cX0_banOf 65 = .ok (.ireturn, 1) := dk_172 (dk_at dksX0_banOf_2 20 rfl rfl)
abbrev cX0_feed : ByteArray := prog_1_method_17_code
def yX0_feed : MethodName := ⟨RX0, "feed", "(IIIII)I"⟩
def dkwX0_feed_2 : List UInt8 := [172]
abbrev dktX0_feed_2 : List UInt8 := dkwX0_feed_2 ++ []
def dkwX0_feed_1 : List UInt8 := [182, 0, 254, 42, 29, 182, 0, 254, 42, 21, 4, 182, 0, 254, 42, 21, 5, 182, 0, 254, 42, 180, 0, 251]
abbrev dktX0_feed_1 : List UInt8 := dkwX0_feed_1 ++ dktX0_feed_2
def dkwX0_feed_0 : List UInt8 := [42, 180, 0, 251, 16, 20, 96, 17, 1, 144, 164, 0, 5, 2, 172, 42, 27, 182, 0, 254, 42, 28]
abbrev dktX0_feed_0 : List UInt8 := dkwX0_feed_0 ++ dktX0_feed_1
theorem dksX0_feed_0 : cX0_feed.data.toList.drop 0 = dktX0_feed_0 := by decide +kernel
theorem dksX0_feed_1 : cX0_feed.data.toList.drop 22 = dktX0_feed_1 := dk_seg dksX0_feed_0 22 rfl rfl
theorem dksX0_feed_2 : cX0_feed.data.toList.drop 46 = dktX0_feed_2 := dk_seg dksX0_feed_1 24 rfl rfl
theorem dX0_feed_0 : decode cX0_feed 0 = .ok (.aload_n 0, 1) := dk_42 (dk_at dksX0_feed_0 0 rfl rfl)
theorem dX0_feed_1 : decode cX0_feed 1 = .ok (.getfield 251, 3) := dk_180 0 251 (dk_at dksX0_feed_0 1 rfl rfl)
theorem dX0_feed_4 : decode cX0_feed 4 = .ok (.bipush 20, 2) := dk_16 20 (dk_at dksX0_feed_0 4 rfl rfl)
theorem dX0_feed_6 : decode cX0_feed 6 = .ok (.iadd, 1) := dk_96 (dk_at dksX0_feed_0 6 rfl rfl)
theorem dX0_feed_7 : decode cX0_feed 7 = .ok (.sipush 400, 3) := dk_17 1 144 (dk_at dksX0_feed_0 7 rfl rfl)
theorem dX0_feed_10 : decode cX0_feed 10 = .ok (.if_icmp .le 5, 3) := dk_164 0 5 (dk_at dksX0_feed_0 10 rfl rfl)
theorem dX0_feed_13 : decode cX0_feed 13 = .ok (.iconst (-1), 1) := dk_2 (dk_at dksX0_feed_0 13 rfl rfl)
theorem dX0_feed_14 : decode cX0_feed 14 = .ok (.ireturn, 1) := dk_172 (dk_at dksX0_feed_0 14 rfl rfl)
theorem dX0_feed_15 : decode cX0_feed 15 = .ok (.aload_n 0, 1) := dk_42 (dk_at dksX0_feed_0 15 rfl rfl)
theorem dX0_feed_16 : decode cX0_feed 16 = .ok (.iload_n 1, 1) := dk_27 (dk_at dksX0_feed_0 16 rfl rfl)
theorem dX0_feed_17 : decode cX0_feed 17 = .ok (.invokevirtual 254, 3) := dk_182 0 254 (dk_at dksX0_feed_0 17 rfl rfl)
theorem dX0_feed_20 : decode cX0_feed 20 = .ok (.aload_n 0, 1) := dk_42 (dk_at dksX0_feed_0 20 rfl rfl)
theorem dX0_feed_21 : decode cX0_feed 21 = .ok (.iload_n 2, 1) := dk_28 (dk_at dksX0_feed_0 21 rfl rfl)
theorem dX0_feed_22 : decode cX0_feed 22 = .ok (.invokevirtual 254, 3) := dk_182 0 254 (dk_at dksX0_feed_1 0 rfl rfl)
theorem dX0_feed_25 : decode cX0_feed 25 = .ok (.aload_n 0, 1) := dk_42 (dk_at dksX0_feed_1 3 rfl rfl)
theorem dX0_feed_26 : decode cX0_feed 26 = .ok (.iload_n 3, 1) := dk_29 (dk_at dksX0_feed_1 4 rfl rfl)
theorem dX0_feed_27 : decode cX0_feed 27 = .ok (.invokevirtual 254, 3) := dk_182 0 254 (dk_at dksX0_feed_1 5 rfl rfl)
theorem dX0_feed_30 : decode cX0_feed 30 = .ok (.aload_n 0, 1) := dk_42 (dk_at dksX0_feed_1 8 rfl rfl)
theorem dX0_feed_31 : decode cX0_feed 31 = .ok (.iload 4, 2) := dk_21 4 (dk_at dksX0_feed_1 9 rfl rfl)
theorem dX0_feed_33 : decode cX0_feed 33 = .ok (.invokevirtual 254, 3) := dk_182 0 254 (dk_at dksX0_feed_1 11 rfl rfl)
theorem dX0_feed_36 : decode cX0_feed 36 = .ok (.aload_n 0, 1) := dk_42 (dk_at dksX0_feed_1 14 rfl rfl)
theorem dX0_feed_37 : decode cX0_feed 37 = .ok (.iload 5, 2) := dk_21 5 (dk_at dksX0_feed_1 15 rfl rfl)
theorem dX0_feed_39 : decode cX0_feed 39 = .ok (.invokevirtual 254, 3) := dk_182 0 254 (dk_at dksX0_feed_1 17 rfl rfl)
theorem dX0_feed_42 : decode cX0_feed 42 = .ok (.aload_n 0, 1) := dk_42 (dk_at dksX0_feed_1 20 rfl rfl)
theorem dX0_feed_43 : decode cX0_feed 43 = .ok (.getfield 251, 3) := dk_180 0 251 (dk_at dksX0_feed_1 21 rfl rfl)
theorem dX0_feed_46 : decode cX0_feed 46 = .ok (.ireturn, 1) := dk_172 (dk_at dksX0_feed_2 0 rfl rfl)
abbrev cX0_four : ByteArray := prog_1_method_18_code
def yX0_four : MethodName := ⟨RX0, "four", "(I)V"⟩
def dkwX0_four_1 : List UInt8 := [180, 0, 251, 4, 96, 181, 0, 251, 132, 2, 248, 167, 255, 226, 177]
abbrev dktX0_four_1 : List UInt8 := dkwX0_four_1 ++ []
def dkwX0_four_0 : List UInt8 := [16, 24, 61, 28, 155, 0, 32, 42, 180, 0, 49, 42, 180, 0, 251, 27, 28, 122, 145, 84, 42, 89]
abbrev dktX0_four_0 : List UInt8 := dkwX0_four_0 ++ dktX0_four_1
theorem dksX0_four_0 : cX0_four.data.toList.drop 0 = dktX0_four_0 := by decide +kernel
theorem dksX0_four_1 : cX0_four.data.toList.drop 22 = dktX0_four_1 := dk_seg dksX0_four_0 22 rfl rfl
theorem dX0_four_0 : decode cX0_four 0 = .ok (.bipush 24, 2) := dk_16 24 (dk_at dksX0_four_0 0 rfl rfl)
theorem dX0_four_2 : decode cX0_four 2 = .ok (.istore_n 2, 1) := dk_61 (dk_at dksX0_four_0 2 rfl rfl)
theorem dX0_four_3 : decode cX0_four 3 = .ok (.iload_n 2, 1) := dk_28 (dk_at dksX0_four_0 3 rfl rfl)
theorem dX0_four_4 : decode cX0_four 4 = .ok (.ifCond .lt 32, 3) := dk_155 0 32 (dk_at dksX0_four_0 4 rfl rfl)
theorem dX0_four_7 : decode cX0_four 7 = .ok (.aload_n 0, 1) := dk_42 (dk_at dksX0_four_0 7 rfl rfl)
theorem dX0_four_8 : decode cX0_four 8 = .ok (.getfield 49, 3) := dk_180 0 49 (dk_at dksX0_four_0 8 rfl rfl)
theorem dX0_four_11 : decode cX0_four 11 = .ok (.aload_n 0, 1) := dk_42 (dk_at dksX0_four_0 11 rfl rfl)
theorem dX0_four_12 : decode cX0_four 12 = .ok (.getfield 251, 3) := dk_180 0 251 (dk_at dksX0_four_0 12 rfl rfl)
theorem dX0_four_15 : decode cX0_four 15 = .ok (.iload_n 1, 1) := dk_27 (dk_at dksX0_four_0 15 rfl rfl)
theorem dX0_four_16 : decode cX0_four 16 = .ok (.iload_n 2, 1) := dk_28 (dk_at dksX0_four_0 16 rfl rfl)
theorem dX0_four_17 : decode cX0_four 17 = .ok (.ishr, 1) := dk_122 (dk_at dksX0_four_0 17 rfl rfl)
theorem dX0_four_18 : decode cX0_four 18 = .ok (.i2b, 1) := dk_145 (dk_at dksX0_four_0 18 rfl rfl)
theorem dX0_four_19 : decode cX0_four 19 = .ok (.bastore, 1) := dk_84 (dk_at dksX0_four_0 19 rfl rfl)
theorem dX0_four_20 : decode cX0_four 20 = .ok (.aload_n 0, 1) := dk_42 (dk_at dksX0_four_0 20 rfl rfl)
theorem dX0_four_21 : decode cX0_four 21 = .ok (.dup, 1) := dk_89 (dk_at dksX0_four_0 21 rfl rfl)
theorem dX0_four_22 : decode cX0_four 22 = .ok (.getfield 251, 3) := dk_180 0 251 (dk_at dksX0_four_1 0 rfl rfl)
theorem dX0_four_25 : decode cX0_four 25 = .ok (.iconst 1, 1) := dk_4 (dk_at dksX0_four_1 3 rfl rfl)
theorem dX0_four_26 : decode cX0_four 26 = .ok (.iadd, 1) := dk_96 (dk_at dksX0_four_1 4 rfl rfl)
theorem dX0_four_27 : decode cX0_four 27 = .ok (.putfield 251, 3) := dk_181 0 251 (dk_at dksX0_four_1 5 rfl rfl)
theorem dX0_four_30 : decode cX0_four 30 = .ok (.iinc 2 (-8), 3) := dk_132 2 248 (dk_at dksX0_four_1 8 rfl rfl)
theorem dX0_four_33 : decode cX0_four 33 = .ok (.goto (-30), 3) := dk_167 255 226 (dk_at dksX0_four_1 11 rfl rfl)
theorem dX0_four_36 : decode cX0_four 36 = .ok (.return_, 1) := dk_177 (dk_at dksX0_four_1 14 rfl rfl)
abbrev cX0_end : ByteArray := prog_1_method_19_code
def yX0_end : MethodName := ⟨RX0, "end", "(I)I"⟩
def dkwX0_end_0 : List UInt8 := [27, 155, 0, 11, 27, 42, 180, 0, 251, 164, 0, 5, 2, 172, 42, 27, 181, 0, 251, 27, 172]
abbrev dktX0_end_0 : List UInt8 := dkwX0_end_0 ++ []
theorem dksX0_end_0 : cX0_end.data.toList.drop 0 = dktX0_end_0 := by decide +kernel
theorem dX0_end_0 : decode cX0_end 0 = .ok (.iload_n 1, 1) := dk_27 (dk_at dksX0_end_0 0 rfl rfl)
theorem dX0_end_1 : decode cX0_end 1 = .ok (.ifCond .lt 11, 3) := dk_155 0 11 (dk_at dksX0_end_0 1 rfl rfl)
theorem dX0_end_4 : decode cX0_end 4 = .ok (.iload_n 1, 1) := dk_27 (dk_at dksX0_end_0 4 rfl rfl)
theorem dX0_end_5 : decode cX0_end 5 = .ok (.aload_n 0, 1) := dk_42 (dk_at dksX0_end_0 5 rfl rfl)
theorem dX0_end_6 : decode cX0_end 6 = .ok (.getfield 251, 3) := dk_180 0 251 (dk_at dksX0_end_0 6 rfl rfl)
theorem dX0_end_9 : decode cX0_end 9 = .ok (.if_icmp .le 5, 3) := dk_164 0 5 (dk_at dksX0_end_0 9 rfl rfl)
theorem dX0_end_12 : decode cX0_end 12 = .ok (.iconst (-1), 1) := dk_2 (dk_at dksX0_end_0 12 rfl rfl)
theorem dX0_end_13 : decode cX0_end 13 = .ok (.ireturn, 1) := dk_172 (dk_at dksX0_end_0 13 rfl rfl)
theorem dX0_end_14 : decode cX0_end 14 = .ok (.aload_n 0, 1) := dk_42 (dk_at dksX0_end_0 14 rfl rfl)
theorem dX0_end_15 : decode cX0_end 15 = .ok (.iload_n 1, 1) := dk_27 (dk_at dksX0_end_0 15 rfl rfl)
theorem dX0_end_16 : decode cX0_end 16 = .ok (.putfield 251, 3) := dk_181 0 251 (dk_at dksX0_end_0 16 rfl rfl)
theorem dX0_end_19 : decode cX0_end 19 = .ok (.iload_n 1, 1) := dk_27 (dk_at dksX0_end_0 19 rfl rfl)
theorem dX0_end_20 : decode cX0_end 20 = .ok (.ireturn, 1) := dk_172 (dk_at dksX0_end_0 20 rfl rfl)
abbrev cX0_grammar : ByteArray := prog_1_method_22_code
def yX0_grammar : MethodName := ⟨RX0, "grammar", "()I"⟩
def dkwX0_grammar_1 : List UInt8 := [96, 100, 60, 42, 3, 181, 0, 251, 27, 172]
abbrev dktX0_grammar_1 : List UInt8 := dkwX0_grammar_1 ++ []
def dkwX0_grammar_0 : List UInt8 := [42, 182, 1, 35, 60, 167, 0, 22, 77, 16, 254, 4, 16, 8, 44, 180, 1, 39, 104, 96, 44, 180, 1, 42]
abbrev dktX0_grammar_0 : List UInt8 := dkwX0_grammar_0 ++ dktX0_grammar_1
theorem dksX0_grammar_0 : cX0_grammar.data.toList.drop 0 = dktX0_grammar_0 := by decide +kernel
theorem dksX0_grammar_1 : cX0_grammar.data.toList.drop 24 = dktX0_grammar_1 := dk_seg dksX0_grammar_0 24 rfl rfl
theorem dX0_grammar_0 : decode cX0_grammar 0 = .ok (.aload_n 0, 1) := dk_42 (dk_at dksX0_grammar_0 0 rfl rfl)
theorem dX0_grammar_1 : decode cX0_grammar 1 = .ok (.invokevirtual 291, 3) := dk_182 1 35 (dk_at dksX0_grammar_0 1 rfl rfl)
theorem dX0_grammar_4 : decode cX0_grammar 4 = .ok (.istore_n 1, 1) := dk_60 (dk_at dksX0_grammar_0 4 rfl rfl)
theorem dX0_grammar_5 : decode cX0_grammar 5 = .ok (.goto 22, 3) := dk_167 0 22 (dk_at dksX0_grammar_0 5 rfl rfl)
theorem dX0_grammar_8 : decode cX0_grammar 8 = .ok (.astore_n 2, 1) := dk_77 (dk_at dksX0_grammar_0 8 rfl rfl)
theorem dX0_grammar_9 : decode cX0_grammar 9 = .ok (.bipush (-2), 2) := dk_16 254 (dk_at dksX0_grammar_0 9 rfl rfl)
theorem dX0_grammar_11 : decode cX0_grammar 11 = .ok (.iconst 1, 1) := dk_4 (dk_at dksX0_grammar_0 11 rfl rfl)
theorem dX0_grammar_12 : decode cX0_grammar 12 = .ok (.bipush 8, 2) := dk_16 8 (dk_at dksX0_grammar_0 12 rfl rfl)
theorem dX0_grammar_14 : decode cX0_grammar 14 = .ok (.aload_n 2, 1) := dk_44 (dk_at dksX0_grammar_0 14 rfl rfl)
theorem dX0_grammar_15 : decode cX0_grammar 15 = .ok (.getfield 295, 3) := dk_180 1 39 (dk_at dksX0_grammar_0 15 rfl rfl)
theorem dX0_grammar_18 : decode cX0_grammar 18 = .ok (.imul, 1) := dk_104 (dk_at dksX0_grammar_0 18 rfl rfl)
theorem dX0_grammar_19 : decode cX0_grammar 19 = .ok (.iadd, 1) := dk_96 (dk_at dksX0_grammar_0 19 rfl rfl)
theorem dX0_grammar_20 : decode cX0_grammar 20 = .ok (.aload_n 2, 1) := dk_44 (dk_at dksX0_grammar_0 20 rfl rfl)
theorem dX0_grammar_21 : decode cX0_grammar 21 = .ok (.getfield 298, 3) := dk_180 1 42 (dk_at dksX0_grammar_0 21 rfl rfl)
theorem dX0_grammar_24 : decode cX0_grammar 24 = .ok (.iadd, 1) := dk_96 (dk_at dksX0_grammar_1 0 rfl rfl)
theorem dX0_grammar_25 : decode cX0_grammar 25 = .ok (.isub, 1) := dk_100 (dk_at dksX0_grammar_1 1 rfl rfl)
theorem dX0_grammar_26 : decode cX0_grammar 26 = .ok (.istore_n 1, 1) := dk_60 (dk_at dksX0_grammar_1 2 rfl rfl)
theorem dX0_grammar_27 : decode cX0_grammar 27 = .ok (.aload_n 0, 1) := dk_42 (dk_at dksX0_grammar_1 3 rfl rfl)
theorem dX0_grammar_28 : decode cX0_grammar 28 = .ok (.iconst 0, 1) := dk_3 (dk_at dksX0_grammar_1 4 rfl rfl)
theorem dX0_grammar_29 : decode cX0_grammar 29 = .ok (.putfield 251, 3) := dk_181 0 251 (dk_at dksX0_grammar_1 5 rfl rfl)
theorem dX0_grammar_32 : decode cX0_grammar 32 = .ok (.iload_n 1, 1) := dk_27 (dk_at dksX0_grammar_1 8 rfl rfl)
theorem dX0_grammar_33 : decode cX0_grammar 33 = .ok (.ireturn, 1) := dk_172 (dk_at dksX0_grammar_1 9 rfl rfl)
abbrev cX0_toldHere : ByteArray := prog_1_method_21_code
def yX0_toldHere : MethodName := ⟨RX0, "toldHere", "()I"⟩
def dkwX0_toldHere_3 : List UInt8 := [181, 1, 32, 45, 180, 0, 203, 172]
abbrev dktX0_toldHere_3 : List UInt8 := dkwX0_toldHere_3 ++ []
def dkwX0_toldHere_2 : List UInt8 := [96, 8, 96, 100, 172, 42, 3, 181, 1, 29, 42, 3, 181, 0, 235, 42, 16, 7, 181, 0, 23, 42, 3]
abbrev dktX0_toldHere_2 : List UInt8 := dkwX0_toldHere_2 ++ dktX0_toldHere_3
def dkwX0_toldHere_1 : List UInt8 := [3, 182, 1, 25, 154, 0, 25, 42, 43, 28, 182, 1, 25, 87, 16, 254, 4, 16, 8, 42, 180, 0, 251, 104]
abbrev dktX0_toldHere_1 : List UInt8 := dkwX0_toldHere_1 ++ dktX0_toldHere_2
def dkwX0_toldHere_0 : List UInt8 := [42, 180, 0, 199, 76, 42, 180, 0, 208, 61, 187, 1, 16, 89, 42, 183, 1, 18, 182, 1, 21, 78, 42, 45]
abbrev dktX0_toldHere_0 : List UInt8 := dkwX0_toldHere_0 ++ dktX0_toldHere_1
theorem dksX0_toldHere_0 : cX0_toldHere.data.toList.drop 0 = dktX0_toldHere_0 := by decide +kernel
theorem dksX0_toldHere_1 : cX0_toldHere.data.toList.drop 24 = dktX0_toldHere_1 := dk_seg dksX0_toldHere_0 24 rfl rfl
theorem dksX0_toldHere_2 : cX0_toldHere.data.toList.drop 48 = dktX0_toldHere_2 := dk_seg dksX0_toldHere_1 24 rfl rfl
theorem dksX0_toldHere_3 : cX0_toldHere.data.toList.drop 71 = dktX0_toldHere_3 := dk_seg dksX0_toldHere_2 23 rfl rfl
theorem dX0_toldHere_0 : decode cX0_toldHere 0 = .ok (.aload_n 0, 1) := dk_42 (dk_at dksX0_toldHere_0 0 rfl rfl)
theorem dX0_toldHere_1 : decode cX0_toldHere 1 = .ok (.getfield 199, 3) := dk_180 0 199 (dk_at dksX0_toldHere_0 1 rfl rfl)
theorem dX0_toldHere_4 : decode cX0_toldHere 4 = .ok (.astore_n 1, 1) := dk_76 (dk_at dksX0_toldHere_0 4 rfl rfl)
theorem dX0_toldHere_5 : decode cX0_toldHere 5 = .ok (.aload_n 0, 1) := dk_42 (dk_at dksX0_toldHere_0 5 rfl rfl)
theorem dX0_toldHere_6 : decode cX0_toldHere 6 = .ok (.getfield 208, 3) := dk_180 0 208 (dk_at dksX0_toldHere_0 6 rfl rfl)
theorem dX0_toldHere_9 : decode cX0_toldHere 9 = .ok (.istore_n 2, 1) := dk_61 (dk_at dksX0_toldHere_0 9 rfl rfl)
theorem dX0_toldHere_10 : decode cX0_toldHere 10 = .ok (.new 272, 3) := dk_187 1 16 (dk_at dksX0_toldHere_0 10 rfl rfl)
theorem dX0_toldHere_13 : decode cX0_toldHere 13 = .ok (.dup, 1) := dk_89 (dk_at dksX0_toldHere_0 13 rfl rfl)
theorem dX0_toldHere_14 : decode cX0_toldHere 14 = .ok (.aload_n 0, 1) := dk_42 (dk_at dksX0_toldHere_0 14 rfl rfl)
theorem dX0_toldHere_15 : decode cX0_toldHere 15 = .ok (.invokespecial 274, 3) := dk_183 1 18 (dk_at dksX0_toldHere_0 15 rfl rfl)
theorem dX0_toldHere_18 : decode cX0_toldHere 18 = .ok (.invokevirtual 277, 3) := dk_182 1 21 (dk_at dksX0_toldHere_0 18 rfl rfl)
theorem dX0_toldHere_21 : decode cX0_toldHere 21 = .ok (.astore_n 3, 1) := dk_78 (dk_at dksX0_toldHere_0 21 rfl rfl)
theorem dX0_toldHere_22 : decode cX0_toldHere 22 = .ok (.aload_n 0, 1) := dk_42 (dk_at dksX0_toldHere_0 22 rfl rfl)
theorem dX0_toldHere_23 : decode cX0_toldHere 23 = .ok (.aload_n 3, 1) := dk_45 (dk_at dksX0_toldHere_0 23 rfl rfl)
theorem dX0_toldHere_24 : decode cX0_toldHere 24 = .ok (.iconst 0, 1) := dk_3 (dk_at dksX0_toldHere_1 0 rfl rfl)
theorem dX0_toldHere_25 : decode cX0_toldHere 25 = .ok (.invokevirtual 281, 3) := dk_182 1 25 (dk_at dksX0_toldHere_1 1 rfl rfl)
theorem dX0_toldHere_28 : decode cX0_toldHere 28 = .ok (.ifCond .ne 25, 3) := dk_154 0 25 (dk_at dksX0_toldHere_1 4 rfl rfl)
theorem dX0_toldHere_31 : decode cX0_toldHere 31 = .ok (.aload_n 0, 1) := dk_42 (dk_at dksX0_toldHere_1 7 rfl rfl)
theorem dX0_toldHere_32 : decode cX0_toldHere 32 = .ok (.aload_n 1, 1) := dk_43 (dk_at dksX0_toldHere_1 8 rfl rfl)
theorem dX0_toldHere_33 : decode cX0_toldHere 33 = .ok (.iload_n 2, 1) := dk_28 (dk_at dksX0_toldHere_1 9 rfl rfl)
theorem dX0_toldHere_34 : decode cX0_toldHere 34 = .ok (.invokevirtual 281, 3) := dk_182 1 25 (dk_at dksX0_toldHere_1 10 rfl rfl)
theorem dX0_toldHere_37 : decode cX0_toldHere 37 = .ok (.pop, 1) := dk_87 (dk_at dksX0_toldHere_1 13 rfl rfl)
theorem dX0_toldHere_38 : decode cX0_toldHere 38 = .ok (.bipush (-2), 2) := dk_16 254 (dk_at dksX0_toldHere_1 14 rfl rfl)
theorem dX0_toldHere_40 : decode cX0_toldHere 40 = .ok (.iconst 1, 1) := dk_4 (dk_at dksX0_toldHere_1 16 rfl rfl)
theorem dX0_toldHere_41 : decode cX0_toldHere 41 = .ok (.bipush 8, 2) := dk_16 8 (dk_at dksX0_toldHere_1 17 rfl rfl)
theorem dX0_toldHere_43 : decode cX0_toldHere 43 = .ok (.aload_n 0, 1) := dk_42 (dk_at dksX0_toldHere_1 19 rfl rfl)
theorem dX0_toldHere_44 : decode cX0_toldHere 44 = .ok (.getfield 251, 3) := dk_180 0 251 (dk_at dksX0_toldHere_1 20 rfl rfl)
theorem dX0_toldHere_47 : decode cX0_toldHere 47 = .ok (.imul, 1) := dk_104 (dk_at dksX0_toldHere_1 23 rfl rfl)
theorem dX0_toldHere_48 : decode cX0_toldHere 48 = .ok (.iadd, 1) := dk_96 (dk_at dksX0_toldHere_2 0 rfl rfl)
theorem dX0_toldHere_49 : decode cX0_toldHere 49 = .ok (.iconst 5, 1) := dk_8 (dk_at dksX0_toldHere_2 1 rfl rfl)
theorem dX0_toldHere_50 : decode cX0_toldHere 50 = .ok (.iadd, 1) := dk_96 (dk_at dksX0_toldHere_2 2 rfl rfl)
theorem dX0_toldHere_51 : decode cX0_toldHere 51 = .ok (.isub, 1) := dk_100 (dk_at dksX0_toldHere_2 3 rfl rfl)
theorem dX0_toldHere_52 : decode cX0_toldHere 52 = .ok (.ireturn, 1) := dk_172 (dk_at dksX0_toldHere_2 4 rfl rfl)
theorem dX0_toldHere_53 : decode cX0_toldHere 53 = .ok (.aload_n 0, 1) := dk_42 (dk_at dksX0_toldHere_2 5 rfl rfl)
theorem dX0_toldHere_54 : decode cX0_toldHere 54 = .ok (.iconst 0, 1) := dk_3 (dk_at dksX0_toldHere_2 6 rfl rfl)
theorem dX0_toldHere_55 : decode cX0_toldHere 55 = .ok (.putfield 285, 3) := dk_181 1 29 (dk_at dksX0_toldHere_2 7 rfl rfl)
theorem dX0_toldHere_58 : decode cX0_toldHere 58 = .ok (.aload_n 0, 1) := dk_42 (dk_at dksX0_toldHere_2 10 rfl rfl)
theorem dX0_toldHere_59 : decode cX0_toldHere 59 = .ok (.iconst 0, 1) := dk_3 (dk_at dksX0_toldHere_2 11 rfl rfl)
theorem dX0_toldHere_60 : decode cX0_toldHere 60 = .ok (.putfield 235, 3) := dk_181 0 235 (dk_at dksX0_toldHere_2 12 rfl rfl)
theorem dX0_toldHere_63 : decode cX0_toldHere 63 = .ok (.aload_n 0, 1) := dk_42 (dk_at dksX0_toldHere_2 15 rfl rfl)
theorem dX0_toldHere_64 : decode cX0_toldHere 64 = .ok (.bipush 7, 2) := dk_16 7 (dk_at dksX0_toldHere_2 16 rfl rfl)
theorem dX0_toldHere_66 : decode cX0_toldHere 66 = .ok (.putfield 23, 3) := dk_181 0 23 (dk_at dksX0_toldHere_2 18 rfl rfl)
theorem dX0_toldHere_69 : decode cX0_toldHere 69 = .ok (.aload_n 0, 1) := dk_42 (dk_at dksX0_toldHere_2 21 rfl rfl)
theorem dX0_toldHere_70 : decode cX0_toldHere 70 = .ok (.iconst 0, 1) := dk_3 (dk_at dksX0_toldHere_2 22 rfl rfl)
theorem dX0_toldHere_71 : decode cX0_toldHere 71 = .ok (.putfield 288, 3) := dk_181 1 32 (dk_at dksX0_toldHere_3 0 rfl rfl)
theorem dX0_toldHere_74 : decode cX0_toldHere 74 = .ok (.aload_n 3, 1) := dk_45 (dk_at dksX0_toldHere_3 3 rfl rfl)
theorem dX0_toldHere_75 : decode cX0_toldHere 75 = .ok (.getfield 203, 3) := dk_180 0 203 (dk_at dksX0_toldHere_3 4 rfl rfl)
theorem dX0_toldHere_78 : decode cX0_toldHere 78 = .ok (.ireturn, 1) := dk_172 (dk_at dksX0_toldHere_3 7 rfl rfl)
abbrev cX0_in : ByteArray := prog_1_method_1_code
def yX0_in : MethodName := ⟨RX0, "in", "(JJJ)Z"⟩
def dkwX0_in_0 : List UInt8 := [30, 32, 148, 155, 0, 14, 30, 22, 4, 148, 157, 0, 7, 4, 167, 0, 4, 3, 172]
abbrev dktX0_in_0 : List UInt8 := dkwX0_in_0 ++ []
theorem dksX0_in_0 : cX0_in.data.toList.drop 0 = dktX0_in_0 := by decide +kernel
theorem dX0_in_0 : decode cX0_in 0 = .ok (.lload_n 0, 1) := dk_30 (dk_at dksX0_in_0 0 rfl rfl)
theorem dX0_in_1 : decode cX0_in 1 = .ok (.lload_n 2, 1) := dk_32 (dk_at dksX0_in_0 1 rfl rfl)
theorem dX0_in_2 : decode cX0_in 2 = .ok (.lcmp, 1) := dk_148 (dk_at dksX0_in_0 2 rfl rfl)
theorem dX0_in_3 : decode cX0_in 3 = .ok (.ifCond .lt 14, 3) := dk_155 0 14 (dk_at dksX0_in_0 3 rfl rfl)
theorem dX0_in_6 : decode cX0_in 6 = .ok (.lload_n 0, 1) := dk_30 (dk_at dksX0_in_0 6 rfl rfl)
theorem dX0_in_7 : decode cX0_in 7 = .ok (.lload 4, 2) := dk_22 4 (dk_at dksX0_in_0 7 rfl rfl)
theorem dX0_in_9 : decode cX0_in 9 = .ok (.lcmp, 1) := dk_148 (dk_at dksX0_in_0 9 rfl rfl)
theorem dX0_in_10 : decode cX0_in 10 = .ok (.ifCond .gt 7, 3) := dk_157 0 7 (dk_at dksX0_in_0 10 rfl rfl)
theorem dX0_in_13 : decode cX0_in 13 = .ok (.iconst 1, 1) := dk_4 (dk_at dksX0_in_0 13 rfl rfl)
theorem dX0_in_14 : decode cX0_in 14 = .ok (.goto 4, 3) := dk_167 0 4 (dk_at dksX0_in_0 14 rfl rfl)
theorem dX0_in_17 : decode cX0_in 17 = .ok (.iconst 0, 1) := dk_3 (dk_at dksX0_in_0 17 rfl rfl)
theorem dX0_in_18 : decode cX0_in 18 = .ok (.ireturn, 1) := dk_172 (dk_at dksX0_in_0 18 rfl rfl)
abbrev cX0_settles : ByteArray := prog_1_method_20_code
def yX0_settles : MethodName := ⟨RX0, "settles", "(LPackedForest$Grammar;I)Z"⟩
def dkwX0_settles_1 : List UInt8 := [4, 172, 42, 182, 1, 9, 42, 182, 1, 12, 172]
abbrev dktX0_settles_1 : List UInt8 := dkwX0_settles_1 ++ []
def dkwX0_settles_0 : List UInt8 := [42, 43, 181, 0, 199, 42, 28, 181, 0, 208, 42, 3, 181, 1, 2, 42, 3, 181, 1, 6, 43, 199, 0, 5]
abbrev dktX0_settles_0 : List UInt8 := dkwX0_settles_0 ++ dktX0_settles_1
theorem dksX0_settles_0 : cX0_settles.data.toList.drop 0 = dktX0_settles_0 := by decide +kernel
theorem dksX0_settles_1 : cX0_settles.data.toList.drop 24 = dktX0_settles_1 := dk_seg dksX0_settles_0 24 rfl rfl
theorem dX0_settles_0 : decode cX0_settles 0 = .ok (.aload_n 0, 1) := dk_42 (dk_at dksX0_settles_0 0 rfl rfl)
theorem dX0_settles_1 : decode cX0_settles 1 = .ok (.aload_n 1, 1) := dk_43 (dk_at dksX0_settles_0 1 rfl rfl)
theorem dX0_settles_2 : decode cX0_settles 2 = .ok (.putfield 199, 3) := dk_181 0 199 (dk_at dksX0_settles_0 2 rfl rfl)
theorem dX0_settles_5 : decode cX0_settles 5 = .ok (.aload_n 0, 1) := dk_42 (dk_at dksX0_settles_0 5 rfl rfl)
theorem dX0_settles_6 : decode cX0_settles 6 = .ok (.iload_n 2, 1) := dk_28 (dk_at dksX0_settles_0 6 rfl rfl)
theorem dX0_settles_7 : decode cX0_settles 7 = .ok (.putfield 208, 3) := dk_181 0 208 (dk_at dksX0_settles_0 7 rfl rfl)
theorem dX0_settles_10 : decode cX0_settles 10 = .ok (.aload_n 0, 1) := dk_42 (dk_at dksX0_settles_0 10 rfl rfl)
theorem dX0_settles_11 : decode cX0_settles 11 = .ok (.iconst 0, 1) := dk_3 (dk_at dksX0_settles_0 11 rfl rfl)
theorem dX0_settles_12 : decode cX0_settles 12 = .ok (.putfield 258, 3) := dk_181 1 2 (dk_at dksX0_settles_0 12 rfl rfl)
theorem dX0_settles_15 : decode cX0_settles 15 = .ok (.aload_n 0, 1) := dk_42 (dk_at dksX0_settles_0 15 rfl rfl)
theorem dX0_settles_16 : decode cX0_settles 16 = .ok (.iconst 0, 1) := dk_3 (dk_at dksX0_settles_0 16 rfl rfl)
theorem dX0_settles_17 : decode cX0_settles 17 = .ok (.putfield 262, 3) := dk_181 1 6 (dk_at dksX0_settles_0 17 rfl rfl)
theorem dX0_settles_20 : decode cX0_settles 20 = .ok (.aload_n 1, 1) := dk_43 (dk_at dksX0_settles_0 20 rfl rfl)
theorem dX0_settles_21 : decode cX0_settles 21 = .ok (.ifnonnull 5, 3) := dk_199 0 5 (dk_at dksX0_settles_0 21 rfl rfl)
theorem dX0_settles_24 : decode cX0_settles 24 = .ok (.iconst 1, 1) := dk_4 (dk_at dksX0_settles_1 0 rfl rfl)
theorem dX0_settles_25 : decode cX0_settles 25 = .ok (.ireturn, 1) := dk_172 (dk_at dksX0_settles_1 1 rfl rfl)
theorem dX0_settles_26 : decode cX0_settles 26 = .ok (.aload_n 0, 1) := dk_42 (dk_at dksX0_settles_1 2 rfl rfl)
theorem dX0_settles_27 : decode cX0_settles 27 = .ok (.invokevirtual 265, 3) := dk_182 1 9 (dk_at dksX0_settles_1 3 rfl rfl)
theorem dX0_settles_30 : decode cX0_settles 30 = .ok (.aload_n 0, 1) := dk_42 (dk_at dksX0_settles_1 6 rfl rfl)
theorem dX0_settles_31 : decode cX0_settles 31 = .ok (.invokevirtual 268, 3) := dk_182 1 12 (dk_at dksX0_settles_1 7 rfl rfl)
theorem dX0_settles_34 : decode cX0_settles 34 = .ok (.ireturn, 1) := dk_172 (dk_at dksX0_settles_1 10 rfl rfl)
abbrev cX0_gathersFacts : ByteArray := prog_1_method_35_code
def yX0_gathersFacts : MethodName := ⟨RX0, "gathersFacts", "()V"⟩
def dkwX0_gathersFacts_11 : List UInt8 := [132, 2, 1, 167, 255, 180, 177]
abbrev dktX0_gathersFacts_11 : List UInt8 := dkwX0_gathersFacts_11 ++ []
def dkwX0_gathersFacts_10 : List UInt8 := [89, 180, 1, 108, 42, 28, 3, 182, 1, 118, 153, 0, 9, 4, 28, 120, 167, 0, 4, 3, 128, 181, 1, 108]
abbrev dktX0_gathersFacts_10 : List UInt8 := dkwX0_gathersFacts_10 ++ dktX0_gathersFacts_11
def dkwX0_gathersFacts_9 : List UInt8 := [180, 1, 105, 42, 28, 4, 182, 1, 118, 153, 0, 9, 4, 28, 120, 167, 0, 4, 3, 128, 181, 1, 105, 42]
abbrev dktX0_gathersFacts_9 : List UInt8 := dkwX0_gathersFacts_9 ++ dktX0_gathersFacts_10
def dkwX0_gathersFacts_8 : List UInt8 := [16, 26, 162, 0, 76, 42, 180, 0, 199, 180, 0, 223, 28, 184, 0, 211, 154, 0, 6, 167, 0, 53, 42, 89]
abbrev dktX0_gathersFacts_8 : List UInt8 := dkwX0_gathersFacts_8 ++ dktX0_gathersFacts_9
def dkwX0_gathersFacts_7 : List UInt8 := [153, 0, 11, 27, 42, 28, 182, 1, 115, 128, 60, 132, 2, 1, 167, 255, 226, 167, 255, 215, 3, 61, 28]
abbrev dktX0_gathersFacts_7 : List UInt8 := dkwX0_gathersFacts_7 ++ dktX0_gathersFacts_8
def dkwX0_gathersFacts_6 : List UInt8 := [153, 0, 43, 3, 60, 3, 61, 28, 42, 180, 0, 199, 180, 0, 203, 162, 0, 25, 42, 28, 182, 1, 95]
abbrev dktX0_gathersFacts_6 : List UInt8 := dkwX0_gathersFacts_6 ++ dktX0_gathersFacts_7
def dkwX0_gathersFacts_5 : List UInt8 := [153, 0, 11, 27, 42, 28, 182, 1, 112, 128, 60, 132, 2, 1, 167, 255, 226, 167, 255, 215, 4, 60, 27]
abbrev dktX0_gathersFacts_5 : List UInt8 := dkwX0_gathersFacts_5 ++ dktX0_gathersFacts_6
def dkwX0_gathersFacts_4 : List UInt8 := [153, 0, 43, 3, 60, 3, 61, 28, 42, 180, 0, 199, 180, 0, 203, 162, 0, 25, 42, 28, 182, 1, 95]
abbrev dktX0_gathersFacts_4 : List UInt8 := dkwX0_gathersFacts_4 ++ dktX0_gathersFacts_5
def dkwX0_gathersFacts_3 : List UInt8 := [167, 255, 225, 42, 180, 0, 56, 42, 180, 0, 199, 180, 1, 102, 16, 26, 100, 19, 1, 111, 79, 4, 60, 27]
abbrev dktX0_gathersFacts_3 : List UInt8 := dkwX0_gathersFacts_3 ++ dktX0_gathersFacts_4
def dkwX0_gathersFacts_2 : List UInt8 := [180, 0, 53, 27, 3, 79, 42, 180, 0, 56, 27, 3, 79, 42, 180, 0, 59, 27, 18, 12, 79, 132, 1, 1]
abbrev dktX0_gathersFacts_2 : List UInt8 := dkwX0_gathersFacts_2 ++ dktX0_gathersFacts_3
def dkwX0_gathersFacts_1 : List UInt8 := [181, 1, 74, 42, 3, 181, 1, 105, 42, 3, 181, 1, 108, 3, 60, 27, 16, 26, 162, 0, 31, 42]
abbrev dktX0_gathersFacts_1 : List UInt8 := dkwX0_gathersFacts_1 ++ dktX0_gathersFacts_2
def dkwX0_gathersFacts_0 : List UInt8 := [42, 3, 181, 1, 58, 42, 3, 181, 1, 64, 42, 4, 42, 180, 0, 199, 180, 1, 102, 16, 26, 100, 120]
abbrev dktX0_gathersFacts_0 : List UInt8 := dkwX0_gathersFacts_0 ++ dktX0_gathersFacts_1
theorem dksX0_gathersFacts_0 : cX0_gathersFacts.data.toList.drop 0 = dktX0_gathersFacts_0 := by decide +kernel
theorem dksX0_gathersFacts_1 : cX0_gathersFacts.data.toList.drop 23 = dktX0_gathersFacts_1 := dk_seg dksX0_gathersFacts_0 23 rfl rfl
theorem dksX0_gathersFacts_2 : cX0_gathersFacts.data.toList.drop 45 = dktX0_gathersFacts_2 := dk_seg dksX0_gathersFacts_1 22 rfl rfl
theorem dksX0_gathersFacts_3 : cX0_gathersFacts.data.toList.drop 69 = dktX0_gathersFacts_3 := dk_seg dksX0_gathersFacts_2 24 rfl rfl
theorem dksX0_gathersFacts_4 : cX0_gathersFacts.data.toList.drop 93 = dktX0_gathersFacts_4 := dk_seg dksX0_gathersFacts_3 24 rfl rfl
theorem dksX0_gathersFacts_5 : cX0_gathersFacts.data.toList.drop 116 = dktX0_gathersFacts_5 := dk_seg dksX0_gathersFacts_4 23 rfl rfl
theorem dksX0_gathersFacts_6 : cX0_gathersFacts.data.toList.drop 139 = dktX0_gathersFacts_6 := dk_seg dksX0_gathersFacts_5 23 rfl rfl
theorem dksX0_gathersFacts_7 : cX0_gathersFacts.data.toList.drop 162 = dktX0_gathersFacts_7 := dk_seg dksX0_gathersFacts_6 23 rfl rfl
theorem dksX0_gathersFacts_8 : cX0_gathersFacts.data.toList.drop 185 = dktX0_gathersFacts_8 := dk_seg dksX0_gathersFacts_7 23 rfl rfl
theorem dksX0_gathersFacts_9 : cX0_gathersFacts.data.toList.drop 209 = dktX0_gathersFacts_9 := dk_seg dksX0_gathersFacts_8 24 rfl rfl
theorem dksX0_gathersFacts_10 : cX0_gathersFacts.data.toList.drop 233 = dktX0_gathersFacts_10 := dk_seg dksX0_gathersFacts_9 24 rfl rfl
theorem dksX0_gathersFacts_11 : cX0_gathersFacts.data.toList.drop 257 = dktX0_gathersFacts_11 := dk_seg dksX0_gathersFacts_10 24 rfl rfl
theorem dX0_gathersFacts_0 : decode cX0_gathersFacts 0 = .ok (.aload_n 0, 1) := dk_42 (dk_at dksX0_gathersFacts_0 0 rfl rfl)
theorem dX0_gathersFacts_1 : decode cX0_gathersFacts 1 = .ok (.iconst 0, 1) := dk_3 (dk_at dksX0_gathersFacts_0 1 rfl rfl)
theorem dX0_gathersFacts_2 : decode cX0_gathersFacts 2 = .ok (.putfield 314, 3) := dk_181 1 58 (dk_at dksX0_gathersFacts_0 2 rfl rfl)
theorem dX0_gathersFacts_5 : decode cX0_gathersFacts 5 = .ok (.aload_n 0, 1) := dk_42 (dk_at dksX0_gathersFacts_0 5 rfl rfl)
theorem dX0_gathersFacts_6 : decode cX0_gathersFacts 6 = .ok (.iconst 0, 1) := dk_3 (dk_at dksX0_gathersFacts_0 6 rfl rfl)
theorem dX0_gathersFacts_7 : decode cX0_gathersFacts 7 = .ok (.putfield 320, 3) := dk_181 1 64 (dk_at dksX0_gathersFacts_0 7 rfl rfl)
theorem dX0_gathersFacts_10 : decode cX0_gathersFacts 10 = .ok (.aload_n 0, 1) := dk_42 (dk_at dksX0_gathersFacts_0 10 rfl rfl)
theorem dX0_gathersFacts_11 : decode cX0_gathersFacts 11 = .ok (.iconst 1, 1) := dk_4 (dk_at dksX0_gathersFacts_0 11 rfl rfl)
theorem dX0_gathersFacts_12 : decode cX0_gathersFacts 12 = .ok (.aload_n 0, 1) := dk_42 (dk_at dksX0_gathersFacts_0 12 rfl rfl)
theorem dX0_gathersFacts_13 : decode cX0_gathersFacts 13 = .ok (.getfield 199, 3) := dk_180 0 199 (dk_at dksX0_gathersFacts_0 13 rfl rfl)
theorem dX0_gathersFacts_16 : decode cX0_gathersFacts 16 = .ok (.getfield 358, 3) := dk_180 1 102 (dk_at dksX0_gathersFacts_0 16 rfl rfl)
theorem dX0_gathersFacts_19 : decode cX0_gathersFacts 19 = .ok (.bipush 26, 2) := dk_16 26 (dk_at dksX0_gathersFacts_0 19 rfl rfl)
theorem dX0_gathersFacts_21 : decode cX0_gathersFacts 21 = .ok (.isub, 1) := dk_100 (dk_at dksX0_gathersFacts_0 21 rfl rfl)
theorem dX0_gathersFacts_22 : decode cX0_gathersFacts 22 = .ok (.ishl, 1) := dk_120 (dk_at dksX0_gathersFacts_0 22 rfl rfl)
theorem dX0_gathersFacts_23 : decode cX0_gathersFacts 23 = .ok (.putfield 330, 3) := dk_181 1 74 (dk_at dksX0_gathersFacts_1 0 rfl rfl)
theorem dX0_gathersFacts_26 : decode cX0_gathersFacts 26 = .ok (.aload_n 0, 1) := dk_42 (dk_at dksX0_gathersFacts_1 3 rfl rfl)
theorem dX0_gathersFacts_27 : decode cX0_gathersFacts 27 = .ok (.iconst 0, 1) := dk_3 (dk_at dksX0_gathersFacts_1 4 rfl rfl)
theorem dX0_gathersFacts_28 : decode cX0_gathersFacts 28 = .ok (.putfield 361, 3) := dk_181 1 105 (dk_at dksX0_gathersFacts_1 5 rfl rfl)
theorem dX0_gathersFacts_31 : decode cX0_gathersFacts 31 = .ok (.aload_n 0, 1) := dk_42 (dk_at dksX0_gathersFacts_1 8 rfl rfl)
theorem dX0_gathersFacts_32 : decode cX0_gathersFacts 32 = .ok (.iconst 0, 1) := dk_3 (dk_at dksX0_gathersFacts_1 9 rfl rfl)
theorem dX0_gathersFacts_33 : decode cX0_gathersFacts 33 = .ok (.putfield 364, 3) := dk_181 1 108 (dk_at dksX0_gathersFacts_1 10 rfl rfl)
theorem dX0_gathersFacts_36 : decode cX0_gathersFacts 36 = .ok (.iconst 0, 1) := dk_3 (dk_at dksX0_gathersFacts_1 13 rfl rfl)
theorem dX0_gathersFacts_37 : decode cX0_gathersFacts 37 = .ok (.istore_n 1, 1) := dk_60 (dk_at dksX0_gathersFacts_1 14 rfl rfl)
theorem dX0_gathersFacts_38 : decode cX0_gathersFacts 38 = .ok (.iload_n 1, 1) := dk_27 (dk_at dksX0_gathersFacts_1 15 rfl rfl)
theorem dX0_gathersFacts_39 : decode cX0_gathersFacts 39 = .ok (.bipush 26, 2) := dk_16 26 (dk_at dksX0_gathersFacts_1 16 rfl rfl)
theorem dX0_gathersFacts_41 : decode cX0_gathersFacts 41 = .ok (.if_icmp .ge 31, 3) := dk_162 0 31 (dk_at dksX0_gathersFacts_1 18 rfl rfl)
theorem dX0_gathersFacts_44 : decode cX0_gathersFacts 44 = .ok (.aload_n 0, 1) := dk_42 (dk_at dksX0_gathersFacts_1 21 rfl rfl)
theorem dX0_gathersFacts_45 : decode cX0_gathersFacts 45 = .ok (.getfield 53, 3) := dk_180 0 53 (dk_at dksX0_gathersFacts_2 0 rfl rfl)
theorem dX0_gathersFacts_48 : decode cX0_gathersFacts 48 = .ok (.iload_n 1, 1) := dk_27 (dk_at dksX0_gathersFacts_2 3 rfl rfl)
theorem dX0_gathersFacts_49 : decode cX0_gathersFacts 49 = .ok (.iconst 0, 1) := dk_3 (dk_at dksX0_gathersFacts_2 4 rfl rfl)
theorem dX0_gathersFacts_50 : decode cX0_gathersFacts 50 = .ok (.iastore, 1) := dk_79 (dk_at dksX0_gathersFacts_2 5 rfl rfl)
theorem dX0_gathersFacts_51 : decode cX0_gathersFacts 51 = .ok (.aload_n 0, 1) := dk_42 (dk_at dksX0_gathersFacts_2 6 rfl rfl)
theorem dX0_gathersFacts_52 : decode cX0_gathersFacts 52 = .ok (.getfield 56, 3) := dk_180 0 56 (dk_at dksX0_gathersFacts_2 7 rfl rfl)
theorem dX0_gathersFacts_55 : decode cX0_gathersFacts 55 = .ok (.iload_n 1, 1) := dk_27 (dk_at dksX0_gathersFacts_2 10 rfl rfl)
theorem dX0_gathersFacts_56 : decode cX0_gathersFacts 56 = .ok (.iconst 0, 1) := dk_3 (dk_at dksX0_gathersFacts_2 11 rfl rfl)
theorem dX0_gathersFacts_57 : decode cX0_gathersFacts 57 = .ok (.iastore, 1) := dk_79 (dk_at dksX0_gathersFacts_2 12 rfl rfl)
theorem dX0_gathersFacts_58 : decode cX0_gathersFacts 58 = .ok (.aload_n 0, 1) := dk_42 (dk_at dksX0_gathersFacts_2 13 rfl rfl)
theorem dX0_gathersFacts_59 : decode cX0_gathersFacts 59 = .ok (.getfield 59, 3) := dk_180 0 59 (dk_at dksX0_gathersFacts_2 14 rfl rfl)
theorem dX0_gathersFacts_62 : decode cX0_gathersFacts 62 = .ok (.iload_n 1, 1) := dk_27 (dk_at dksX0_gathersFacts_2 17 rfl rfl)
theorem dX0_gathersFacts_63 : decode cX0_gathersFacts 63 = .ok (.ldc 12, 2) := dk_18 12 (dk_at dksX0_gathersFacts_2 18 rfl rfl)
theorem dX0_gathersFacts_65 : decode cX0_gathersFacts 65 = .ok (.iastore, 1) := dk_79 (dk_at dksX0_gathersFacts_2 20 rfl rfl)
theorem dX0_gathersFacts_66 : decode cX0_gathersFacts 66 = .ok (.iinc 1 1, 3) := dk_132 1 1 (dk_at dksX0_gathersFacts_2 21 rfl rfl)
theorem dX0_gathersFacts_69 : decode cX0_gathersFacts 69 = .ok (.goto (-31), 3) := dk_167 255 225 (dk_at dksX0_gathersFacts_3 0 rfl rfl)
theorem dX0_gathersFacts_72 : decode cX0_gathersFacts 72 = .ok (.aload_n 0, 1) := dk_42 (dk_at dksX0_gathersFacts_3 3 rfl rfl)
theorem dX0_gathersFacts_73 : decode cX0_gathersFacts 73 = .ok (.getfield 56, 3) := dk_180 0 56 (dk_at dksX0_gathersFacts_3 4 rfl rfl)
theorem dX0_gathersFacts_76 : decode cX0_gathersFacts 76 = .ok (.aload_n 0, 1) := dk_42 (dk_at dksX0_gathersFacts_3 7 rfl rfl)
theorem dX0_gathersFacts_77 : decode cX0_gathersFacts 77 = .ok (.getfield 199, 3) := dk_180 0 199 (dk_at dksX0_gathersFacts_3 8 rfl rfl)
theorem dX0_gathersFacts_80 : decode cX0_gathersFacts 80 = .ok (.getfield 358, 3) := dk_180 1 102 (dk_at dksX0_gathersFacts_3 11 rfl rfl)
theorem dX0_gathersFacts_83 : decode cX0_gathersFacts 83 = .ok (.bipush 26, 2) := dk_16 26 (dk_at dksX0_gathersFacts_3 14 rfl rfl)
theorem dX0_gathersFacts_85 : decode cX0_gathersFacts 85 = .ok (.isub, 1) := dk_100 (dk_at dksX0_gathersFacts_3 16 rfl rfl)
theorem dX0_gathersFacts_86 : decode cX0_gathersFacts 86 = .ok (.ldc_w 367, 3) := dk_19 1 111 (dk_at dksX0_gathersFacts_3 17 rfl rfl)
theorem dX0_gathersFacts_89 : decode cX0_gathersFacts 89 = .ok (.iastore, 1) := dk_79 (dk_at dksX0_gathersFacts_3 20 rfl rfl)
theorem dX0_gathersFacts_90 : decode cX0_gathersFacts 90 = .ok (.iconst 1, 1) := dk_4 (dk_at dksX0_gathersFacts_3 21 rfl rfl)
theorem dX0_gathersFacts_91 : decode cX0_gathersFacts 91 = .ok (.istore_n 1, 1) := dk_60 (dk_at dksX0_gathersFacts_3 22 rfl rfl)
theorem dX0_gathersFacts_92 : decode cX0_gathersFacts 92 = .ok (.iload_n 1, 1) := dk_27 (dk_at dksX0_gathersFacts_3 23 rfl rfl)
theorem dX0_gathersFacts_93 : decode cX0_gathersFacts 93 = .ok (.ifCond .eq 43, 3) := dk_153 0 43 (dk_at dksX0_gathersFacts_4 0 rfl rfl)
theorem dX0_gathersFacts_96 : decode cX0_gathersFacts 96 = .ok (.iconst 0, 1) := dk_3 (dk_at dksX0_gathersFacts_4 3 rfl rfl)
theorem dX0_gathersFacts_97 : decode cX0_gathersFacts 97 = .ok (.istore_n 1, 1) := dk_60 (dk_at dksX0_gathersFacts_4 4 rfl rfl)
theorem dX0_gathersFacts_98 : decode cX0_gathersFacts 98 = .ok (.iconst 0, 1) := dk_3 (dk_at dksX0_gathersFacts_4 5 rfl rfl)
theorem dX0_gathersFacts_99 : decode cX0_gathersFacts 99 = .ok (.istore_n 2, 1) := dk_61 (dk_at dksX0_gathersFacts_4 6 rfl rfl)
theorem dX0_gathersFacts_100 : decode cX0_gathersFacts 100 = .ok (.iload_n 2, 1) := dk_28 (dk_at dksX0_gathersFacts_4 7 rfl rfl)
theorem dX0_gathersFacts_101 : decode cX0_gathersFacts 101 = .ok (.aload_n 0, 1) := dk_42 (dk_at dksX0_gathersFacts_4 8 rfl rfl)
theorem dX0_gathersFacts_102 : decode cX0_gathersFacts 102 = .ok (.getfield 199, 3) := dk_180 0 199 (dk_at dksX0_gathersFacts_4 9 rfl rfl)
theorem dX0_gathersFacts_105 : decode cX0_gathersFacts 105 = .ok (.getfield 203, 3) := dk_180 0 203 (dk_at dksX0_gathersFacts_4 12 rfl rfl)
theorem dX0_gathersFacts_108 : decode cX0_gathersFacts 108 = .ok (.if_icmp .ge 25, 3) := dk_162 0 25 (dk_at dksX0_gathersFacts_4 15 rfl rfl)
theorem dX0_gathersFacts_111 : decode cX0_gathersFacts 111 = .ok (.aload_n 0, 1) := dk_42 (dk_at dksX0_gathersFacts_4 18 rfl rfl)
theorem dX0_gathersFacts_112 : decode cX0_gathersFacts 112 = .ok (.iload_n 2, 1) := dk_28 (dk_at dksX0_gathersFacts_4 19 rfl rfl)
theorem dX0_gathersFacts_113 : decode cX0_gathersFacts 113 = .ok (.invokevirtual 351, 3) := dk_182 1 95 (dk_at dksX0_gathersFacts_4 20 rfl rfl)
theorem dX0_gathersFacts_116 : decode cX0_gathersFacts 116 = .ok (.ifCond .eq 11, 3) := dk_153 0 11 (dk_at dksX0_gathersFacts_5 0 rfl rfl)
theorem dX0_gathersFacts_119 : decode cX0_gathersFacts 119 = .ok (.iload_n 1, 1) := dk_27 (dk_at dksX0_gathersFacts_5 3 rfl rfl)
theorem dX0_gathersFacts_120 : decode cX0_gathersFacts 120 = .ok (.aload_n 0, 1) := dk_42 (dk_at dksX0_gathersFacts_5 4 rfl rfl)
theorem dX0_gathersFacts_121 : decode cX0_gathersFacts 121 = .ok (.iload_n 2, 1) := dk_28 (dk_at dksX0_gathersFacts_5 5 rfl rfl)
theorem dX0_gathersFacts_122 : decode cX0_gathersFacts 122 = .ok (.invokevirtual 368, 3) := dk_182 1 112 (dk_at dksX0_gathersFacts_5 6 rfl rfl)
theorem dX0_gathersFacts_125 : decode cX0_gathersFacts 125 = .ok (.ior, 1) := dk_128 (dk_at dksX0_gathersFacts_5 9 rfl rfl)
theorem dX0_gathersFacts_126 : decode cX0_gathersFacts 126 = .ok (.istore_n 1, 1) := dk_60 (dk_at dksX0_gathersFacts_5 10 rfl rfl)
theorem dX0_gathersFacts_127 : decode cX0_gathersFacts 127 = .ok (.iinc 2 1, 3) := dk_132 2 1 (dk_at dksX0_gathersFacts_5 11 rfl rfl)
theorem dX0_gathersFacts_130 : decode cX0_gathersFacts 130 = .ok (.goto (-30), 3) := dk_167 255 226 (dk_at dksX0_gathersFacts_5 14 rfl rfl)
theorem dX0_gathersFacts_133 : decode cX0_gathersFacts 133 = .ok (.goto (-41), 3) := dk_167 255 215 (dk_at dksX0_gathersFacts_5 17 rfl rfl)
theorem dX0_gathersFacts_136 : decode cX0_gathersFacts 136 = .ok (.iconst 1, 1) := dk_4 (dk_at dksX0_gathersFacts_5 20 rfl rfl)
theorem dX0_gathersFacts_137 : decode cX0_gathersFacts 137 = .ok (.istore_n 1, 1) := dk_60 (dk_at dksX0_gathersFacts_5 21 rfl rfl)
theorem dX0_gathersFacts_138 : decode cX0_gathersFacts 138 = .ok (.iload_n 1, 1) := dk_27 (dk_at dksX0_gathersFacts_5 22 rfl rfl)
theorem dX0_gathersFacts_139 : decode cX0_gathersFacts 139 = .ok (.ifCond .eq 43, 3) := dk_153 0 43 (dk_at dksX0_gathersFacts_6 0 rfl rfl)
theorem dX0_gathersFacts_142 : decode cX0_gathersFacts 142 = .ok (.iconst 0, 1) := dk_3 (dk_at dksX0_gathersFacts_6 3 rfl rfl)
theorem dX0_gathersFacts_143 : decode cX0_gathersFacts 143 = .ok (.istore_n 1, 1) := dk_60 (dk_at dksX0_gathersFacts_6 4 rfl rfl)
theorem dX0_gathersFacts_144 : decode cX0_gathersFacts 144 = .ok (.iconst 0, 1) := dk_3 (dk_at dksX0_gathersFacts_6 5 rfl rfl)
theorem dX0_gathersFacts_145 : decode cX0_gathersFacts 145 = .ok (.istore_n 2, 1) := dk_61 (dk_at dksX0_gathersFacts_6 6 rfl rfl)
theorem dX0_gathersFacts_146 : decode cX0_gathersFacts 146 = .ok (.iload_n 2, 1) := dk_28 (dk_at dksX0_gathersFacts_6 7 rfl rfl)
theorem dX0_gathersFacts_147 : decode cX0_gathersFacts 147 = .ok (.aload_n 0, 1) := dk_42 (dk_at dksX0_gathersFacts_6 8 rfl rfl)
theorem dX0_gathersFacts_148 : decode cX0_gathersFacts 148 = .ok (.getfield 199, 3) := dk_180 0 199 (dk_at dksX0_gathersFacts_6 9 rfl rfl)
theorem dX0_gathersFacts_151 : decode cX0_gathersFacts 151 = .ok (.getfield 203, 3) := dk_180 0 203 (dk_at dksX0_gathersFacts_6 12 rfl rfl)
theorem dX0_gathersFacts_154 : decode cX0_gathersFacts 154 = .ok (.if_icmp .ge 25, 3) := dk_162 0 25 (dk_at dksX0_gathersFacts_6 15 rfl rfl)
theorem dX0_gathersFacts_157 : decode cX0_gathersFacts 157 = .ok (.aload_n 0, 1) := dk_42 (dk_at dksX0_gathersFacts_6 18 rfl rfl)
theorem dX0_gathersFacts_158 : decode cX0_gathersFacts 158 = .ok (.iload_n 2, 1) := dk_28 (dk_at dksX0_gathersFacts_6 19 rfl rfl)
theorem dX0_gathersFacts_159 : decode cX0_gathersFacts 159 = .ok (.invokevirtual 351, 3) := dk_182 1 95 (dk_at dksX0_gathersFacts_6 20 rfl rfl)
theorem dX0_gathersFacts_162 : decode cX0_gathersFacts 162 = .ok (.ifCond .eq 11, 3) := dk_153 0 11 (dk_at dksX0_gathersFacts_7 0 rfl rfl)
theorem dX0_gathersFacts_165 : decode cX0_gathersFacts 165 = .ok (.iload_n 1, 1) := dk_27 (dk_at dksX0_gathersFacts_7 3 rfl rfl)
theorem dX0_gathersFacts_166 : decode cX0_gathersFacts 166 = .ok (.aload_n 0, 1) := dk_42 (dk_at dksX0_gathersFacts_7 4 rfl rfl)
theorem dX0_gathersFacts_167 : decode cX0_gathersFacts 167 = .ok (.iload_n 2, 1) := dk_28 (dk_at dksX0_gathersFacts_7 5 rfl rfl)
theorem dX0_gathersFacts_168 : decode cX0_gathersFacts 168 = .ok (.invokevirtual 371, 3) := dk_182 1 115 (dk_at dksX0_gathersFacts_7 6 rfl rfl)
theorem dX0_gathersFacts_171 : decode cX0_gathersFacts 171 = .ok (.ior, 1) := dk_128 (dk_at dksX0_gathersFacts_7 9 rfl rfl)
theorem dX0_gathersFacts_172 : decode cX0_gathersFacts 172 = .ok (.istore_n 1, 1) := dk_60 (dk_at dksX0_gathersFacts_7 10 rfl rfl)
theorem dX0_gathersFacts_173 : decode cX0_gathersFacts 173 = .ok (.iinc 2 1, 3) := dk_132 2 1 (dk_at dksX0_gathersFacts_7 11 rfl rfl)
theorem dX0_gathersFacts_176 : decode cX0_gathersFacts 176 = .ok (.goto (-30), 3) := dk_167 255 226 (dk_at dksX0_gathersFacts_7 14 rfl rfl)
theorem dX0_gathersFacts_179 : decode cX0_gathersFacts 179 = .ok (.goto (-41), 3) := dk_167 255 215 (dk_at dksX0_gathersFacts_7 17 rfl rfl)
theorem dX0_gathersFacts_182 : decode cX0_gathersFacts 182 = .ok (.iconst 0, 1) := dk_3 (dk_at dksX0_gathersFacts_7 20 rfl rfl)
theorem dX0_gathersFacts_183 : decode cX0_gathersFacts 183 = .ok (.istore_n 2, 1) := dk_61 (dk_at dksX0_gathersFacts_7 21 rfl rfl)
theorem dX0_gathersFacts_184 : decode cX0_gathersFacts 184 = .ok (.iload_n 2, 1) := dk_28 (dk_at dksX0_gathersFacts_7 22 rfl rfl)
theorem dX0_gathersFacts_185 : decode cX0_gathersFacts 185 = .ok (.bipush 26, 2) := dk_16 26 (dk_at dksX0_gathersFacts_8 0 rfl rfl)
theorem dX0_gathersFacts_187 : decode cX0_gathersFacts 187 = .ok (.if_icmp .ge 76, 3) := dk_162 0 76 (dk_at dksX0_gathersFacts_8 2 rfl rfl)
theorem dX0_gathersFacts_190 : decode cX0_gathersFacts 190 = .ok (.aload_n 0, 1) := dk_42 (dk_at dksX0_gathersFacts_8 5 rfl rfl)
theorem dX0_gathersFacts_191 : decode cX0_gathersFacts 191 = .ok (.getfield 199, 3) := dk_180 0 199 (dk_at dksX0_gathersFacts_8 6 rfl rfl)
theorem dX0_gathersFacts_194 : decode cX0_gathersFacts 194 = .ok (.getfield 223, 3) := dk_180 0 223 (dk_at dksX0_gathersFacts_8 9 rfl rfl)
theorem dX0_gathersFacts_197 : decode cX0_gathersFacts 197 = .ok (.iload_n 2, 1) := dk_28 (dk_at dksX0_gathersFacts_8 12 rfl rfl)
theorem dX0_gathersFacts_198 : decode cX0_gathersFacts 198 = .ok (.invokestatic 211, 3) := dk_184 0 211 (dk_at dksX0_gathersFacts_8 13 rfl rfl)
theorem dX0_gathersFacts_201 : decode cX0_gathersFacts 201 = .ok (.ifCond .ne 6, 3) := dk_154 0 6 (dk_at dksX0_gathersFacts_8 16 rfl rfl)
theorem dX0_gathersFacts_204 : decode cX0_gathersFacts 204 = .ok (.goto 53, 3) := dk_167 0 53 (dk_at dksX0_gathersFacts_8 19 rfl rfl)
theorem dX0_gathersFacts_207 : decode cX0_gathersFacts 207 = .ok (.aload_n 0, 1) := dk_42 (dk_at dksX0_gathersFacts_8 22 rfl rfl)
theorem dX0_gathersFacts_208 : decode cX0_gathersFacts 208 = .ok (.dup, 1) := dk_89 (dk_at dksX0_gathersFacts_8 23 rfl rfl)
theorem dX0_gathersFacts_209 : decode cX0_gathersFacts 209 = .ok (.getfield 361, 3) := dk_180 1 105 (dk_at dksX0_gathersFacts_9 0 rfl rfl)
theorem dX0_gathersFacts_212 : decode cX0_gathersFacts 212 = .ok (.aload_n 0, 1) := dk_42 (dk_at dksX0_gathersFacts_9 3 rfl rfl)
theorem dX0_gathersFacts_213 : decode cX0_gathersFacts 213 = .ok (.iload_n 2, 1) := dk_28 (dk_at dksX0_gathersFacts_9 4 rfl rfl)
theorem dX0_gathersFacts_214 : decode cX0_gathersFacts 214 = .ok (.iconst 1, 1) := dk_4 (dk_at dksX0_gathersFacts_9 5 rfl rfl)
theorem dX0_gathersFacts_215 : decode cX0_gathersFacts 215 = .ok (.invokevirtual 374, 3) := dk_182 1 118 (dk_at dksX0_gathersFacts_9 6 rfl rfl)
theorem dX0_gathersFacts_218 : decode cX0_gathersFacts 218 = .ok (.ifCond .eq 9, 3) := dk_153 0 9 (dk_at dksX0_gathersFacts_9 9 rfl rfl)
theorem dX0_gathersFacts_221 : decode cX0_gathersFacts 221 = .ok (.iconst 1, 1) := dk_4 (dk_at dksX0_gathersFacts_9 12 rfl rfl)
theorem dX0_gathersFacts_222 : decode cX0_gathersFacts 222 = .ok (.iload_n 2, 1) := dk_28 (dk_at dksX0_gathersFacts_9 13 rfl rfl)
theorem dX0_gathersFacts_223 : decode cX0_gathersFacts 223 = .ok (.ishl, 1) := dk_120 (dk_at dksX0_gathersFacts_9 14 rfl rfl)
theorem dX0_gathersFacts_224 : decode cX0_gathersFacts 224 = .ok (.goto 4, 3) := dk_167 0 4 (dk_at dksX0_gathersFacts_9 15 rfl rfl)
theorem dX0_gathersFacts_227 : decode cX0_gathersFacts 227 = .ok (.iconst 0, 1) := dk_3 (dk_at dksX0_gathersFacts_9 18 rfl rfl)
theorem dX0_gathersFacts_228 : decode cX0_gathersFacts 228 = .ok (.ior, 1) := dk_128 (dk_at dksX0_gathersFacts_9 19 rfl rfl)
theorem dX0_gathersFacts_229 : decode cX0_gathersFacts 229 = .ok (.putfield 361, 3) := dk_181 1 105 (dk_at dksX0_gathersFacts_9 20 rfl rfl)
theorem dX0_gathersFacts_232 : decode cX0_gathersFacts 232 = .ok (.aload_n 0, 1) := dk_42 (dk_at dksX0_gathersFacts_9 23 rfl rfl)
theorem dX0_gathersFacts_233 : decode cX0_gathersFacts 233 = .ok (.dup, 1) := dk_89 (dk_at dksX0_gathersFacts_10 0 rfl rfl)
theorem dX0_gathersFacts_234 : decode cX0_gathersFacts 234 = .ok (.getfield 364, 3) := dk_180 1 108 (dk_at dksX0_gathersFacts_10 1 rfl rfl)
theorem dX0_gathersFacts_237 : decode cX0_gathersFacts 237 = .ok (.aload_n 0, 1) := dk_42 (dk_at dksX0_gathersFacts_10 4 rfl rfl)
theorem dX0_gathersFacts_238 : decode cX0_gathersFacts 238 = .ok (.iload_n 2, 1) := dk_28 (dk_at dksX0_gathersFacts_10 5 rfl rfl)
theorem dX0_gathersFacts_239 : decode cX0_gathersFacts 239 = .ok (.iconst 0, 1) := dk_3 (dk_at dksX0_gathersFacts_10 6 rfl rfl)
theorem dX0_gathersFacts_240 : decode cX0_gathersFacts 240 = .ok (.invokevirtual 374, 3) := dk_182 1 118 (dk_at dksX0_gathersFacts_10 7 rfl rfl)
theorem dX0_gathersFacts_243 : decode cX0_gathersFacts 243 = .ok (.ifCond .eq 9, 3) := dk_153 0 9 (dk_at dksX0_gathersFacts_10 10 rfl rfl)
theorem dX0_gathersFacts_246 : decode cX0_gathersFacts 246 = .ok (.iconst 1, 1) := dk_4 (dk_at dksX0_gathersFacts_10 13 rfl rfl)
theorem dX0_gathersFacts_247 : decode cX0_gathersFacts 247 = .ok (.iload_n 2, 1) := dk_28 (dk_at dksX0_gathersFacts_10 14 rfl rfl)
theorem dX0_gathersFacts_248 : decode cX0_gathersFacts 248 = .ok (.ishl, 1) := dk_120 (dk_at dksX0_gathersFacts_10 15 rfl rfl)
theorem dX0_gathersFacts_249 : decode cX0_gathersFacts 249 = .ok (.goto 4, 3) := dk_167 0 4 (dk_at dksX0_gathersFacts_10 16 rfl rfl)
theorem dX0_gathersFacts_252 : decode cX0_gathersFacts 252 = .ok (.iconst 0, 1) := dk_3 (dk_at dksX0_gathersFacts_10 19 rfl rfl)
theorem dX0_gathersFacts_253 : decode cX0_gathersFacts 253 = .ok (.ior, 1) := dk_128 (dk_at dksX0_gathersFacts_10 20 rfl rfl)
theorem dX0_gathersFacts_254 : decode cX0_gathersFacts 254 = .ok (.putfield 364, 3) := dk_181 1 108 (dk_at dksX0_gathersFacts_10 21 rfl rfl)
theorem dX0_gathersFacts_257 : decode cX0_gathersFacts 257 = .ok (.iinc 2 1, 3) := dk_132 2 1 (dk_at dksX0_gathersFacts_11 0 rfl rfl)
theorem dX0_gathersFacts_260 : decode cX0_gathersFacts 260 = .ok (.goto (-76), 3) := dk_167 255 180 (dk_at dksX0_gathersFacts_11 3 rfl rfl)
theorem dX0_gathersFacts_263 : decode cX0_gathersFacts 263 = .ok (.return_, 1) := dk_177 (dk_at dksX0_gathersFacts_11 6 rfl rfl)
abbrev cX0_adds : ByteArray := prog_1_method_31_code
def yX0_adds : MethodName := ⟨RX0, "adds", "(I)Z"⟩
def dkwX0_adds_9 : List UInt8 := [159, 0, 7, 4, 167, 0, 4, 3, 172]
abbrev dktX0_adds_9 : List UInt8 := dkwX0_adds_9 ++ []
def dkwX0_adds_8 : List UInt8 := [96, 42, 180, 0, 53, 28, 46, 184, 1, 70, 96, 161, 0, 14, 21, 4, 42, 180, 0, 59, 28, 46]
abbrev dktX0_adds_8 : List UInt8 := dkwX0_adds_8 ++ dktX0_adds_9
def dkwX0_adds_7 : List UInt8 := [79, 29, 42, 180, 1, 58, 184, 1, 70, 42, 180, 1, 64, 184, 1, 70, 96, 42, 180, 1, 74, 184, 1, 70]
abbrev dktX0_adds_7 : List UInt8 := dkwX0_adds_7 ++ dktX0_adds_8
def dkwX0_adds_6 : List UInt8 := [182, 1, 86, 128, 79, 42, 180, 0, 59, 28, 42, 180, 0, 59, 28, 46, 42, 27, 182, 1, 89, 184, 1, 92]
abbrev dktX0_adds_6 : List UInt8 := dkwX0_adds_6 ++ dktX0_adds_7
def dkwX0_adds_5 : List UInt8 := [180, 1, 74, 42, 27, 182, 1, 83, 128, 181, 1, 74, 42, 180, 0, 53, 28, 92, 46, 42, 27, 3]
abbrev dktX0_adds_5 : List UInt8 := dkwX0_adds_5 ++ dktX0_adds_6
def dkwX0_adds_4 : List UInt8 := [89, 180, 1, 64, 4, 28, 120, 128, 181, 1, 64, 42, 180, 1, 74, 28, 184, 0, 211, 153, 0, 17, 42, 89]
abbrev dktX0_adds_4 : List UInt8 := dkwX0_adds_4 ++ dktX0_adds_5
def dkwX0_adds_3 : List UInt8 := [153, 0, 15, 42, 89, 180, 1, 58, 4, 28, 120, 128, 181, 1, 58, 42, 27, 182, 1, 80, 153, 0, 15, 42]
abbrev dktX0_adds_3 : List UInt8 := dkwX0_adds_3 ++ dktX0_adds_4
def dkwX0_adds_2 : List UInt8 := [180, 0, 59, 28, 46, 54, 4, 42, 27, 3, 42, 180, 0, 199, 180, 0, 232, 27, 46, 182, 1, 77]
abbrev dktX0_adds_2 : List UInt8 := dkwX0_adds_2 ++ dktX0_adds_3
def dkwX0_adds_1 : List UInt8 := [184, 1, 70, 96, 42, 180, 1, 74, 184, 1, 70, 96, 42, 180, 0, 53, 28, 46, 184, 1, 70, 96, 62, 42]
abbrev dktX0_adds_1 : List UInt8 := dkwX0_adds_1 ++ dktX0_adds_2
def dkwX0_adds_0 : List UInt8 := [42, 180, 0, 199, 180, 1, 49, 27, 46, 16, 26, 100, 61, 42, 180, 1, 58, 184, 1, 70, 42, 180, 1, 64]
abbrev dktX0_adds_0 : List UInt8 := dkwX0_adds_0 ++ dktX0_adds_1
theorem dksX0_adds_0 : cX0_adds.data.toList.drop 0 = dktX0_adds_0 := by decide +kernel
theorem dksX0_adds_1 : cX0_adds.data.toList.drop 24 = dktX0_adds_1 := dk_seg dksX0_adds_0 24 rfl rfl
theorem dksX0_adds_2 : cX0_adds.data.toList.drop 48 = dktX0_adds_2 := dk_seg dksX0_adds_1 24 rfl rfl
theorem dksX0_adds_3 : cX0_adds.data.toList.drop 70 = dktX0_adds_3 := dk_seg dksX0_adds_2 22 rfl rfl
theorem dksX0_adds_4 : cX0_adds.data.toList.drop 94 = dktX0_adds_4 := dk_seg dksX0_adds_3 24 rfl rfl
theorem dksX0_adds_5 : cX0_adds.data.toList.drop 118 = dktX0_adds_5 := dk_seg dksX0_adds_4 24 rfl rfl
theorem dksX0_adds_6 : cX0_adds.data.toList.drop 140 = dktX0_adds_6 := dk_seg dksX0_adds_5 22 rfl rfl
theorem dksX0_adds_7 : cX0_adds.data.toList.drop 164 = dktX0_adds_7 := dk_seg dksX0_adds_6 24 rfl rfl
theorem dksX0_adds_8 : cX0_adds.data.toList.drop 188 = dktX0_adds_8 := dk_seg dksX0_adds_7 24 rfl rfl
theorem dksX0_adds_9 : cX0_adds.data.toList.drop 210 = dktX0_adds_9 := dk_seg dksX0_adds_8 22 rfl rfl
theorem dX0_adds_0 : decode cX0_adds 0 = .ok (.aload_n 0, 1) := dk_42 (dk_at dksX0_adds_0 0 rfl rfl)
theorem dX0_adds_1 : decode cX0_adds 1 = .ok (.getfield 199, 3) := dk_180 0 199 (dk_at dksX0_adds_0 1 rfl rfl)
theorem dX0_adds_4 : decode cX0_adds 4 = .ok (.getfield 305, 3) := dk_180 1 49 (dk_at dksX0_adds_0 4 rfl rfl)
theorem dX0_adds_7 : decode cX0_adds 7 = .ok (.iload_n 1, 1) := dk_27 (dk_at dksX0_adds_0 7 rfl rfl)
theorem dX0_adds_8 : decode cX0_adds 8 = .ok (.iaload, 1) := dk_46 (dk_at dksX0_adds_0 8 rfl rfl)
theorem dX0_adds_9 : decode cX0_adds 9 = .ok (.bipush 26, 2) := dk_16 26 (dk_at dksX0_adds_0 9 rfl rfl)
theorem dX0_adds_11 : decode cX0_adds 11 = .ok (.isub, 1) := dk_100 (dk_at dksX0_adds_0 11 rfl rfl)
theorem dX0_adds_12 : decode cX0_adds 12 = .ok (.istore_n 2, 1) := dk_61 (dk_at dksX0_adds_0 12 rfl rfl)
theorem dX0_adds_13 : decode cX0_adds 13 = .ok (.aload_n 0, 1) := dk_42 (dk_at dksX0_adds_0 13 rfl rfl)
theorem dX0_adds_14 : decode cX0_adds 14 = .ok (.getfield 314, 3) := dk_180 1 58 (dk_at dksX0_adds_0 14 rfl rfl)
theorem dX0_adds_17 : decode cX0_adds 17 = .ok (.invokestatic 326, 3) := dk_184 1 70 (dk_at dksX0_adds_0 17 rfl rfl)
theorem dX0_adds_20 : decode cX0_adds 20 = .ok (.aload_n 0, 1) := dk_42 (dk_at dksX0_adds_0 20 rfl rfl)
theorem dX0_adds_21 : decode cX0_adds 21 = .ok (.getfield 320, 3) := dk_180 1 64 (dk_at dksX0_adds_0 21 rfl rfl)
theorem dX0_adds_24 : decode cX0_adds 24 = .ok (.invokestatic 326, 3) := dk_184 1 70 (dk_at dksX0_adds_1 0 rfl rfl)
theorem dX0_adds_27 : decode cX0_adds 27 = .ok (.iadd, 1) := dk_96 (dk_at dksX0_adds_1 3 rfl rfl)
theorem dX0_adds_28 : decode cX0_adds 28 = .ok (.aload_n 0, 1) := dk_42 (dk_at dksX0_adds_1 4 rfl rfl)
theorem dX0_adds_29 : decode cX0_adds 29 = .ok (.getfield 330, 3) := dk_180 1 74 (dk_at dksX0_adds_1 5 rfl rfl)
theorem dX0_adds_32 : decode cX0_adds 32 = .ok (.invokestatic 326, 3) := dk_184 1 70 (dk_at dksX0_adds_1 8 rfl rfl)
theorem dX0_adds_35 : decode cX0_adds 35 = .ok (.iadd, 1) := dk_96 (dk_at dksX0_adds_1 11 rfl rfl)
theorem dX0_adds_36 : decode cX0_adds 36 = .ok (.aload_n 0, 1) := dk_42 (dk_at dksX0_adds_1 12 rfl rfl)
theorem dX0_adds_37 : decode cX0_adds 37 = .ok (.getfield 53, 3) := dk_180 0 53 (dk_at dksX0_adds_1 13 rfl rfl)
theorem dX0_adds_40 : decode cX0_adds 40 = .ok (.iload_n 2, 1) := dk_28 (dk_at dksX0_adds_1 16 rfl rfl)
theorem dX0_adds_41 : decode cX0_adds 41 = .ok (.iaload, 1) := dk_46 (dk_at dksX0_adds_1 17 rfl rfl)
theorem dX0_adds_42 : decode cX0_adds 42 = .ok (.invokestatic 326, 3) := dk_184 1 70 (dk_at dksX0_adds_1 18 rfl rfl)
theorem dX0_adds_45 : decode cX0_adds 45 = .ok (.iadd, 1) := dk_96 (dk_at dksX0_adds_1 21 rfl rfl)
theorem dX0_adds_46 : decode cX0_adds 46 = .ok (.istore_n 3, 1) := dk_62 (dk_at dksX0_adds_1 22 rfl rfl)
theorem dX0_adds_47 : decode cX0_adds 47 = .ok (.aload_n 0, 1) := dk_42 (dk_at dksX0_adds_1 23 rfl rfl)
theorem dX0_adds_48 : decode cX0_adds 48 = .ok (.getfield 59, 3) := dk_180 0 59 (dk_at dksX0_adds_2 0 rfl rfl)
theorem dX0_adds_51 : decode cX0_adds 51 = .ok (.iload_n 2, 1) := dk_28 (dk_at dksX0_adds_2 3 rfl rfl)
theorem dX0_adds_52 : decode cX0_adds 52 = .ok (.iaload, 1) := dk_46 (dk_at dksX0_adds_2 4 rfl rfl)
theorem dX0_adds_53 : decode cX0_adds 53 = .ok (.istore 4, 2) := dk_54 4 (dk_at dksX0_adds_2 5 rfl rfl)
theorem dX0_adds_55 : decode cX0_adds 55 = .ok (.aload_n 0, 1) := dk_42 (dk_at dksX0_adds_2 7 rfl rfl)
theorem dX0_adds_56 : decode cX0_adds 56 = .ok (.iload_n 1, 1) := dk_27 (dk_at dksX0_adds_2 8 rfl rfl)
theorem dX0_adds_57 : decode cX0_adds 57 = .ok (.iconst 0, 1) := dk_3 (dk_at dksX0_adds_2 9 rfl rfl)
theorem dX0_adds_58 : decode cX0_adds 58 = .ok (.aload_n 0, 1) := dk_42 (dk_at dksX0_adds_2 10 rfl rfl)
theorem dX0_adds_59 : decode cX0_adds 59 = .ok (.getfield 199, 3) := dk_180 0 199 (dk_at dksX0_adds_2 11 rfl rfl)
theorem dX0_adds_62 : decode cX0_adds 62 = .ok (.getfield 232, 3) := dk_180 0 232 (dk_at dksX0_adds_2 14 rfl rfl)
theorem dX0_adds_65 : decode cX0_adds 65 = .ok (.iload_n 1, 1) := dk_27 (dk_at dksX0_adds_2 17 rfl rfl)
theorem dX0_adds_66 : decode cX0_adds 66 = .ok (.iaload, 1) := dk_46 (dk_at dksX0_adds_2 18 rfl rfl)
theorem dX0_adds_67 : decode cX0_adds 67 = .ok (.invokevirtual 333, 3) := dk_182 1 77 (dk_at dksX0_adds_2 19 rfl rfl)
theorem dX0_adds_70 : decode cX0_adds 70 = .ok (.ifCond .eq 15, 3) := dk_153 0 15 (dk_at dksX0_adds_3 0 rfl rfl)
theorem dX0_adds_73 : decode cX0_adds 73 = .ok (.aload_n 0, 1) := dk_42 (dk_at dksX0_adds_3 3 rfl rfl)
theorem dX0_adds_74 : decode cX0_adds 74 = .ok (.dup, 1) := dk_89 (dk_at dksX0_adds_3 4 rfl rfl)
theorem dX0_adds_75 : decode cX0_adds 75 = .ok (.getfield 314, 3) := dk_180 1 58 (dk_at dksX0_adds_3 5 rfl rfl)
theorem dX0_adds_78 : decode cX0_adds 78 = .ok (.iconst 1, 1) := dk_4 (dk_at dksX0_adds_3 8 rfl rfl)
theorem dX0_adds_79 : decode cX0_adds 79 = .ok (.iload_n 2, 1) := dk_28 (dk_at dksX0_adds_3 9 rfl rfl)
theorem dX0_adds_80 : decode cX0_adds 80 = .ok (.ishl, 1) := dk_120 (dk_at dksX0_adds_3 10 rfl rfl)
theorem dX0_adds_81 : decode cX0_adds 81 = .ok (.ior, 1) := dk_128 (dk_at dksX0_adds_3 11 rfl rfl)
theorem dX0_adds_82 : decode cX0_adds 82 = .ok (.putfield 314, 3) := dk_181 1 58 (dk_at dksX0_adds_3 12 rfl rfl)
theorem dX0_adds_85 : decode cX0_adds 85 = .ok (.aload_n 0, 1) := dk_42 (dk_at dksX0_adds_3 15 rfl rfl)
theorem dX0_adds_86 : decode cX0_adds 86 = .ok (.iload_n 1, 1) := dk_27 (dk_at dksX0_adds_3 16 rfl rfl)
theorem dX0_adds_87 : decode cX0_adds 87 = .ok (.invokevirtual 336, 3) := dk_182 1 80 (dk_at dksX0_adds_3 17 rfl rfl)
theorem dX0_adds_90 : decode cX0_adds 90 = .ok (.ifCond .eq 15, 3) := dk_153 0 15 (dk_at dksX0_adds_3 20 rfl rfl)
theorem dX0_adds_93 : decode cX0_adds 93 = .ok (.aload_n 0, 1) := dk_42 (dk_at dksX0_adds_3 23 rfl rfl)
theorem dX0_adds_94 : decode cX0_adds 94 = .ok (.dup, 1) := dk_89 (dk_at dksX0_adds_4 0 rfl rfl)
theorem dX0_adds_95 : decode cX0_adds 95 = .ok (.getfield 320, 3) := dk_180 1 64 (dk_at dksX0_adds_4 1 rfl rfl)
theorem dX0_adds_98 : decode cX0_adds 98 = .ok (.iconst 1, 1) := dk_4 (dk_at dksX0_adds_4 4 rfl rfl)
theorem dX0_adds_99 : decode cX0_adds 99 = .ok (.iload_n 2, 1) := dk_28 (dk_at dksX0_adds_4 5 rfl rfl)
theorem dX0_adds_100 : decode cX0_adds 100 = .ok (.ishl, 1) := dk_120 (dk_at dksX0_adds_4 6 rfl rfl)
theorem dX0_adds_101 : decode cX0_adds 101 = .ok (.ior, 1) := dk_128 (dk_at dksX0_adds_4 7 rfl rfl)
theorem dX0_adds_102 : decode cX0_adds 102 = .ok (.putfield 320, 3) := dk_181 1 64 (dk_at dksX0_adds_4 8 rfl rfl)
theorem dX0_adds_105 : decode cX0_adds 105 = .ok (.aload_n 0, 1) := dk_42 (dk_at dksX0_adds_4 11 rfl rfl)
theorem dX0_adds_106 : decode cX0_adds 106 = .ok (.getfield 330, 3) := dk_180 1 74 (dk_at dksX0_adds_4 12 rfl rfl)
theorem dX0_adds_109 : decode cX0_adds 109 = .ok (.iload_n 2, 1) := dk_28 (dk_at dksX0_adds_4 15 rfl rfl)
theorem dX0_adds_110 : decode cX0_adds 110 = .ok (.invokestatic 211, 3) := dk_184 0 211 (dk_at dksX0_adds_4 16 rfl rfl)
theorem dX0_adds_113 : decode cX0_adds 113 = .ok (.ifCond .eq 17, 3) := dk_153 0 17 (dk_at dksX0_adds_4 19 rfl rfl)
theorem dX0_adds_116 : decode cX0_adds 116 = .ok (.aload_n 0, 1) := dk_42 (dk_at dksX0_adds_4 22 rfl rfl)
theorem dX0_adds_117 : decode cX0_adds 117 = .ok (.dup, 1) := dk_89 (dk_at dksX0_adds_4 23 rfl rfl)
theorem dX0_adds_118 : decode cX0_adds 118 = .ok (.getfield 330, 3) := dk_180 1 74 (dk_at dksX0_adds_5 0 rfl rfl)
theorem dX0_adds_121 : decode cX0_adds 121 = .ok (.aload_n 0, 1) := dk_42 (dk_at dksX0_adds_5 3 rfl rfl)
theorem dX0_adds_122 : decode cX0_adds 122 = .ok (.iload_n 1, 1) := dk_27 (dk_at dksX0_adds_5 4 rfl rfl)
theorem dX0_adds_123 : decode cX0_adds 123 = .ok (.invokevirtual 339, 3) := dk_182 1 83 (dk_at dksX0_adds_5 5 rfl rfl)
theorem dX0_adds_126 : decode cX0_adds 126 = .ok (.ior, 1) := dk_128 (dk_at dksX0_adds_5 8 rfl rfl)
theorem dX0_adds_127 : decode cX0_adds 127 = .ok (.putfield 330, 3) := dk_181 1 74 (dk_at dksX0_adds_5 9 rfl rfl)
theorem dX0_adds_130 : decode cX0_adds 130 = .ok (.aload_n 0, 1) := dk_42 (dk_at dksX0_adds_5 12 rfl rfl)
theorem dX0_adds_131 : decode cX0_adds 131 = .ok (.getfield 53, 3) := dk_180 0 53 (dk_at dksX0_adds_5 13 rfl rfl)
theorem dX0_adds_134 : decode cX0_adds 134 = .ok (.iload_n 2, 1) := dk_28 (dk_at dksX0_adds_5 16 rfl rfl)
theorem dX0_adds_135 : decode cX0_adds 135 = .ok (.dup2, 1) := dk_92 (dk_at dksX0_adds_5 17 rfl rfl)
theorem dX0_adds_136 : decode cX0_adds 136 = .ok (.iaload, 1) := dk_46 (dk_at dksX0_adds_5 18 rfl rfl)
theorem dX0_adds_137 : decode cX0_adds 137 = .ok (.aload_n 0, 1) := dk_42 (dk_at dksX0_adds_5 19 rfl rfl)
theorem dX0_adds_138 : decode cX0_adds 138 = .ok (.iload_n 1, 1) := dk_27 (dk_at dksX0_adds_5 20 rfl rfl)
theorem dX0_adds_139 : decode cX0_adds 139 = .ok (.iconst 0, 1) := dk_3 (dk_at dksX0_adds_5 21 rfl rfl)
theorem dX0_adds_140 : decode cX0_adds 140 = .ok (.invokevirtual 342, 3) := dk_182 1 86 (dk_at dksX0_adds_6 0 rfl rfl)
theorem dX0_adds_143 : decode cX0_adds 143 = .ok (.ior, 1) := dk_128 (dk_at dksX0_adds_6 3 rfl rfl)
theorem dX0_adds_144 : decode cX0_adds 144 = .ok (.iastore, 1) := dk_79 (dk_at dksX0_adds_6 4 rfl rfl)
theorem dX0_adds_145 : decode cX0_adds 145 = .ok (.aload_n 0, 1) := dk_42 (dk_at dksX0_adds_6 5 rfl rfl)
theorem dX0_adds_146 : decode cX0_adds 146 = .ok (.getfield 59, 3) := dk_180 0 59 (dk_at dksX0_adds_6 6 rfl rfl)
theorem dX0_adds_149 : decode cX0_adds 149 = .ok (.iload_n 2, 1) := dk_28 (dk_at dksX0_adds_6 9 rfl rfl)
theorem dX0_adds_150 : decode cX0_adds 150 = .ok (.aload_n 0, 1) := dk_42 (dk_at dksX0_adds_6 10 rfl rfl)
theorem dX0_adds_151 : decode cX0_adds 151 = .ok (.getfield 59, 3) := dk_180 0 59 (dk_at dksX0_adds_6 11 rfl rfl)
theorem dX0_adds_154 : decode cX0_adds 154 = .ok (.iload_n 2, 1) := dk_28 (dk_at dksX0_adds_6 14 rfl rfl)
theorem dX0_adds_155 : decode cX0_adds 155 = .ok (.iaload, 1) := dk_46 (dk_at dksX0_adds_6 15 rfl rfl)
theorem dX0_adds_156 : decode cX0_adds 156 = .ok (.aload_n 0, 1) := dk_42 (dk_at dksX0_adds_6 16 rfl rfl)
theorem dX0_adds_157 : decode cX0_adds 157 = .ok (.iload_n 1, 1) := dk_27 (dk_at dksX0_adds_6 17 rfl rfl)
theorem dX0_adds_158 : decode cX0_adds 158 = .ok (.invokevirtual 345, 3) := dk_182 1 89 (dk_at dksX0_adds_6 18 rfl rfl)
theorem dX0_adds_161 : decode cX0_adds 161 = .ok (.invokestatic 348, 3) := dk_184 1 92 (dk_at dksX0_adds_6 21 rfl rfl)
theorem dX0_adds_164 : decode cX0_adds 164 = .ok (.iastore, 1) := dk_79 (dk_at dksX0_adds_7 0 rfl rfl)
theorem dX0_adds_165 : decode cX0_adds 165 = .ok (.iload_n 3, 1) := dk_29 (dk_at dksX0_adds_7 1 rfl rfl)
theorem dX0_adds_166 : decode cX0_adds 166 = .ok (.aload_n 0, 1) := dk_42 (dk_at dksX0_adds_7 2 rfl rfl)
theorem dX0_adds_167 : decode cX0_adds 167 = .ok (.getfield 314, 3) := dk_180 1 58 (dk_at dksX0_adds_7 3 rfl rfl)
theorem dX0_adds_170 : decode cX0_adds 170 = .ok (.invokestatic 326, 3) := dk_184 1 70 (dk_at dksX0_adds_7 6 rfl rfl)
theorem dX0_adds_173 : decode cX0_adds 173 = .ok (.aload_n 0, 1) := dk_42 (dk_at dksX0_adds_7 9 rfl rfl)
theorem dX0_adds_174 : decode cX0_adds 174 = .ok (.getfield 320, 3) := dk_180 1 64 (dk_at dksX0_adds_7 10 rfl rfl)
theorem dX0_adds_177 : decode cX0_adds 177 = .ok (.invokestatic 326, 3) := dk_184 1 70 (dk_at dksX0_adds_7 13 rfl rfl)
theorem dX0_adds_180 : decode cX0_adds 180 = .ok (.iadd, 1) := dk_96 (dk_at dksX0_adds_7 16 rfl rfl)
theorem dX0_adds_181 : decode cX0_adds 181 = .ok (.aload_n 0, 1) := dk_42 (dk_at dksX0_adds_7 17 rfl rfl)
theorem dX0_adds_182 : decode cX0_adds 182 = .ok (.getfield 330, 3) := dk_180 1 74 (dk_at dksX0_adds_7 18 rfl rfl)
theorem dX0_adds_185 : decode cX0_adds 185 = .ok (.invokestatic 326, 3) := dk_184 1 70 (dk_at dksX0_adds_7 21 rfl rfl)
theorem dX0_adds_188 : decode cX0_adds 188 = .ok (.iadd, 1) := dk_96 (dk_at dksX0_adds_8 0 rfl rfl)
theorem dX0_adds_189 : decode cX0_adds 189 = .ok (.aload_n 0, 1) := dk_42 (dk_at dksX0_adds_8 1 rfl rfl)
theorem dX0_adds_190 : decode cX0_adds 190 = .ok (.getfield 53, 3) := dk_180 0 53 (dk_at dksX0_adds_8 2 rfl rfl)
theorem dX0_adds_193 : decode cX0_adds 193 = .ok (.iload_n 2, 1) := dk_28 (dk_at dksX0_adds_8 5 rfl rfl)
theorem dX0_adds_194 : decode cX0_adds 194 = .ok (.iaload, 1) := dk_46 (dk_at dksX0_adds_8 6 rfl rfl)
theorem dX0_adds_195 : decode cX0_adds 195 = .ok (.invokestatic 326, 3) := dk_184 1 70 (dk_at dksX0_adds_8 7 rfl rfl)
theorem dX0_adds_198 : decode cX0_adds 198 = .ok (.iadd, 1) := dk_96 (dk_at dksX0_adds_8 10 rfl rfl)
theorem dX0_adds_199 : decode cX0_adds 199 = .ok (.if_icmp .lt 14, 3) := dk_161 0 14 (dk_at dksX0_adds_8 11 rfl rfl)
theorem dX0_adds_202 : decode cX0_adds 202 = .ok (.iload 4, 2) := dk_21 4 (dk_at dksX0_adds_8 14 rfl rfl)
theorem dX0_adds_204 : decode cX0_adds 204 = .ok (.aload_n 0, 1) := dk_42 (dk_at dksX0_adds_8 16 rfl rfl)
theorem dX0_adds_205 : decode cX0_adds 205 = .ok (.getfield 59, 3) := dk_180 0 59 (dk_at dksX0_adds_8 17 rfl rfl)
theorem dX0_adds_208 : decode cX0_adds 208 = .ok (.iload_n 2, 1) := dk_28 (dk_at dksX0_adds_8 20 rfl rfl)
theorem dX0_adds_209 : decode cX0_adds 209 = .ok (.iaload, 1) := dk_46 (dk_at dksX0_adds_8 21 rfl rfl)
theorem dX0_adds_210 : decode cX0_adds 210 = .ok (.if_icmp .eq 7, 3) := dk_159 0 7 (dk_at dksX0_adds_9 0 rfl rfl)
theorem dX0_adds_213 : decode cX0_adds 213 = .ok (.iconst 1, 1) := dk_4 (dk_at dksX0_adds_9 3 rfl rfl)
theorem dX0_adds_214 : decode cX0_adds 214 = .ok (.goto 4, 3) := dk_167 0 4 (dk_at dksX0_adds_9 4 rfl rfl)
theorem dX0_adds_217 : decode cX0_adds 217 = .ok (.iconst 0, 1) := dk_3 (dk_at dksX0_adds_9 7 rfl rfl)
theorem dX0_adds_218 : decode cX0_adds 218 = .ok (.ireturn, 1) := dk_172 (dk_at dksX0_adds_9 8 rfl rfl)
abbrev cX0_areEmpty : ByteArray := prog_1_method_26_code
def yX0_areEmpty : MethodName := ⟨RX0, "areEmpty", "(III)Z"⟩
def dkwX0_areEmpty_1 : List UInt8 := [154, 0, 5, 3, 172, 132, 4, 1, 167, 255, 228, 4, 172]
abbrev dktX0_areEmpty_1 : List UInt8 := dkwX0_areEmpty_1 ++ []
def dkwX0_areEmpty_0 : List UInt8 := [28, 54, 4, 21, 4, 29, 162, 0, 28, 42, 42, 180, 0, 199, 27, 21, 4, 182, 1, 52, 182, 1, 61]
abbrev dktX0_areEmpty_0 : List UInt8 := dkwX0_areEmpty_0 ++ dktX0_areEmpty_1
theorem dksX0_areEmpty_0 : cX0_areEmpty.data.toList.drop 0 = dktX0_areEmpty_0 := by decide +kernel
theorem dksX0_areEmpty_1 : cX0_areEmpty.data.toList.drop 23 = dktX0_areEmpty_1 := dk_seg dksX0_areEmpty_0 23 rfl rfl
theorem dX0_areEmpty_0 : decode cX0_areEmpty 0 = .ok (.iload_n 2, 1) := dk_28 (dk_at dksX0_areEmpty_0 0 rfl rfl)
theorem dX0_areEmpty_1 : decode cX0_areEmpty 1 = .ok (.istore 4, 2) := dk_54 4 (dk_at dksX0_areEmpty_0 1 rfl rfl)
theorem dX0_areEmpty_3 : decode cX0_areEmpty 3 = .ok (.iload 4, 2) := dk_21 4 (dk_at dksX0_areEmpty_0 3 rfl rfl)
theorem dX0_areEmpty_5 : decode cX0_areEmpty 5 = .ok (.iload_n 3, 1) := dk_29 (dk_at dksX0_areEmpty_0 5 rfl rfl)
theorem dX0_areEmpty_6 : decode cX0_areEmpty 6 = .ok (.if_icmp .ge 28, 3) := dk_162 0 28 (dk_at dksX0_areEmpty_0 6 rfl rfl)
theorem dX0_areEmpty_9 : decode cX0_areEmpty 9 = .ok (.aload_n 0, 1) := dk_42 (dk_at dksX0_areEmpty_0 9 rfl rfl)
theorem dX0_areEmpty_10 : decode cX0_areEmpty 10 = .ok (.aload_n 0, 1) := dk_42 (dk_at dksX0_areEmpty_0 10 rfl rfl)
theorem dX0_areEmpty_11 : decode cX0_areEmpty 11 = .ok (.getfield 199, 3) := dk_180 0 199 (dk_at dksX0_areEmpty_0 11 rfl rfl)
theorem dX0_areEmpty_14 : decode cX0_areEmpty 14 = .ok (.iload_n 1, 1) := dk_27 (dk_at dksX0_areEmpty_0 14 rfl rfl)
theorem dX0_areEmpty_15 : decode cX0_areEmpty 15 = .ok (.iload 4, 2) := dk_21 4 (dk_at dksX0_areEmpty_0 15 rfl rfl)
theorem dX0_areEmpty_17 : decode cX0_areEmpty 17 = .ok (.invokevirtual 308, 3) := dk_182 1 52 (dk_at dksX0_areEmpty_0 17 rfl rfl)
theorem dX0_areEmpty_20 : decode cX0_areEmpty 20 = .ok (.invokevirtual 317, 3) := dk_182 1 61 (dk_at dksX0_areEmpty_0 20 rfl rfl)
theorem dX0_areEmpty_23 : decode cX0_areEmpty 23 = .ok (.ifCond .ne 5, 3) := dk_154 0 5 (dk_at dksX0_areEmpty_1 0 rfl rfl)
theorem dX0_areEmpty_26 : decode cX0_areEmpty 26 = .ok (.iconst 0, 1) := dk_3 (dk_at dksX0_areEmpty_1 3 rfl rfl)
theorem dX0_areEmpty_27 : decode cX0_areEmpty 27 = .ok (.ireturn, 1) := dk_172 (dk_at dksX0_areEmpty_1 4 rfl rfl)
theorem dX0_areEmpty_28 : decode cX0_areEmpty 28 = .ok (.iinc 4 1, 3) := dk_132 4 1 (dk_at dksX0_areEmpty_1 5 rfl rfl)
theorem dX0_areEmpty_31 : decode cX0_areEmpty 31 = .ok (.goto (-28), 3) := dk_167 255 228 (dk_at dksX0_areEmpty_1 8 rfl rfl)
theorem dX0_areEmpty_34 : decode cX0_areEmpty 34 = .ok (.iconst 1, 1) := dk_4 (dk_at dksX0_areEmpty_1 11 rfl rfl)
theorem dX0_areEmpty_35 : decode cX0_areEmpty 35 = .ok (.ireturn, 1) := dk_172 (dk_at dksX0_areEmpty_1 12 rfl rfl)
abbrev cX0_isEmpty : ByteArray := prog_1_method_25_code
def yX0_isEmpty : MethodName := ⟨RX0, "isEmpty", "(I)Z"⟩
def dkwX0_isEmpty_1 : List UInt8 := [167, 0, 4, 3, 172]
abbrev dktX0_isEmpty_1 : List UInt8 := dkwX0_isEmpty_1 ++ []
def dkwX0_isEmpty_0 : List UInt8 := [27, 184, 1, 55, 153, 0, 21, 42, 180, 1, 58, 27, 16, 26, 100, 184, 0, 211, 153, 0, 7, 4]
abbrev dktX0_isEmpty_0 : List UInt8 := dkwX0_isEmpty_0 ++ dktX0_isEmpty_1
theorem dksX0_isEmpty_0 : cX0_isEmpty.data.toList.drop 0 = dktX0_isEmpty_0 := by decide +kernel
theorem dksX0_isEmpty_1 : cX0_isEmpty.data.toList.drop 22 = dktX0_isEmpty_1 := dk_seg dksX0_isEmpty_0 22 rfl rfl
theorem dX0_isEmpty_0 : decode cX0_isEmpty 0 = .ok (.iload_n 1, 1) := dk_27 (dk_at dksX0_isEmpty_0 0 rfl rfl)
theorem dX0_isEmpty_1 : decode cX0_isEmpty 1 = .ok (.invokestatic 311, 3) := dk_184 1 55 (dk_at dksX0_isEmpty_0 1 rfl rfl)
theorem dX0_isEmpty_4 : decode cX0_isEmpty 4 = .ok (.ifCond .eq 21, 3) := dk_153 0 21 (dk_at dksX0_isEmpty_0 4 rfl rfl)
theorem dX0_isEmpty_7 : decode cX0_isEmpty 7 = .ok (.aload_n 0, 1) := dk_42 (dk_at dksX0_isEmpty_0 7 rfl rfl)
theorem dX0_isEmpty_8 : decode cX0_isEmpty 8 = .ok (.getfield 314, 3) := dk_180 1 58 (dk_at dksX0_isEmpty_0 8 rfl rfl)
theorem dX0_isEmpty_11 : decode cX0_isEmpty 11 = .ok (.iload_n 1, 1) := dk_27 (dk_at dksX0_isEmpty_0 11 rfl rfl)
theorem dX0_isEmpty_12 : decode cX0_isEmpty 12 = .ok (.bipush 26, 2) := dk_16 26 (dk_at dksX0_isEmpty_0 12 rfl rfl)
theorem dX0_isEmpty_14 : decode cX0_isEmpty 14 = .ok (.isub, 1) := dk_100 (dk_at dksX0_isEmpty_0 14 rfl rfl)
theorem dX0_isEmpty_15 : decode cX0_isEmpty 15 = .ok (.invokestatic 211, 3) := dk_184 0 211 (dk_at dksX0_isEmpty_0 15 rfl rfl)
theorem dX0_isEmpty_18 : decode cX0_isEmpty 18 = .ok (.ifCond .eq 7, 3) := dk_153 0 7 (dk_at dksX0_isEmpty_0 18 rfl rfl)
theorem dX0_isEmpty_21 : decode cX0_isEmpty 21 = .ok (.iconst 1, 1) := dk_4 (dk_at dksX0_isEmpty_0 21 rfl rfl)
theorem dX0_isEmpty_22 : decode cX0_isEmpty 22 = .ok (.goto 4, 3) := dk_167 0 4 (dk_at dksX0_isEmpty_1 0 rfl rfl)
theorem dX0_isEmpty_25 : decode cX0_isEmpty 25 = .ok (.iconst 0, 1) := dk_3 (dk_at dksX0_isEmpty_1 3 rfl rfl)
theorem dX0_isEmpty_26 : decode cX0_isEmpty 26 = .ok (.ireturn, 1) := dk_172 (dk_at dksX0_isEmpty_1 4 rfl rfl)
abbrev cX0_doEnd : ByteArray := prog_1_method_27_code
def yX0_doEnd : MethodName := ⟨RX0, "doEnd", "(I)Z"⟩
def dkwX0_doEnd_2 : List UInt8 := [184, 0, 211, 154, 0, 5, 3, 172, 132, 2, 1, 167, 255, 201, 4, 172]
abbrev dktX0_doEnd_2 : List UInt8 := dkwX0_doEnd_2 ++ []
def dkwX0_doEnd_1 : List UInt8 := [184, 1, 55, 153, 0, 27, 42, 180, 1, 64, 42, 180, 0, 199, 27, 28, 182, 1, 52, 16, 26, 100]
abbrev dktX0_doEnd_1 : List UInt8 := dkwX0_doEnd_1 ++ dktX0_doEnd_2
def dkwX0_doEnd_0 : List UInt8 := [3, 61, 28, 42, 180, 0, 199, 180, 0, 232, 27, 46, 162, 0, 48, 42, 180, 0, 199, 27, 28, 182, 1, 52]
abbrev dktX0_doEnd_0 : List UInt8 := dkwX0_doEnd_0 ++ dktX0_doEnd_1
theorem dksX0_doEnd_0 : cX0_doEnd.data.toList.drop 0 = dktX0_doEnd_0 := by decide +kernel
theorem dksX0_doEnd_1 : cX0_doEnd.data.toList.drop 24 = dktX0_doEnd_1 := dk_seg dksX0_doEnd_0 24 rfl rfl
theorem dksX0_doEnd_2 : cX0_doEnd.data.toList.drop 46 = dktX0_doEnd_2 := dk_seg dksX0_doEnd_1 22 rfl rfl
theorem dX0_doEnd_0 : decode cX0_doEnd 0 = .ok (.iconst 0, 1) := dk_3 (dk_at dksX0_doEnd_0 0 rfl rfl)
theorem dX0_doEnd_1 : decode cX0_doEnd 1 = .ok (.istore_n 2, 1) := dk_61 (dk_at dksX0_doEnd_0 1 rfl rfl)
theorem dX0_doEnd_2 : decode cX0_doEnd 2 = .ok (.iload_n 2, 1) := dk_28 (dk_at dksX0_doEnd_0 2 rfl rfl)
theorem dX0_doEnd_3 : decode cX0_doEnd 3 = .ok (.aload_n 0, 1) := dk_42 (dk_at dksX0_doEnd_0 3 rfl rfl)
theorem dX0_doEnd_4 : decode cX0_doEnd 4 = .ok (.getfield 199, 3) := dk_180 0 199 (dk_at dksX0_doEnd_0 4 rfl rfl)
theorem dX0_doEnd_7 : decode cX0_doEnd 7 = .ok (.getfield 232, 3) := dk_180 0 232 (dk_at dksX0_doEnd_0 7 rfl rfl)
theorem dX0_doEnd_10 : decode cX0_doEnd 10 = .ok (.iload_n 1, 1) := dk_27 (dk_at dksX0_doEnd_0 10 rfl rfl)
theorem dX0_doEnd_11 : decode cX0_doEnd 11 = .ok (.iaload, 1) := dk_46 (dk_at dksX0_doEnd_0 11 rfl rfl)
theorem dX0_doEnd_12 : decode cX0_doEnd 12 = .ok (.if_icmp .ge 48, 3) := dk_162 0 48 (dk_at dksX0_doEnd_0 12 rfl rfl)
theorem dX0_doEnd_15 : decode cX0_doEnd 15 = .ok (.aload_n 0, 1) := dk_42 (dk_at dksX0_doEnd_0 15 rfl rfl)
theorem dX0_doEnd_16 : decode cX0_doEnd 16 = .ok (.getfield 199, 3) := dk_180 0 199 (dk_at dksX0_doEnd_0 16 rfl rfl)
theorem dX0_doEnd_19 : decode cX0_doEnd 19 = .ok (.iload_n 1, 1) := dk_27 (dk_at dksX0_doEnd_0 19 rfl rfl)
theorem dX0_doEnd_20 : decode cX0_doEnd 20 = .ok (.iload_n 2, 1) := dk_28 (dk_at dksX0_doEnd_0 20 rfl rfl)
theorem dX0_doEnd_21 : decode cX0_doEnd 21 = .ok (.invokevirtual 308, 3) := dk_182 1 52 (dk_at dksX0_doEnd_0 21 rfl rfl)
theorem dX0_doEnd_24 : decode cX0_doEnd 24 = .ok (.invokestatic 311, 3) := dk_184 1 55 (dk_at dksX0_doEnd_1 0 rfl rfl)
theorem dX0_doEnd_27 : decode cX0_doEnd 27 = .ok (.ifCond .eq 27, 3) := dk_153 0 27 (dk_at dksX0_doEnd_1 3 rfl rfl)
theorem dX0_doEnd_30 : decode cX0_doEnd 30 = .ok (.aload_n 0, 1) := dk_42 (dk_at dksX0_doEnd_1 6 rfl rfl)
theorem dX0_doEnd_31 : decode cX0_doEnd 31 = .ok (.getfield 320, 3) := dk_180 1 64 (dk_at dksX0_doEnd_1 7 rfl rfl)
theorem dX0_doEnd_34 : decode cX0_doEnd 34 = .ok (.aload_n 0, 1) := dk_42 (dk_at dksX0_doEnd_1 10 rfl rfl)
theorem dX0_doEnd_35 : decode cX0_doEnd 35 = .ok (.getfield 199, 3) := dk_180 0 199 (dk_at dksX0_doEnd_1 11 rfl rfl)
theorem dX0_doEnd_38 : decode cX0_doEnd 38 = .ok (.iload_n 1, 1) := dk_27 (dk_at dksX0_doEnd_1 14 rfl rfl)
theorem dX0_doEnd_39 : decode cX0_doEnd 39 = .ok (.iload_n 2, 1) := dk_28 (dk_at dksX0_doEnd_1 15 rfl rfl)
theorem dX0_doEnd_40 : decode cX0_doEnd 40 = .ok (.invokevirtual 308, 3) := dk_182 1 52 (dk_at dksX0_doEnd_1 16 rfl rfl)
theorem dX0_doEnd_43 : decode cX0_doEnd 43 = .ok (.bipush 26, 2) := dk_16 26 (dk_at dksX0_doEnd_1 19 rfl rfl)
theorem dX0_doEnd_45 : decode cX0_doEnd 45 = .ok (.isub, 1) := dk_100 (dk_at dksX0_doEnd_1 21 rfl rfl)
theorem dX0_doEnd_46 : decode cX0_doEnd 46 = .ok (.invokestatic 211, 3) := dk_184 0 211 (dk_at dksX0_doEnd_2 0 rfl rfl)
theorem dX0_doEnd_49 : decode cX0_doEnd 49 = .ok (.ifCond .ne 5, 3) := dk_154 0 5 (dk_at dksX0_doEnd_2 3 rfl rfl)
theorem dX0_doEnd_52 : decode cX0_doEnd 52 = .ok (.iconst 0, 1) := dk_3 (dk_at dksX0_doEnd_2 6 rfl rfl)
theorem dX0_doEnd_53 : decode cX0_doEnd 53 = .ok (.ireturn, 1) := dk_172 (dk_at dksX0_doEnd_2 7 rfl rfl)
theorem dX0_doEnd_54 : decode cX0_doEnd 54 = .ok (.iinc 2 1, 3) := dk_132 2 1 (dk_at dksX0_doEnd_2 8 rfl rfl)
theorem dX0_doEnd_57 : decode cX0_doEnd 57 = .ok (.goto (-55), 3) := dk_167 255 201 (dk_at dksX0_doEnd_2 11 rfl rfl)
theorem dX0_doEnd_60 : decode cX0_doEnd 60 = .ok (.iconst 1, 1) := dk_4 (dk_at dksX0_doEnd_2 14 rfl rfl)
theorem dX0_doEnd_61 : decode cX0_doEnd 61 = .ok (.ireturn, 1) := dk_172 (dk_at dksX0_doEnd_2 15 rfl rfl)
abbrev cX0_rightCapitals : ByteArray := prog_1_method_28_code
def yX0_rightCapitals : MethodName := ⟨RX0, "rightCapitals", "(I)I"⟩
def dkwX0_rightCapitals_2 : List UInt8 := [167, 0, 4, 3, 128, 61, 132, 3, 1, 167, 255, 204, 28, 172]
abbrev dktX0_rightCapitals_2 : List UInt8 := dkwX0_rightCapitals_2 ++ []
def dkwX0_rightCapitals_1 : List UInt8 := [182, 1, 52, 184, 1, 55, 153, 0, 20, 4, 42, 180, 0, 199, 27, 29, 182, 1, 52, 16, 26, 100, 120]
abbrev dktX0_rightCapitals_1 : List UInt8 := dkwX0_rightCapitals_1 ++ dktX0_rightCapitals_2
def dkwX0_rightCapitals_0 : List UInt8 := [3, 61, 3, 62, 29, 42, 180, 0, 199, 180, 0, 232, 27, 46, 162, 0, 45, 28, 42, 180, 0, 199, 27, 29]
abbrev dktX0_rightCapitals_0 : List UInt8 := dkwX0_rightCapitals_0 ++ dktX0_rightCapitals_1
theorem dksX0_rightCapitals_0 : cX0_rightCapitals.data.toList.drop 0 = dktX0_rightCapitals_0 := by decide +kernel
theorem dksX0_rightCapitals_1 : cX0_rightCapitals.data.toList.drop 24 = dktX0_rightCapitals_1 := dk_seg dksX0_rightCapitals_0 24 rfl rfl
theorem dksX0_rightCapitals_2 : cX0_rightCapitals.data.toList.drop 47 = dktX0_rightCapitals_2 := dk_seg dksX0_rightCapitals_1 23 rfl rfl
theorem dX0_rightCapitals_0 : decode cX0_rightCapitals 0 = .ok (.iconst 0, 1) := dk_3 (dk_at dksX0_rightCapitals_0 0 rfl rfl)
theorem dX0_rightCapitals_1 : decode cX0_rightCapitals 1 = .ok (.istore_n 2, 1) := dk_61 (dk_at dksX0_rightCapitals_0 1 rfl rfl)
theorem dX0_rightCapitals_2 : decode cX0_rightCapitals 2 = .ok (.iconst 0, 1) := dk_3 (dk_at dksX0_rightCapitals_0 2 rfl rfl)
theorem dX0_rightCapitals_3 : decode cX0_rightCapitals 3 = .ok (.istore_n 3, 1) := dk_62 (dk_at dksX0_rightCapitals_0 3 rfl rfl)
theorem dX0_rightCapitals_4 : decode cX0_rightCapitals 4 = .ok (.iload_n 3, 1) := dk_29 (dk_at dksX0_rightCapitals_0 4 rfl rfl)
theorem dX0_rightCapitals_5 : decode cX0_rightCapitals 5 = .ok (.aload_n 0, 1) := dk_42 (dk_at dksX0_rightCapitals_0 5 rfl rfl)
theorem dX0_rightCapitals_6 : decode cX0_rightCapitals 6 = .ok (.getfield 199, 3) := dk_180 0 199 (dk_at dksX0_rightCapitals_0 6 rfl rfl)
theorem dX0_rightCapitals_9 : decode cX0_rightCapitals 9 = .ok (.getfield 232, 3) := dk_180 0 232 (dk_at dksX0_rightCapitals_0 9 rfl rfl)
theorem dX0_rightCapitals_12 : decode cX0_rightCapitals 12 = .ok (.iload_n 1, 1) := dk_27 (dk_at dksX0_rightCapitals_0 12 rfl rfl)
theorem dX0_rightCapitals_13 : decode cX0_rightCapitals 13 = .ok (.iaload, 1) := dk_46 (dk_at dksX0_rightCapitals_0 13 rfl rfl)
theorem dX0_rightCapitals_14 : decode cX0_rightCapitals 14 = .ok (.if_icmp .ge 45, 3) := dk_162 0 45 (dk_at dksX0_rightCapitals_0 14 rfl rfl)
theorem dX0_rightCapitals_17 : decode cX0_rightCapitals 17 = .ok (.iload_n 2, 1) := dk_28 (dk_at dksX0_rightCapitals_0 17 rfl rfl)
theorem dX0_rightCapitals_18 : decode cX0_rightCapitals 18 = .ok (.aload_n 0, 1) := dk_42 (dk_at dksX0_rightCapitals_0 18 rfl rfl)
theorem dX0_rightCapitals_19 : decode cX0_rightCapitals 19 = .ok (.getfield 199, 3) := dk_180 0 199 (dk_at dksX0_rightCapitals_0 19 rfl rfl)
theorem dX0_rightCapitals_22 : decode cX0_rightCapitals 22 = .ok (.iload_n 1, 1) := dk_27 (dk_at dksX0_rightCapitals_0 22 rfl rfl)
theorem dX0_rightCapitals_23 : decode cX0_rightCapitals 23 = .ok (.iload_n 3, 1) := dk_29 (dk_at dksX0_rightCapitals_0 23 rfl rfl)
theorem dX0_rightCapitals_24 : decode cX0_rightCapitals 24 = .ok (.invokevirtual 308, 3) := dk_182 1 52 (dk_at dksX0_rightCapitals_1 0 rfl rfl)
theorem dX0_rightCapitals_27 : decode cX0_rightCapitals 27 = .ok (.invokestatic 311, 3) := dk_184 1 55 (dk_at dksX0_rightCapitals_1 3 rfl rfl)
theorem dX0_rightCapitals_30 : decode cX0_rightCapitals 30 = .ok (.ifCond .eq 20, 3) := dk_153 0 20 (dk_at dksX0_rightCapitals_1 6 rfl rfl)
theorem dX0_rightCapitals_33 : decode cX0_rightCapitals 33 = .ok (.iconst 1, 1) := dk_4 (dk_at dksX0_rightCapitals_1 9 rfl rfl)
theorem dX0_rightCapitals_34 : decode cX0_rightCapitals 34 = .ok (.aload_n 0, 1) := dk_42 (dk_at dksX0_rightCapitals_1 10 rfl rfl)
theorem dX0_rightCapitals_35 : decode cX0_rightCapitals 35 = .ok (.getfield 199, 3) := dk_180 0 199 (dk_at dksX0_rightCapitals_1 11 rfl rfl)
theorem dX0_rightCapitals_38 : decode cX0_rightCapitals 38 = .ok (.iload_n 1, 1) := dk_27 (dk_at dksX0_rightCapitals_1 14 rfl rfl)
theorem dX0_rightCapitals_39 : decode cX0_rightCapitals 39 = .ok (.iload_n 3, 1) := dk_29 (dk_at dksX0_rightCapitals_1 15 rfl rfl)
theorem dX0_rightCapitals_40 : decode cX0_rightCapitals 40 = .ok (.invokevirtual 308, 3) := dk_182 1 52 (dk_at dksX0_rightCapitals_1 16 rfl rfl)
theorem dX0_rightCapitals_43 : decode cX0_rightCapitals 43 = .ok (.bipush 26, 2) := dk_16 26 (dk_at dksX0_rightCapitals_1 19 rfl rfl)
theorem dX0_rightCapitals_45 : decode cX0_rightCapitals 45 = .ok (.isub, 1) := dk_100 (dk_at dksX0_rightCapitals_1 21 rfl rfl)
theorem dX0_rightCapitals_46 : decode cX0_rightCapitals 46 = .ok (.ishl, 1) := dk_120 (dk_at dksX0_rightCapitals_1 22 rfl rfl)
theorem dX0_rightCapitals_47 : decode cX0_rightCapitals 47 = .ok (.goto 4, 3) := dk_167 0 4 (dk_at dksX0_rightCapitals_2 0 rfl rfl)
theorem dX0_rightCapitals_50 : decode cX0_rightCapitals 50 = .ok (.iconst 0, 1) := dk_3 (dk_at dksX0_rightCapitals_2 3 rfl rfl)
theorem dX0_rightCapitals_51 : decode cX0_rightCapitals 51 = .ok (.ior, 1) := dk_128 (dk_at dksX0_rightCapitals_2 4 rfl rfl)
theorem dX0_rightCapitals_52 : decode cX0_rightCapitals 52 = .ok (.istore_n 2, 1) := dk_61 (dk_at dksX0_rightCapitals_2 5 rfl rfl)
theorem dX0_rightCapitals_53 : decode cX0_rightCapitals 53 = .ok (.iinc 3 1, 3) := dk_132 3 1 (dk_at dksX0_rightCapitals_2 6 rfl rfl)
theorem dX0_rightCapitals_56 : decode cX0_rightCapitals 56 = .ok (.goto (-52), 3) := dk_167 255 204 (dk_at dksX0_rightCapitals_2 9 rfl rfl)
theorem dX0_rightCapitals_59 : decode cX0_rightCapitals 59 = .ok (.iload_n 2, 1) := dk_28 (dk_at dksX0_rightCapitals_2 12 rfl rfl)
theorem dX0_rightCapitals_60 : decode cX0_rightCapitals 60 = .ok (.ireturn, 1) := dk_172 (dk_at dksX0_rightCapitals_2 13 rfl rfl)
abbrev cX0_firstsFrom : ByteArray := prog_1_method_29_code
def yX0_firstsFrom : MethodName := ⟨RX0, "firstsFrom", "(II)I"⟩
def dkwX0_firstsFrom_3 : List UInt8 := [132, 4, 1, 167, 255, 188, 29, 172]
abbrev dktX0_firstsFrom_3 : List UInt8 := dkwX0_firstsFrom_3 ++ []
def dkwX0_firstsFrom_2 : List UInt8 := [100, 46, 167, 0, 7, 4, 21, 5, 120, 128, 62, 42, 21, 5, 182, 1, 61, 154, 0, 5, 29, 172]
abbrev dktX0_firstsFrom_2 : List UInt8 := dkwX0_firstsFrom_2 ++ dktX0_firstsFrom_3
def dkwX0_firstsFrom_1 : List UInt8 := [21, 4, 182, 1, 52, 54, 5, 29, 21, 5, 184, 1, 55, 153, 0, 16, 42, 180, 0, 53, 21, 5, 16, 26]
abbrev dktX0_firstsFrom_1 : List UInt8 := dkwX0_firstsFrom_1 ++ dktX0_firstsFrom_2
def dkwX0_firstsFrom_0 : List UInt8 := [3, 62, 28, 54, 4, 21, 4, 42, 180, 0, 199, 180, 0, 232, 27, 46, 162, 0, 60, 42, 180, 0, 199, 27]
abbrev dktX0_firstsFrom_0 : List UInt8 := dkwX0_firstsFrom_0 ++ dktX0_firstsFrom_1
theorem dksX0_firstsFrom_0 : cX0_firstsFrom.data.toList.drop 0 = dktX0_firstsFrom_0 := by decide +kernel
theorem dksX0_firstsFrom_1 : cX0_firstsFrom.data.toList.drop 24 = dktX0_firstsFrom_1 := dk_seg dksX0_firstsFrom_0 24 rfl rfl
theorem dksX0_firstsFrom_2 : cX0_firstsFrom.data.toList.drop 48 = dktX0_firstsFrom_2 := dk_seg dksX0_firstsFrom_1 24 rfl rfl
theorem dksX0_firstsFrom_3 : cX0_firstsFrom.data.toList.drop 70 = dktX0_firstsFrom_3 := dk_seg dksX0_firstsFrom_2 22 rfl rfl
theorem dX0_firstsFrom_0 : decode cX0_firstsFrom 0 = .ok (.iconst 0, 1) := dk_3 (dk_at dksX0_firstsFrom_0 0 rfl rfl)
theorem dX0_firstsFrom_1 : decode cX0_firstsFrom 1 = .ok (.istore_n 3, 1) := dk_62 (dk_at dksX0_firstsFrom_0 1 rfl rfl)
theorem dX0_firstsFrom_2 : decode cX0_firstsFrom 2 = .ok (.iload_n 2, 1) := dk_28 (dk_at dksX0_firstsFrom_0 2 rfl rfl)
theorem dX0_firstsFrom_3 : decode cX0_firstsFrom 3 = .ok (.istore 4, 2) := dk_54 4 (dk_at dksX0_firstsFrom_0 3 rfl rfl)
theorem dX0_firstsFrom_5 : decode cX0_firstsFrom 5 = .ok (.iload 4, 2) := dk_21 4 (dk_at dksX0_firstsFrom_0 5 rfl rfl)
theorem dX0_firstsFrom_7 : decode cX0_firstsFrom 7 = .ok (.aload_n 0, 1) := dk_42 (dk_at dksX0_firstsFrom_0 7 rfl rfl)
theorem dX0_firstsFrom_8 : decode cX0_firstsFrom 8 = .ok (.getfield 199, 3) := dk_180 0 199 (dk_at dksX0_firstsFrom_0 8 rfl rfl)
theorem dX0_firstsFrom_11 : decode cX0_firstsFrom 11 = .ok (.getfield 232, 3) := dk_180 0 232 (dk_at dksX0_firstsFrom_0 11 rfl rfl)
theorem dX0_firstsFrom_14 : decode cX0_firstsFrom 14 = .ok (.iload_n 1, 1) := dk_27 (dk_at dksX0_firstsFrom_0 14 rfl rfl)
theorem dX0_firstsFrom_15 : decode cX0_firstsFrom 15 = .ok (.iaload, 1) := dk_46 (dk_at dksX0_firstsFrom_0 15 rfl rfl)
theorem dX0_firstsFrom_16 : decode cX0_firstsFrom 16 = .ok (.if_icmp .ge 60, 3) := dk_162 0 60 (dk_at dksX0_firstsFrom_0 16 rfl rfl)
theorem dX0_firstsFrom_19 : decode cX0_firstsFrom 19 = .ok (.aload_n 0, 1) := dk_42 (dk_at dksX0_firstsFrom_0 19 rfl rfl)
theorem dX0_firstsFrom_20 : decode cX0_firstsFrom 20 = .ok (.getfield 199, 3) := dk_180 0 199 (dk_at dksX0_firstsFrom_0 20 rfl rfl)
theorem dX0_firstsFrom_23 : decode cX0_firstsFrom 23 = .ok (.iload_n 1, 1) := dk_27 (dk_at dksX0_firstsFrom_0 23 rfl rfl)
theorem dX0_firstsFrom_24 : decode cX0_firstsFrom 24 = .ok (.iload 4, 2) := dk_21 4 (dk_at dksX0_firstsFrom_1 0 rfl rfl)
theorem dX0_firstsFrom_26 : decode cX0_firstsFrom 26 = .ok (.invokevirtual 308, 3) := dk_182 1 52 (dk_at dksX0_firstsFrom_1 2 rfl rfl)
theorem dX0_firstsFrom_29 : decode cX0_firstsFrom 29 = .ok (.istore 5, 2) := dk_54 5 (dk_at dksX0_firstsFrom_1 5 rfl rfl)
theorem dX0_firstsFrom_31 : decode cX0_firstsFrom 31 = .ok (.iload_n 3, 1) := dk_29 (dk_at dksX0_firstsFrom_1 7 rfl rfl)
theorem dX0_firstsFrom_32 : decode cX0_firstsFrom 32 = .ok (.iload 5, 2) := dk_21 5 (dk_at dksX0_firstsFrom_1 8 rfl rfl)
theorem dX0_firstsFrom_34 : decode cX0_firstsFrom 34 = .ok (.invokestatic 311, 3) := dk_184 1 55 (dk_at dksX0_firstsFrom_1 10 rfl rfl)
theorem dX0_firstsFrom_37 : decode cX0_firstsFrom 37 = .ok (.ifCond .eq 16, 3) := dk_153 0 16 (dk_at dksX0_firstsFrom_1 13 rfl rfl)
theorem dX0_firstsFrom_40 : decode cX0_firstsFrom 40 = .ok (.aload_n 0, 1) := dk_42 (dk_at dksX0_firstsFrom_1 16 rfl rfl)
theorem dX0_firstsFrom_41 : decode cX0_firstsFrom 41 = .ok (.getfield 53, 3) := dk_180 0 53 (dk_at dksX0_firstsFrom_1 17 rfl rfl)
theorem dX0_firstsFrom_44 : decode cX0_firstsFrom 44 = .ok (.iload 5, 2) := dk_21 5 (dk_at dksX0_firstsFrom_1 20 rfl rfl)
theorem dX0_firstsFrom_46 : decode cX0_firstsFrom 46 = .ok (.bipush 26, 2) := dk_16 26 (dk_at dksX0_firstsFrom_1 22 rfl rfl)
theorem dX0_firstsFrom_48 : decode cX0_firstsFrom 48 = .ok (.isub, 1) := dk_100 (dk_at dksX0_firstsFrom_2 0 rfl rfl)
theorem dX0_firstsFrom_49 : decode cX0_firstsFrom 49 = .ok (.iaload, 1) := dk_46 (dk_at dksX0_firstsFrom_2 1 rfl rfl)
theorem dX0_firstsFrom_50 : decode cX0_firstsFrom 50 = .ok (.goto 7, 3) := dk_167 0 7 (dk_at dksX0_firstsFrom_2 2 rfl rfl)
theorem dX0_firstsFrom_53 : decode cX0_firstsFrom 53 = .ok (.iconst 1, 1) := dk_4 (dk_at dksX0_firstsFrom_2 5 rfl rfl)
theorem dX0_firstsFrom_54 : decode cX0_firstsFrom 54 = .ok (.iload 5, 2) := dk_21 5 (dk_at dksX0_firstsFrom_2 6 rfl rfl)
theorem dX0_firstsFrom_56 : decode cX0_firstsFrom 56 = .ok (.ishl, 1) := dk_120 (dk_at dksX0_firstsFrom_2 8 rfl rfl)
theorem dX0_firstsFrom_57 : decode cX0_firstsFrom 57 = .ok (.ior, 1) := dk_128 (dk_at dksX0_firstsFrom_2 9 rfl rfl)
theorem dX0_firstsFrom_58 : decode cX0_firstsFrom 58 = .ok (.istore_n 3, 1) := dk_62 (dk_at dksX0_firstsFrom_2 10 rfl rfl)
theorem dX0_firstsFrom_59 : decode cX0_firstsFrom 59 = .ok (.aload_n 0, 1) := dk_42 (dk_at dksX0_firstsFrom_2 11 rfl rfl)
theorem dX0_firstsFrom_60 : decode cX0_firstsFrom 60 = .ok (.iload 5, 2) := dk_21 5 (dk_at dksX0_firstsFrom_2 12 rfl rfl)
theorem dX0_firstsFrom_62 : decode cX0_firstsFrom 62 = .ok (.invokevirtual 317, 3) := dk_182 1 61 (dk_at dksX0_firstsFrom_2 14 rfl rfl)
theorem dX0_firstsFrom_65 : decode cX0_firstsFrom 65 = .ok (.ifCond .ne 5, 3) := dk_154 0 5 (dk_at dksX0_firstsFrom_2 17 rfl rfl)
theorem dX0_firstsFrom_68 : decode cX0_firstsFrom 68 = .ok (.iload_n 3, 1) := dk_29 (dk_at dksX0_firstsFrom_2 20 rfl rfl)
theorem dX0_firstsFrom_69 : decode cX0_firstsFrom 69 = .ok (.ireturn, 1) := dk_172 (dk_at dksX0_firstsFrom_2 21 rfl rfl)
theorem dX0_firstsFrom_70 : decode cX0_firstsFrom 70 = .ok (.iinc 4 1, 3) := dk_132 4 1 (dk_at dksX0_firstsFrom_3 0 rfl rfl)
theorem dX0_firstsFrom_73 : decode cX0_firstsFrom 73 = .ok (.goto (-68), 3) := dk_167 255 188 (dk_at dksX0_firstsFrom_3 3 rfl rfl)
theorem dX0_firstsFrom_76 : decode cX0_firstsFrom 76 = .ok (.iload_n 3, 1) := dk_29 (dk_at dksX0_firstsFrom_3 6 rfl rfl)
theorem dX0_firstsFrom_77 : decode cX0_firstsFrom 77 = .ok (.ireturn, 1) := dk_172 (dk_at dksX0_firstsFrom_3 7 rfl rfl)
abbrev cX0_shortBy : ByteArray := prog_1_method_30_code
def yX0_shortBy : MethodName := ⟨RX0, "shortBy", "(I)I"⟩
def dkwX0_shortBy_2 : List UInt8 := [100, 46, 167, 0, 4, 4, 184, 1, 67, 61, 132, 3, 1, 167, 255, 199, 28, 172]
abbrev dktX0_shortBy_2 : List UInt8 := dkwX0_shortBy_2 ++ []
def dkwX0_shortBy_1 : List UInt8 := [182, 1, 52, 184, 1, 55, 153, 0, 23, 42, 180, 0, 59, 42, 180, 0, 199, 27, 29, 182, 1, 52, 16, 26]
abbrev dktX0_shortBy_1 : List UInt8 := dkwX0_shortBy_1 ++ dktX0_shortBy_2
def dkwX0_shortBy_0 : List UInt8 := [3, 61, 3, 62, 29, 42, 180, 0, 199, 180, 0, 232, 27, 46, 162, 0, 50, 28, 42, 180, 0, 199, 27, 29]
abbrev dktX0_shortBy_0 : List UInt8 := dkwX0_shortBy_0 ++ dktX0_shortBy_1
theorem dksX0_shortBy_0 : cX0_shortBy.data.toList.drop 0 = dktX0_shortBy_0 := by decide +kernel
theorem dksX0_shortBy_1 : cX0_shortBy.data.toList.drop 24 = dktX0_shortBy_1 := dk_seg dksX0_shortBy_0 24 rfl rfl
theorem dksX0_shortBy_2 : cX0_shortBy.data.toList.drop 48 = dktX0_shortBy_2 := dk_seg dksX0_shortBy_1 24 rfl rfl
theorem dX0_shortBy_0 : decode cX0_shortBy 0 = .ok (.iconst 0, 1) := dk_3 (dk_at dksX0_shortBy_0 0 rfl rfl)
theorem dX0_shortBy_1 : decode cX0_shortBy 1 = .ok (.istore_n 2, 1) := dk_61 (dk_at dksX0_shortBy_0 1 rfl rfl)
theorem dX0_shortBy_2 : decode cX0_shortBy 2 = .ok (.iconst 0, 1) := dk_3 (dk_at dksX0_shortBy_0 2 rfl rfl)
theorem dX0_shortBy_3 : decode cX0_shortBy 3 = .ok (.istore_n 3, 1) := dk_62 (dk_at dksX0_shortBy_0 3 rfl rfl)
theorem dX0_shortBy_4 : decode cX0_shortBy 4 = .ok (.iload_n 3, 1) := dk_29 (dk_at dksX0_shortBy_0 4 rfl rfl)
theorem dX0_shortBy_5 : decode cX0_shortBy 5 = .ok (.aload_n 0, 1) := dk_42 (dk_at dksX0_shortBy_0 5 rfl rfl)
theorem dX0_shortBy_6 : decode cX0_shortBy 6 = .ok (.getfield 199, 3) := dk_180 0 199 (dk_at dksX0_shortBy_0 6 rfl rfl)
theorem dX0_shortBy_9 : decode cX0_shortBy 9 = .ok (.getfield 232, 3) := dk_180 0 232 (dk_at dksX0_shortBy_0 9 rfl rfl)
theorem dX0_shortBy_12 : decode cX0_shortBy 12 = .ok (.iload_n 1, 1) := dk_27 (dk_at dksX0_shortBy_0 12 rfl rfl)
theorem dX0_shortBy_13 : decode cX0_shortBy 13 = .ok (.iaload, 1) := dk_46 (dk_at dksX0_shortBy_0 13 rfl rfl)
theorem dX0_shortBy_14 : decode cX0_shortBy 14 = .ok (.if_icmp .ge 50, 3) := dk_162 0 50 (dk_at dksX0_shortBy_0 14 rfl rfl)
theorem dX0_shortBy_17 : decode cX0_shortBy 17 = .ok (.iload_n 2, 1) := dk_28 (dk_at dksX0_shortBy_0 17 rfl rfl)
theorem dX0_shortBy_18 : decode cX0_shortBy 18 = .ok (.aload_n 0, 1) := dk_42 (dk_at dksX0_shortBy_0 18 rfl rfl)
theorem dX0_shortBy_19 : decode cX0_shortBy 19 = .ok (.getfield 199, 3) := dk_180 0 199 (dk_at dksX0_shortBy_0 19 rfl rfl)
theorem dX0_shortBy_22 : decode cX0_shortBy 22 = .ok (.iload_n 1, 1) := dk_27 (dk_at dksX0_shortBy_0 22 rfl rfl)
theorem dX0_shortBy_23 : decode cX0_shortBy 23 = .ok (.iload_n 3, 1) := dk_29 (dk_at dksX0_shortBy_0 23 rfl rfl)
theorem dX0_shortBy_24 : decode cX0_shortBy 24 = .ok (.invokevirtual 308, 3) := dk_182 1 52 (dk_at dksX0_shortBy_1 0 rfl rfl)
theorem dX0_shortBy_27 : decode cX0_shortBy 27 = .ok (.invokestatic 311, 3) := dk_184 1 55 (dk_at dksX0_shortBy_1 3 rfl rfl)
theorem dX0_shortBy_30 : decode cX0_shortBy 30 = .ok (.ifCond .eq 23, 3) := dk_153 0 23 (dk_at dksX0_shortBy_1 6 rfl rfl)
theorem dX0_shortBy_33 : decode cX0_shortBy 33 = .ok (.aload_n 0, 1) := dk_42 (dk_at dksX0_shortBy_1 9 rfl rfl)
theorem dX0_shortBy_34 : decode cX0_shortBy 34 = .ok (.getfield 59, 3) := dk_180 0 59 (dk_at dksX0_shortBy_1 10 rfl rfl)
theorem dX0_shortBy_37 : decode cX0_shortBy 37 = .ok (.aload_n 0, 1) := dk_42 (dk_at dksX0_shortBy_1 13 rfl rfl)
theorem dX0_shortBy_38 : decode cX0_shortBy 38 = .ok (.getfield 199, 3) := dk_180 0 199 (dk_at dksX0_shortBy_1 14 rfl rfl)
theorem dX0_shortBy_41 : decode cX0_shortBy 41 = .ok (.iload_n 1, 1) := dk_27 (dk_at dksX0_shortBy_1 17 rfl rfl)
theorem dX0_shortBy_42 : decode cX0_shortBy 42 = .ok (.iload_n 3, 1) := dk_29 (dk_at dksX0_shortBy_1 18 rfl rfl)
theorem dX0_shortBy_43 : decode cX0_shortBy 43 = .ok (.invokevirtual 308, 3) := dk_182 1 52 (dk_at dksX0_shortBy_1 19 rfl rfl)
theorem dX0_shortBy_46 : decode cX0_shortBy 46 = .ok (.bipush 26, 2) := dk_16 26 (dk_at dksX0_shortBy_1 22 rfl rfl)
theorem dX0_shortBy_48 : decode cX0_shortBy 48 = .ok (.isub, 1) := dk_100 (dk_at dksX0_shortBy_2 0 rfl rfl)
theorem dX0_shortBy_49 : decode cX0_shortBy 49 = .ok (.iaload, 1) := dk_46 (dk_at dksX0_shortBy_2 1 rfl rfl)
theorem dX0_shortBy_50 : decode cX0_shortBy 50 = .ok (.goto 4, 3) := dk_167 0 4 (dk_at dksX0_shortBy_2 2 rfl rfl)
theorem dX0_shortBy_53 : decode cX0_shortBy 53 = .ok (.iconst 1, 1) := dk_4 (dk_at dksX0_shortBy_2 5 rfl rfl)
theorem dX0_shortBy_54 : decode cX0_shortBy 54 = .ok (.invokestatic 323, 3) := dk_184 1 67 (dk_at dksX0_shortBy_2 6 rfl rfl)
theorem dX0_shortBy_57 : decode cX0_shortBy 57 = .ok (.istore_n 2, 1) := dk_61 (dk_at dksX0_shortBy_2 9 rfl rfl)
theorem dX0_shortBy_58 : decode cX0_shortBy 58 = .ok (.iinc 3 1, 3) := dk_132 3 1 (dk_at dksX0_shortBy_2 10 rfl rfl)
theorem dX0_shortBy_61 : decode cX0_shortBy 61 = .ok (.goto (-57), 3) := dk_167 255 199 (dk_at dksX0_shortBy_2 13 rfl rfl)
theorem dX0_shortBy_64 : decode cX0_shortBy 64 = .ok (.iload_n 2, 1) := dk_28 (dk_at dksX0_shortBy_2 16 rfl rfl)
theorem dX0_shortBy_65 : decode cX0_shortBy 65 = .ok (.ireturn, 1) := dk_172 (dk_at dksX0_shortBy_2 17 rfl rfl)
abbrev cX0_addsFollow : ByteArray := prog_1_method_32_code
def yX0_addsFollow : MethodName := ⟨RX0, "addsFollow", "(I)Z"⟩
def dkwX0_addsFollow_6 : List UInt8 := [167, 0, 4, 3, 128, 61, 42, 180, 0, 56, 21, 5, 21, 6, 79, 132, 4, 1, 167, 255, 114, 28, 172]
abbrev dktX0_addsFollow_6 : List UInt8 := dkwX0_addsFollow_6 ++ []
def dkwX0_addsFollow_5 : List UInt8 := [46, 167, 0, 4, 3, 128, 54, 6, 28, 21, 6, 42, 180, 0, 56, 21, 5, 46, 159, 0, 7, 4]
abbrev dktX0_addsFollow_5 : List UInt8 := dkwX0_addsFollow_5 ++ dktX0_addsFollow_6
def dkwX0_addsFollow_4 : List UInt8 := [21, 4, 4, 96, 42, 180, 0, 199, 180, 0, 232, 27, 46, 182, 1, 77, 153, 0, 12, 42, 180, 0, 56, 29]
abbrev dktX0_addsFollow_4 : List UInt8 := dkwX0_addsFollow_4 ++ dktX0_addsFollow_5
def dkwX0_addsFollow_3 : List UInt8 := [16, 26, 100, 54, 5, 42, 180, 0, 56, 21, 5, 46, 42, 27, 21, 4, 4, 96, 182, 1, 86, 128, 42, 27]
abbrev dktX0_addsFollow_3 : List UInt8 := dkwX0_addsFollow_3 ++ dktX0_addsFollow_4
def dkwX0_addsFollow_2 : List UInt8 := [21, 4, 182, 1, 52, 184, 1, 55, 154, 0, 6, 167, 0, 98, 42, 180, 0, 199, 27, 21, 4, 182, 1, 52]
abbrev dktX0_addsFollow_2 : List UInt8 := dkwX0_addsFollow_2 ++ dktX0_addsFollow_3
def dkwX0_addsFollow_1 : List UInt8 := [180, 0, 232, 27, 46, 162, 0, 134, 42, 180, 1, 74, 29, 184, 0, 211, 153, 0, 123, 42, 180, 0, 199, 27]
abbrev dktX0_addsFollow_1 : List UInt8 := dkwX0_addsFollow_1 ++ dktX0_addsFollow_2
def dkwX0_addsFollow_0 : List UInt8 := [3, 61, 42, 180, 0, 199, 180, 1, 49, 27, 46, 16, 26, 100, 62, 3, 54, 4, 21, 4, 42, 180, 0, 199]
abbrev dktX0_addsFollow_0 : List UInt8 := dkwX0_addsFollow_0 ++ dktX0_addsFollow_1
theorem dksX0_addsFollow_0 : cX0_addsFollow.data.toList.drop 0 = dktX0_addsFollow_0 := by decide +kernel
theorem dksX0_addsFollow_1 : cX0_addsFollow.data.toList.drop 24 = dktX0_addsFollow_1 := dk_seg dksX0_addsFollow_0 24 rfl rfl
theorem dksX0_addsFollow_2 : cX0_addsFollow.data.toList.drop 48 = dktX0_addsFollow_2 := dk_seg dksX0_addsFollow_1 24 rfl rfl
theorem dksX0_addsFollow_3 : cX0_addsFollow.data.toList.drop 72 = dktX0_addsFollow_3 := dk_seg dksX0_addsFollow_2 24 rfl rfl
theorem dksX0_addsFollow_4 : cX0_addsFollow.data.toList.drop 96 = dktX0_addsFollow_4 := dk_seg dksX0_addsFollow_3 24 rfl rfl
theorem dksX0_addsFollow_5 : cX0_addsFollow.data.toList.drop 120 = dktX0_addsFollow_5 := dk_seg dksX0_addsFollow_4 24 rfl rfl
theorem dksX0_addsFollow_6 : cX0_addsFollow.data.toList.drop 142 = dktX0_addsFollow_6 := dk_seg dksX0_addsFollow_5 22 rfl rfl
theorem dX0_addsFollow_0 : decode cX0_addsFollow 0 = .ok (.iconst 0, 1) := dk_3 (dk_at dksX0_addsFollow_0 0 rfl rfl)
theorem dX0_addsFollow_1 : decode cX0_addsFollow 1 = .ok (.istore_n 2, 1) := dk_61 (dk_at dksX0_addsFollow_0 1 rfl rfl)
theorem dX0_addsFollow_2 : decode cX0_addsFollow 2 = .ok (.aload_n 0, 1) := dk_42 (dk_at dksX0_addsFollow_0 2 rfl rfl)
theorem dX0_addsFollow_3 : decode cX0_addsFollow 3 = .ok (.getfield 199, 3) := dk_180 0 199 (dk_at dksX0_addsFollow_0 3 rfl rfl)
theorem dX0_addsFollow_6 : decode cX0_addsFollow 6 = .ok (.getfield 305, 3) := dk_180 1 49 (dk_at dksX0_addsFollow_0 6 rfl rfl)
theorem dX0_addsFollow_9 : decode cX0_addsFollow 9 = .ok (.iload_n 1, 1) := dk_27 (dk_at dksX0_addsFollow_0 9 rfl rfl)
theorem dX0_addsFollow_10 : decode cX0_addsFollow 10 = .ok (.iaload, 1) := dk_46 (dk_at dksX0_addsFollow_0 10 rfl rfl)
theorem dX0_addsFollow_11 : decode cX0_addsFollow 11 = .ok (.bipush 26, 2) := dk_16 26 (dk_at dksX0_addsFollow_0 11 rfl rfl)
theorem dX0_addsFollow_13 : decode cX0_addsFollow 13 = .ok (.isub, 1) := dk_100 (dk_at dksX0_addsFollow_0 13 rfl rfl)
theorem dX0_addsFollow_14 : decode cX0_addsFollow 14 = .ok (.istore_n 3, 1) := dk_62 (dk_at dksX0_addsFollow_0 14 rfl rfl)
theorem dX0_addsFollow_15 : decode cX0_addsFollow 15 = .ok (.iconst 0, 1) := dk_3 (dk_at dksX0_addsFollow_0 15 rfl rfl)
theorem dX0_addsFollow_16 : decode cX0_addsFollow 16 = .ok (.istore 4, 2) := dk_54 4 (dk_at dksX0_addsFollow_0 16 rfl rfl)
theorem dX0_addsFollow_18 : decode cX0_addsFollow 18 = .ok (.iload 4, 2) := dk_21 4 (dk_at dksX0_addsFollow_0 18 rfl rfl)
theorem dX0_addsFollow_20 : decode cX0_addsFollow 20 = .ok (.aload_n 0, 1) := dk_42 (dk_at dksX0_addsFollow_0 20 rfl rfl)
theorem dX0_addsFollow_21 : decode cX0_addsFollow 21 = .ok (.getfield 199, 3) := dk_180 0 199 (dk_at dksX0_addsFollow_0 21 rfl rfl)
theorem dX0_addsFollow_24 : decode cX0_addsFollow 24 = .ok (.getfield 232, 3) := dk_180 0 232 (dk_at dksX0_addsFollow_1 0 rfl rfl)
theorem dX0_addsFollow_27 : decode cX0_addsFollow 27 = .ok (.iload_n 1, 1) := dk_27 (dk_at dksX0_addsFollow_1 3 rfl rfl)
theorem dX0_addsFollow_28 : decode cX0_addsFollow 28 = .ok (.iaload, 1) := dk_46 (dk_at dksX0_addsFollow_1 4 rfl rfl)
theorem dX0_addsFollow_29 : decode cX0_addsFollow 29 = .ok (.if_icmp .ge 134, 3) := dk_162 0 134 (dk_at dksX0_addsFollow_1 5 rfl rfl)
theorem dX0_addsFollow_32 : decode cX0_addsFollow 32 = .ok (.aload_n 0, 1) := dk_42 (dk_at dksX0_addsFollow_1 8 rfl rfl)
theorem dX0_addsFollow_33 : decode cX0_addsFollow 33 = .ok (.getfield 330, 3) := dk_180 1 74 (dk_at dksX0_addsFollow_1 9 rfl rfl)
theorem dX0_addsFollow_36 : decode cX0_addsFollow 36 = .ok (.iload_n 3, 1) := dk_29 (dk_at dksX0_addsFollow_1 12 rfl rfl)
theorem dX0_addsFollow_37 : decode cX0_addsFollow 37 = .ok (.invokestatic 211, 3) := dk_184 0 211 (dk_at dksX0_addsFollow_1 13 rfl rfl)
theorem dX0_addsFollow_40 : decode cX0_addsFollow 40 = .ok (.ifCond .eq 123, 3) := dk_153 0 123 (dk_at dksX0_addsFollow_1 16 rfl rfl)
theorem dX0_addsFollow_43 : decode cX0_addsFollow 43 = .ok (.aload_n 0, 1) := dk_42 (dk_at dksX0_addsFollow_1 19 rfl rfl)
theorem dX0_addsFollow_44 : decode cX0_addsFollow 44 = .ok (.getfield 199, 3) := dk_180 0 199 (dk_at dksX0_addsFollow_1 20 rfl rfl)
theorem dX0_addsFollow_47 : decode cX0_addsFollow 47 = .ok (.iload_n 1, 1) := dk_27 (dk_at dksX0_addsFollow_1 23 rfl rfl)
theorem dX0_addsFollow_48 : decode cX0_addsFollow 48 = .ok (.iload 4, 2) := dk_21 4 (dk_at dksX0_addsFollow_2 0 rfl rfl)
theorem dX0_addsFollow_50 : decode cX0_addsFollow 50 = .ok (.invokevirtual 308, 3) := dk_182 1 52 (dk_at dksX0_addsFollow_2 2 rfl rfl)
theorem dX0_addsFollow_53 : decode cX0_addsFollow 53 = .ok (.invokestatic 311, 3) := dk_184 1 55 (dk_at dksX0_addsFollow_2 5 rfl rfl)
theorem dX0_addsFollow_56 : decode cX0_addsFollow 56 = .ok (.ifCond .ne 6, 3) := dk_154 0 6 (dk_at dksX0_addsFollow_2 8 rfl rfl)
theorem dX0_addsFollow_59 : decode cX0_addsFollow 59 = .ok (.goto 98, 3) := dk_167 0 98 (dk_at dksX0_addsFollow_2 11 rfl rfl)
theorem dX0_addsFollow_62 : decode cX0_addsFollow 62 = .ok (.aload_n 0, 1) := dk_42 (dk_at dksX0_addsFollow_2 14 rfl rfl)
theorem dX0_addsFollow_63 : decode cX0_addsFollow 63 = .ok (.getfield 199, 3) := dk_180 0 199 (dk_at dksX0_addsFollow_2 15 rfl rfl)
theorem dX0_addsFollow_66 : decode cX0_addsFollow 66 = .ok (.iload_n 1, 1) := dk_27 (dk_at dksX0_addsFollow_2 18 rfl rfl)
theorem dX0_addsFollow_67 : decode cX0_addsFollow 67 = .ok (.iload 4, 2) := dk_21 4 (dk_at dksX0_addsFollow_2 19 rfl rfl)
theorem dX0_addsFollow_69 : decode cX0_addsFollow 69 = .ok (.invokevirtual 308, 3) := dk_182 1 52 (dk_at dksX0_addsFollow_2 21 rfl rfl)
theorem dX0_addsFollow_72 : decode cX0_addsFollow 72 = .ok (.bipush 26, 2) := dk_16 26 (dk_at dksX0_addsFollow_3 0 rfl rfl)
theorem dX0_addsFollow_74 : decode cX0_addsFollow 74 = .ok (.isub, 1) := dk_100 (dk_at dksX0_addsFollow_3 2 rfl rfl)
theorem dX0_addsFollow_75 : decode cX0_addsFollow 75 = .ok (.istore 5, 2) := dk_54 5 (dk_at dksX0_addsFollow_3 3 rfl rfl)
theorem dX0_addsFollow_77 : decode cX0_addsFollow 77 = .ok (.aload_n 0, 1) := dk_42 (dk_at dksX0_addsFollow_3 5 rfl rfl)
theorem dX0_addsFollow_78 : decode cX0_addsFollow 78 = .ok (.getfield 56, 3) := dk_180 0 56 (dk_at dksX0_addsFollow_3 6 rfl rfl)
theorem dX0_addsFollow_81 : decode cX0_addsFollow 81 = .ok (.iload 5, 2) := dk_21 5 (dk_at dksX0_addsFollow_3 9 rfl rfl)
theorem dX0_addsFollow_83 : decode cX0_addsFollow 83 = .ok (.iaload, 1) := dk_46 (dk_at dksX0_addsFollow_3 11 rfl rfl)
theorem dX0_addsFollow_84 : decode cX0_addsFollow 84 = .ok (.aload_n 0, 1) := dk_42 (dk_at dksX0_addsFollow_3 12 rfl rfl)
theorem dX0_addsFollow_85 : decode cX0_addsFollow 85 = .ok (.iload_n 1, 1) := dk_27 (dk_at dksX0_addsFollow_3 13 rfl rfl)
theorem dX0_addsFollow_86 : decode cX0_addsFollow 86 = .ok (.iload 4, 2) := dk_21 4 (dk_at dksX0_addsFollow_3 14 rfl rfl)
theorem dX0_addsFollow_88 : decode cX0_addsFollow 88 = .ok (.iconst 1, 1) := dk_4 (dk_at dksX0_addsFollow_3 16 rfl rfl)
theorem dX0_addsFollow_89 : decode cX0_addsFollow 89 = .ok (.iadd, 1) := dk_96 (dk_at dksX0_addsFollow_3 17 rfl rfl)
theorem dX0_addsFollow_90 : decode cX0_addsFollow 90 = .ok (.invokevirtual 342, 3) := dk_182 1 86 (dk_at dksX0_addsFollow_3 18 rfl rfl)
theorem dX0_addsFollow_93 : decode cX0_addsFollow 93 = .ok (.ior, 1) := dk_128 (dk_at dksX0_addsFollow_3 21 rfl rfl)
theorem dX0_addsFollow_94 : decode cX0_addsFollow 94 = .ok (.aload_n 0, 1) := dk_42 (dk_at dksX0_addsFollow_3 22 rfl rfl)
theorem dX0_addsFollow_95 : decode cX0_addsFollow 95 = .ok (.iload_n 1, 1) := dk_27 (dk_at dksX0_addsFollow_3 23 rfl rfl)
theorem dX0_addsFollow_96 : decode cX0_addsFollow 96 = .ok (.iload 4, 2) := dk_21 4 (dk_at dksX0_addsFollow_4 0 rfl rfl)
theorem dX0_addsFollow_98 : decode cX0_addsFollow 98 = .ok (.iconst 1, 1) := dk_4 (dk_at dksX0_addsFollow_4 2 rfl rfl)
theorem dX0_addsFollow_99 : decode cX0_addsFollow 99 = .ok (.iadd, 1) := dk_96 (dk_at dksX0_addsFollow_4 3 rfl rfl)
theorem dX0_addsFollow_100 : decode cX0_addsFollow 100 = .ok (.aload_n 0, 1) := dk_42 (dk_at dksX0_addsFollow_4 4 rfl rfl)
theorem dX0_addsFollow_101 : decode cX0_addsFollow 101 = .ok (.getfield 199, 3) := dk_180 0 199 (dk_at dksX0_addsFollow_4 5 rfl rfl)
theorem dX0_addsFollow_104 : decode cX0_addsFollow 104 = .ok (.getfield 232, 3) := dk_180 0 232 (dk_at dksX0_addsFollow_4 8 rfl rfl)
theorem dX0_addsFollow_107 : decode cX0_addsFollow 107 = .ok (.iload_n 1, 1) := dk_27 (dk_at dksX0_addsFollow_4 11 rfl rfl)
theorem dX0_addsFollow_108 : decode cX0_addsFollow 108 = .ok (.iaload, 1) := dk_46 (dk_at dksX0_addsFollow_4 12 rfl rfl)
theorem dX0_addsFollow_109 : decode cX0_addsFollow 109 = .ok (.invokevirtual 333, 3) := dk_182 1 77 (dk_at dksX0_addsFollow_4 13 rfl rfl)
theorem dX0_addsFollow_112 : decode cX0_addsFollow 112 = .ok (.ifCond .eq 12, 3) := dk_153 0 12 (dk_at dksX0_addsFollow_4 16 rfl rfl)
theorem dX0_addsFollow_115 : decode cX0_addsFollow 115 = .ok (.aload_n 0, 1) := dk_42 (dk_at dksX0_addsFollow_4 19 rfl rfl)
theorem dX0_addsFollow_116 : decode cX0_addsFollow 116 = .ok (.getfield 56, 3) := dk_180 0 56 (dk_at dksX0_addsFollow_4 20 rfl rfl)
theorem dX0_addsFollow_119 : decode cX0_addsFollow 119 = .ok (.iload_n 3, 1) := dk_29 (dk_at dksX0_addsFollow_4 23 rfl rfl)
theorem dX0_addsFollow_120 : decode cX0_addsFollow 120 = .ok (.iaload, 1) := dk_46 (dk_at dksX0_addsFollow_5 0 rfl rfl)
theorem dX0_addsFollow_121 : decode cX0_addsFollow 121 = .ok (.goto 4, 3) := dk_167 0 4 (dk_at dksX0_addsFollow_5 1 rfl rfl)
theorem dX0_addsFollow_124 : decode cX0_addsFollow 124 = .ok (.iconst 0, 1) := dk_3 (dk_at dksX0_addsFollow_5 4 rfl rfl)
theorem dX0_addsFollow_125 : decode cX0_addsFollow 125 = .ok (.ior, 1) := dk_128 (dk_at dksX0_addsFollow_5 5 rfl rfl)
theorem dX0_addsFollow_126 : decode cX0_addsFollow 126 = .ok (.istore 6, 2) := dk_54 6 (dk_at dksX0_addsFollow_5 6 rfl rfl)
theorem dX0_addsFollow_128 : decode cX0_addsFollow 128 = .ok (.iload_n 2, 1) := dk_28 (dk_at dksX0_addsFollow_5 8 rfl rfl)
theorem dX0_addsFollow_129 : decode cX0_addsFollow 129 = .ok (.iload 6, 2) := dk_21 6 (dk_at dksX0_addsFollow_5 9 rfl rfl)
theorem dX0_addsFollow_131 : decode cX0_addsFollow 131 = .ok (.aload_n 0, 1) := dk_42 (dk_at dksX0_addsFollow_5 11 rfl rfl)
theorem dX0_addsFollow_132 : decode cX0_addsFollow 132 = .ok (.getfield 56, 3) := dk_180 0 56 (dk_at dksX0_addsFollow_5 12 rfl rfl)
theorem dX0_addsFollow_135 : decode cX0_addsFollow 135 = .ok (.iload 5, 2) := dk_21 5 (dk_at dksX0_addsFollow_5 15 rfl rfl)
theorem dX0_addsFollow_137 : decode cX0_addsFollow 137 = .ok (.iaload, 1) := dk_46 (dk_at dksX0_addsFollow_5 17 rfl rfl)
theorem dX0_addsFollow_138 : decode cX0_addsFollow 138 = .ok (.if_icmp .eq 7, 3) := dk_159 0 7 (dk_at dksX0_addsFollow_5 18 rfl rfl)
theorem dX0_addsFollow_141 : decode cX0_addsFollow 141 = .ok (.iconst 1, 1) := dk_4 (dk_at dksX0_addsFollow_5 21 rfl rfl)
theorem dX0_addsFollow_142 : decode cX0_addsFollow 142 = .ok (.goto 4, 3) := dk_167 0 4 (dk_at dksX0_addsFollow_6 0 rfl rfl)
theorem dX0_addsFollow_145 : decode cX0_addsFollow 145 = .ok (.iconst 0, 1) := dk_3 (dk_at dksX0_addsFollow_6 3 rfl rfl)
theorem dX0_addsFollow_146 : decode cX0_addsFollow 146 = .ok (.ior, 1) := dk_128 (dk_at dksX0_addsFollow_6 4 rfl rfl)
theorem dX0_addsFollow_147 : decode cX0_addsFollow 147 = .ok (.istore_n 2, 1) := dk_61 (dk_at dksX0_addsFollow_6 5 rfl rfl)
theorem dX0_addsFollow_148 : decode cX0_addsFollow 148 = .ok (.aload_n 0, 1) := dk_42 (dk_at dksX0_addsFollow_6 6 rfl rfl)
theorem dX0_addsFollow_149 : decode cX0_addsFollow 149 = .ok (.getfield 56, 3) := dk_180 0 56 (dk_at dksX0_addsFollow_6 7 rfl rfl)
theorem dX0_addsFollow_152 : decode cX0_addsFollow 152 = .ok (.iload 5, 2) := dk_21 5 (dk_at dksX0_addsFollow_6 10 rfl rfl)
theorem dX0_addsFollow_154 : decode cX0_addsFollow 154 = .ok (.iload 6, 2) := dk_21 6 (dk_at dksX0_addsFollow_6 12 rfl rfl)
theorem dX0_addsFollow_156 : decode cX0_addsFollow 156 = .ok (.iastore, 1) := dk_79 (dk_at dksX0_addsFollow_6 14 rfl rfl)
theorem dX0_addsFollow_157 : decode cX0_addsFollow 157 = .ok (.iinc 4 1, 3) := dk_132 4 1 (dk_at dksX0_addsFollow_6 15 rfl rfl)
theorem dX0_addsFollow_160 : decode cX0_addsFollow 160 = .ok (.goto (-142), 3) := dk_167 255 114 (dk_at dksX0_addsFollow_6 18 rfl rfl)
theorem dX0_addsFollow_163 : decode cX0_addsFollow 163 = .ok (.iload_n 2, 1) := dk_28 (dk_at dksX0_addsFollow_6 21 rfl rfl)
theorem dX0_addsFollow_164 : decode cX0_addsFollow 164 = .ok (.ireturn, 1) := dk_172 (dk_at dksX0_addsFollow_6 22 rfl rfl)
abbrev cX0_comesBack : ByteArray := prog_1_method_34_code
def yX0_comesBack : MethodName := ⟨RX0, "comesBack", "(IZ)Z"⟩
def dkwX0_comesBack_2 : List UInt8 := [132, 5, 1, 167, 255, 227, 132, 4, 1, 167, 255, 212, 29, 27, 184, 0, 211, 172]
abbrev dktX0_comesBack_2 : List UInt8 := dkwX0_comesBack_2 ++ []
def dkwX0_comesBack_1 : List UInt8 := [162, 0, 28, 29, 21, 5, 184, 0, 211, 153, 0, 13, 29, 42, 21, 5, 28, 182, 1, 98, 128, 62]
abbrev dktX0_comesBack_1 : List UInt8 := dkwX0_comesBack_1 ++ dktX0_comesBack_2
def dkwX0_comesBack_0 : List UInt8 := [42, 27, 28, 182, 1, 98, 62, 3, 54, 4, 21, 4, 8, 162, 0, 44, 3, 54, 5, 21, 5, 16, 26]
abbrev dktX0_comesBack_0 : List UInt8 := dkwX0_comesBack_0 ++ dktX0_comesBack_1
theorem dksX0_comesBack_0 : cX0_comesBack.data.toList.drop 0 = dktX0_comesBack_0 := by decide +kernel
theorem dksX0_comesBack_1 : cX0_comesBack.data.toList.drop 23 = dktX0_comesBack_1 := dk_seg dksX0_comesBack_0 23 rfl rfl
theorem dksX0_comesBack_2 : cX0_comesBack.data.toList.drop 45 = dktX0_comesBack_2 := dk_seg dksX0_comesBack_1 22 rfl rfl
theorem dX0_comesBack_0 : decode cX0_comesBack 0 = .ok (.aload_n 0, 1) := dk_42 (dk_at dksX0_comesBack_0 0 rfl rfl)
theorem dX0_comesBack_1 : decode cX0_comesBack 1 = .ok (.iload_n 1, 1) := dk_27 (dk_at dksX0_comesBack_0 1 rfl rfl)
theorem dX0_comesBack_2 : decode cX0_comesBack 2 = .ok (.iload_n 2, 1) := dk_28 (dk_at dksX0_comesBack_0 2 rfl rfl)
theorem dX0_comesBack_3 : decode cX0_comesBack 3 = .ok (.invokevirtual 354, 3) := dk_182 1 98 (dk_at dksX0_comesBack_0 3 rfl rfl)
theorem dX0_comesBack_6 : decode cX0_comesBack 6 = .ok (.istore_n 3, 1) := dk_62 (dk_at dksX0_comesBack_0 6 rfl rfl)
theorem dX0_comesBack_7 : decode cX0_comesBack 7 = .ok (.iconst 0, 1) := dk_3 (dk_at dksX0_comesBack_0 7 rfl rfl)
theorem dX0_comesBack_8 : decode cX0_comesBack 8 = .ok (.istore 4, 2) := dk_54 4 (dk_at dksX0_comesBack_0 8 rfl rfl)
theorem dX0_comesBack_10 : decode cX0_comesBack 10 = .ok (.iload 4, 2) := dk_21 4 (dk_at dksX0_comesBack_0 10 rfl rfl)
theorem dX0_comesBack_12 : decode cX0_comesBack 12 = .ok (.iconst 5, 1) := dk_8 (dk_at dksX0_comesBack_0 12 rfl rfl)
theorem dX0_comesBack_13 : decode cX0_comesBack 13 = .ok (.if_icmp .ge 44, 3) := dk_162 0 44 (dk_at dksX0_comesBack_0 13 rfl rfl)
theorem dX0_comesBack_16 : decode cX0_comesBack 16 = .ok (.iconst 0, 1) := dk_3 (dk_at dksX0_comesBack_0 16 rfl rfl)
theorem dX0_comesBack_17 : decode cX0_comesBack 17 = .ok (.istore 5, 2) := dk_54 5 (dk_at dksX0_comesBack_0 17 rfl rfl)
theorem dX0_comesBack_19 : decode cX0_comesBack 19 = .ok (.iload 5, 2) := dk_21 5 (dk_at dksX0_comesBack_0 19 rfl rfl)
theorem dX0_comesBack_21 : decode cX0_comesBack 21 = .ok (.bipush 26, 2) := dk_16 26 (dk_at dksX0_comesBack_0 21 rfl rfl)
theorem dX0_comesBack_23 : decode cX0_comesBack 23 = .ok (.if_icmp .ge 28, 3) := dk_162 0 28 (dk_at dksX0_comesBack_1 0 rfl rfl)
theorem dX0_comesBack_26 : decode cX0_comesBack 26 = .ok (.iload_n 3, 1) := dk_29 (dk_at dksX0_comesBack_1 3 rfl rfl)
theorem dX0_comesBack_27 : decode cX0_comesBack 27 = .ok (.iload 5, 2) := dk_21 5 (dk_at dksX0_comesBack_1 4 rfl rfl)
theorem dX0_comesBack_29 : decode cX0_comesBack 29 = .ok (.invokestatic 211, 3) := dk_184 0 211 (dk_at dksX0_comesBack_1 6 rfl rfl)
theorem dX0_comesBack_32 : decode cX0_comesBack 32 = .ok (.ifCond .eq 13, 3) := dk_153 0 13 (dk_at dksX0_comesBack_1 9 rfl rfl)
theorem dX0_comesBack_35 : decode cX0_comesBack 35 = .ok (.iload_n 3, 1) := dk_29 (dk_at dksX0_comesBack_1 12 rfl rfl)
theorem dX0_comesBack_36 : decode cX0_comesBack 36 = .ok (.aload_n 0, 1) := dk_42 (dk_at dksX0_comesBack_1 13 rfl rfl)
theorem dX0_comesBack_37 : decode cX0_comesBack 37 = .ok (.iload 5, 2) := dk_21 5 (dk_at dksX0_comesBack_1 14 rfl rfl)
theorem dX0_comesBack_39 : decode cX0_comesBack 39 = .ok (.iload_n 2, 1) := dk_28 (dk_at dksX0_comesBack_1 16 rfl rfl)
theorem dX0_comesBack_40 : decode cX0_comesBack 40 = .ok (.invokevirtual 354, 3) := dk_182 1 98 (dk_at dksX0_comesBack_1 17 rfl rfl)
theorem dX0_comesBack_43 : decode cX0_comesBack 43 = .ok (.ior, 1) := dk_128 (dk_at dksX0_comesBack_1 20 rfl rfl)
theorem dX0_comesBack_44 : decode cX0_comesBack 44 = .ok (.istore_n 3, 1) := dk_62 (dk_at dksX0_comesBack_1 21 rfl rfl)
theorem dX0_comesBack_45 : decode cX0_comesBack 45 = .ok (.iinc 5 1, 3) := dk_132 5 1 (dk_at dksX0_comesBack_2 0 rfl rfl)
theorem dX0_comesBack_48 : decode cX0_comesBack 48 = .ok (.goto (-29), 3) := dk_167 255 227 (dk_at dksX0_comesBack_2 3 rfl rfl)
theorem dX0_comesBack_51 : decode cX0_comesBack 51 = .ok (.iinc 4 1, 3) := dk_132 4 1 (dk_at dksX0_comesBack_2 6 rfl rfl)
theorem dX0_comesBack_54 : decode cX0_comesBack 54 = .ok (.goto (-44), 3) := dk_167 255 212 (dk_at dksX0_comesBack_2 9 rfl rfl)
theorem dX0_comesBack_57 : decode cX0_comesBack 57 = .ok (.iload_n 3, 1) := dk_29 (dk_at dksX0_comesBack_2 12 rfl rfl)
theorem dX0_comesBack_58 : decode cX0_comesBack 58 = .ok (.iload_n 1, 1) := dk_27 (dk_at dksX0_comesBack_2 13 rfl rfl)
theorem dX0_comesBack_59 : decode cX0_comesBack 59 = .ok (.invokestatic 211, 3) := dk_184 0 211 (dk_at dksX0_comesBack_2 14 rfl rfl)
theorem dX0_comesBack_62 : decode cX0_comesBack 62 = .ok (.ireturn, 1) := dk_172 (dk_at dksX0_comesBack_2 17 rfl rfl)
abbrev cX0_stepsFrom : ByteArray := prog_1_method_33_code
def yX0_stepsFrom : MethodName := ⟨RX0, "stepsFrom", "(IZ)I"⟩
def dkwX0_stepsFrom_6 : List UInt8 := [132, 5, 1, 167, 255, 163, 132, 4, 1, 167, 255, 113, 29, 172]
abbrev dktX0_stepsFrom_6 : List UInt8 := dkwX0_stepsFrom_6 ++ []
def dkwX0_stepsFrom_5 : List UInt8 := [153, 0, 22, 29, 4, 42, 180, 0, 199, 21, 4, 21, 5, 182, 1, 52, 16, 26, 100, 120, 128, 62]
abbrev dktX0_stepsFrom_5 : List UInt8 := dkwX0_stepsFrom_5 ++ dktX0_stepsFrom_6
def dkwX0_stepsFrom_4 : List UInt8 := [153, 0, 26, 42, 21, 4, 21, 5, 4, 96, 42, 180, 0, 199, 180, 0, 232, 21, 4, 46, 182, 1, 77]
abbrev dktX0_stepsFrom_4 : List UInt8 := dkwX0_stepsFrom_4 ++ dktX0_stepsFrom_5
def dkwX0_stepsFrom_3 : List UInt8 := [182, 1, 77, 153, 0, 72, 42, 180, 0, 199, 21, 4, 21, 5, 182, 1, 52, 184, 1, 55, 153, 0, 49, 28]
abbrev dktX0_stepsFrom_3 : List UInt8 := dkwX0_stepsFrom_3 ++ dktX0_stepsFrom_4
def dkwX0_stepsFrom_2 : List UInt8 := [54, 5, 21, 5, 42, 180, 0, 199, 180, 0, 232, 21, 4, 46, 162, 0, 84, 42, 21, 4, 3, 21, 5]
abbrev dktX0_stepsFrom_2 : List UInt8 := dkwX0_stepsFrom_2 ++ dktX0_stepsFrom_3
def dkwX0_stepsFrom_1 : List UInt8 := [153, 0, 122, 42, 180, 0, 199, 180, 1, 49, 21, 4, 46, 16, 26, 100, 27, 159, 0, 6, 167, 0, 102, 3]
abbrev dktX0_stepsFrom_1 : List UInt8 := dkwX0_stepsFrom_1 ++ dktX0_stepsFrom_2
def dkwX0_stepsFrom_0 : List UInt8 := [3, 62, 3, 54, 4, 21, 4, 42, 180, 0, 199, 180, 0, 203, 162, 0, 137, 42, 21, 4, 182, 1, 95]
abbrev dktX0_stepsFrom_0 : List UInt8 := dkwX0_stepsFrom_0 ++ dktX0_stepsFrom_1
theorem dksX0_stepsFrom_0 : cX0_stepsFrom.data.toList.drop 0 = dktX0_stepsFrom_0 := by decide +kernel
theorem dksX0_stepsFrom_1 : cX0_stepsFrom.data.toList.drop 23 = dktX0_stepsFrom_1 := dk_seg dksX0_stepsFrom_0 23 rfl rfl
theorem dksX0_stepsFrom_2 : cX0_stepsFrom.data.toList.drop 47 = dktX0_stepsFrom_2 := dk_seg dksX0_stepsFrom_1 24 rfl rfl
theorem dksX0_stepsFrom_3 : cX0_stepsFrom.data.toList.drop 70 = dktX0_stepsFrom_3 := dk_seg dksX0_stepsFrom_2 23 rfl rfl
theorem dksX0_stepsFrom_4 : cX0_stepsFrom.data.toList.drop 94 = dktX0_stepsFrom_4 := dk_seg dksX0_stepsFrom_3 24 rfl rfl
theorem dksX0_stepsFrom_5 : cX0_stepsFrom.data.toList.drop 117 = dktX0_stepsFrom_5 := dk_seg dksX0_stepsFrom_4 23 rfl rfl
theorem dksX0_stepsFrom_6 : cX0_stepsFrom.data.toList.drop 139 = dktX0_stepsFrom_6 := dk_seg dksX0_stepsFrom_5 22 rfl rfl
theorem dX0_stepsFrom_0 : decode cX0_stepsFrom 0 = .ok (.iconst 0, 1) := dk_3 (dk_at dksX0_stepsFrom_0 0 rfl rfl)
theorem dX0_stepsFrom_1 : decode cX0_stepsFrom 1 = .ok (.istore_n 3, 1) := dk_62 (dk_at dksX0_stepsFrom_0 1 rfl rfl)
theorem dX0_stepsFrom_2 : decode cX0_stepsFrom 2 = .ok (.iconst 0, 1) := dk_3 (dk_at dksX0_stepsFrom_0 2 rfl rfl)
theorem dX0_stepsFrom_3 : decode cX0_stepsFrom 3 = .ok (.istore 4, 2) := dk_54 4 (dk_at dksX0_stepsFrom_0 3 rfl rfl)
theorem dX0_stepsFrom_5 : decode cX0_stepsFrom 5 = .ok (.iload 4, 2) := dk_21 4 (dk_at dksX0_stepsFrom_0 5 rfl rfl)
theorem dX0_stepsFrom_7 : decode cX0_stepsFrom 7 = .ok (.aload_n 0, 1) := dk_42 (dk_at dksX0_stepsFrom_0 7 rfl rfl)
theorem dX0_stepsFrom_8 : decode cX0_stepsFrom 8 = .ok (.getfield 199, 3) := dk_180 0 199 (dk_at dksX0_stepsFrom_0 8 rfl rfl)
theorem dX0_stepsFrom_11 : decode cX0_stepsFrom 11 = .ok (.getfield 203, 3) := dk_180 0 203 (dk_at dksX0_stepsFrom_0 11 rfl rfl)
theorem dX0_stepsFrom_14 : decode cX0_stepsFrom 14 = .ok (.if_icmp .ge 137, 3) := dk_162 0 137 (dk_at dksX0_stepsFrom_0 14 rfl rfl)
theorem dX0_stepsFrom_17 : decode cX0_stepsFrom 17 = .ok (.aload_n 0, 1) := dk_42 (dk_at dksX0_stepsFrom_0 17 rfl rfl)
theorem dX0_stepsFrom_18 : decode cX0_stepsFrom 18 = .ok (.iload 4, 2) := dk_21 4 (dk_at dksX0_stepsFrom_0 18 rfl rfl)
theorem dX0_stepsFrom_20 : decode cX0_stepsFrom 20 = .ok (.invokevirtual 351, 3) := dk_182 1 95 (dk_at dksX0_stepsFrom_0 20 rfl rfl)
theorem dX0_stepsFrom_23 : decode cX0_stepsFrom 23 = .ok (.ifCond .eq 122, 3) := dk_153 0 122 (dk_at dksX0_stepsFrom_1 0 rfl rfl)
theorem dX0_stepsFrom_26 : decode cX0_stepsFrom 26 = .ok (.aload_n 0, 1) := dk_42 (dk_at dksX0_stepsFrom_1 3 rfl rfl)
theorem dX0_stepsFrom_27 : decode cX0_stepsFrom 27 = .ok (.getfield 199, 3) := dk_180 0 199 (dk_at dksX0_stepsFrom_1 4 rfl rfl)
theorem dX0_stepsFrom_30 : decode cX0_stepsFrom 30 = .ok (.getfield 305, 3) := dk_180 1 49 (dk_at dksX0_stepsFrom_1 7 rfl rfl)
theorem dX0_stepsFrom_33 : decode cX0_stepsFrom 33 = .ok (.iload 4, 2) := dk_21 4 (dk_at dksX0_stepsFrom_1 10 rfl rfl)
theorem dX0_stepsFrom_35 : decode cX0_stepsFrom 35 = .ok (.iaload, 1) := dk_46 (dk_at dksX0_stepsFrom_1 12 rfl rfl)
theorem dX0_stepsFrom_36 : decode cX0_stepsFrom 36 = .ok (.bipush 26, 2) := dk_16 26 (dk_at dksX0_stepsFrom_1 13 rfl rfl)
theorem dX0_stepsFrom_38 : decode cX0_stepsFrom 38 = .ok (.isub, 1) := dk_100 (dk_at dksX0_stepsFrom_1 15 rfl rfl)
theorem dX0_stepsFrom_39 : decode cX0_stepsFrom 39 = .ok (.iload_n 1, 1) := dk_27 (dk_at dksX0_stepsFrom_1 16 rfl rfl)
theorem dX0_stepsFrom_40 : decode cX0_stepsFrom 40 = .ok (.if_icmp .eq 6, 3) := dk_159 0 6 (dk_at dksX0_stepsFrom_1 17 rfl rfl)
theorem dX0_stepsFrom_43 : decode cX0_stepsFrom 43 = .ok (.goto 102, 3) := dk_167 0 102 (dk_at dksX0_stepsFrom_1 20 rfl rfl)
theorem dX0_stepsFrom_46 : decode cX0_stepsFrom 46 = .ok (.iconst 0, 1) := dk_3 (dk_at dksX0_stepsFrom_1 23 rfl rfl)
theorem dX0_stepsFrom_47 : decode cX0_stepsFrom 47 = .ok (.istore 5, 2) := dk_54 5 (dk_at dksX0_stepsFrom_2 0 rfl rfl)
theorem dX0_stepsFrom_49 : decode cX0_stepsFrom 49 = .ok (.iload 5, 2) := dk_21 5 (dk_at dksX0_stepsFrom_2 2 rfl rfl)
theorem dX0_stepsFrom_51 : decode cX0_stepsFrom 51 = .ok (.aload_n 0, 1) := dk_42 (dk_at dksX0_stepsFrom_2 4 rfl rfl)
theorem dX0_stepsFrom_52 : decode cX0_stepsFrom 52 = .ok (.getfield 199, 3) := dk_180 0 199 (dk_at dksX0_stepsFrom_2 5 rfl rfl)
theorem dX0_stepsFrom_55 : decode cX0_stepsFrom 55 = .ok (.getfield 232, 3) := dk_180 0 232 (dk_at dksX0_stepsFrom_2 8 rfl rfl)
theorem dX0_stepsFrom_58 : decode cX0_stepsFrom 58 = .ok (.iload 4, 2) := dk_21 4 (dk_at dksX0_stepsFrom_2 11 rfl rfl)
theorem dX0_stepsFrom_60 : decode cX0_stepsFrom 60 = .ok (.iaload, 1) := dk_46 (dk_at dksX0_stepsFrom_2 13 rfl rfl)
theorem dX0_stepsFrom_61 : decode cX0_stepsFrom 61 = .ok (.if_icmp .ge 84, 3) := dk_162 0 84 (dk_at dksX0_stepsFrom_2 14 rfl rfl)
theorem dX0_stepsFrom_64 : decode cX0_stepsFrom 64 = .ok (.aload_n 0, 1) := dk_42 (dk_at dksX0_stepsFrom_2 17 rfl rfl)
theorem dX0_stepsFrom_65 : decode cX0_stepsFrom 65 = .ok (.iload 4, 2) := dk_21 4 (dk_at dksX0_stepsFrom_2 18 rfl rfl)
theorem dX0_stepsFrom_67 : decode cX0_stepsFrom 67 = .ok (.iconst 0, 1) := dk_3 (dk_at dksX0_stepsFrom_2 20 rfl rfl)
theorem dX0_stepsFrom_68 : decode cX0_stepsFrom 68 = .ok (.iload 5, 2) := dk_21 5 (dk_at dksX0_stepsFrom_2 21 rfl rfl)
theorem dX0_stepsFrom_70 : decode cX0_stepsFrom 70 = .ok (.invokevirtual 333, 3) := dk_182 1 77 (dk_at dksX0_stepsFrom_3 0 rfl rfl)
theorem dX0_stepsFrom_73 : decode cX0_stepsFrom 73 = .ok (.ifCond .eq 72, 3) := dk_153 0 72 (dk_at dksX0_stepsFrom_3 3 rfl rfl)
theorem dX0_stepsFrom_76 : decode cX0_stepsFrom 76 = .ok (.aload_n 0, 1) := dk_42 (dk_at dksX0_stepsFrom_3 6 rfl rfl)
theorem dX0_stepsFrom_77 : decode cX0_stepsFrom 77 = .ok (.getfield 199, 3) := dk_180 0 199 (dk_at dksX0_stepsFrom_3 7 rfl rfl)
theorem dX0_stepsFrom_80 : decode cX0_stepsFrom 80 = .ok (.iload 4, 2) := dk_21 4 (dk_at dksX0_stepsFrom_3 10 rfl rfl)
theorem dX0_stepsFrom_82 : decode cX0_stepsFrom 82 = .ok (.iload 5, 2) := dk_21 5 (dk_at dksX0_stepsFrom_3 12 rfl rfl)
theorem dX0_stepsFrom_84 : decode cX0_stepsFrom 84 = .ok (.invokevirtual 308, 3) := dk_182 1 52 (dk_at dksX0_stepsFrom_3 14 rfl rfl)
theorem dX0_stepsFrom_87 : decode cX0_stepsFrom 87 = .ok (.invokestatic 311, 3) := dk_184 1 55 (dk_at dksX0_stepsFrom_3 17 rfl rfl)
theorem dX0_stepsFrom_90 : decode cX0_stepsFrom 90 = .ok (.ifCond .eq 49, 3) := dk_153 0 49 (dk_at dksX0_stepsFrom_3 20 rfl rfl)
theorem dX0_stepsFrom_93 : decode cX0_stepsFrom 93 = .ok (.iload_n 2, 1) := dk_28 (dk_at dksX0_stepsFrom_3 23 rfl rfl)
theorem dX0_stepsFrom_94 : decode cX0_stepsFrom 94 = .ok (.ifCond .eq 26, 3) := dk_153 0 26 (dk_at dksX0_stepsFrom_4 0 rfl rfl)
theorem dX0_stepsFrom_97 : decode cX0_stepsFrom 97 = .ok (.aload_n 0, 1) := dk_42 (dk_at dksX0_stepsFrom_4 3 rfl rfl)
theorem dX0_stepsFrom_98 : decode cX0_stepsFrom 98 = .ok (.iload 4, 2) := dk_21 4 (dk_at dksX0_stepsFrom_4 4 rfl rfl)
theorem dX0_stepsFrom_100 : decode cX0_stepsFrom 100 = .ok (.iload 5, 2) := dk_21 5 (dk_at dksX0_stepsFrom_4 6 rfl rfl)
theorem dX0_stepsFrom_102 : decode cX0_stepsFrom 102 = .ok (.iconst 1, 1) := dk_4 (dk_at dksX0_stepsFrom_4 8 rfl rfl)
theorem dX0_stepsFrom_103 : decode cX0_stepsFrom 103 = .ok (.iadd, 1) := dk_96 (dk_at dksX0_stepsFrom_4 9 rfl rfl)
theorem dX0_stepsFrom_104 : decode cX0_stepsFrom 104 = .ok (.aload_n 0, 1) := dk_42 (dk_at dksX0_stepsFrom_4 10 rfl rfl)
theorem dX0_stepsFrom_105 : decode cX0_stepsFrom 105 = .ok (.getfield 199, 3) := dk_180 0 199 (dk_at dksX0_stepsFrom_4 11 rfl rfl)
theorem dX0_stepsFrom_108 : decode cX0_stepsFrom 108 = .ok (.getfield 232, 3) := dk_180 0 232 (dk_at dksX0_stepsFrom_4 14 rfl rfl)
theorem dX0_stepsFrom_111 : decode cX0_stepsFrom 111 = .ok (.iload 4, 2) := dk_21 4 (dk_at dksX0_stepsFrom_4 17 rfl rfl)
theorem dX0_stepsFrom_113 : decode cX0_stepsFrom 113 = .ok (.iaload, 1) := dk_46 (dk_at dksX0_stepsFrom_4 19 rfl rfl)
theorem dX0_stepsFrom_114 : decode cX0_stepsFrom 114 = .ok (.invokevirtual 333, 3) := dk_182 1 77 (dk_at dksX0_stepsFrom_4 20 rfl rfl)
theorem dX0_stepsFrom_117 : decode cX0_stepsFrom 117 = .ok (.ifCond .eq 22, 3) := dk_153 0 22 (dk_at dksX0_stepsFrom_5 0 rfl rfl)
theorem dX0_stepsFrom_120 : decode cX0_stepsFrom 120 = .ok (.iload_n 3, 1) := dk_29 (dk_at dksX0_stepsFrom_5 3 rfl rfl)
theorem dX0_stepsFrom_121 : decode cX0_stepsFrom 121 = .ok (.iconst 1, 1) := dk_4 (dk_at dksX0_stepsFrom_5 4 rfl rfl)
theorem dX0_stepsFrom_122 : decode cX0_stepsFrom 122 = .ok (.aload_n 0, 1) := dk_42 (dk_at dksX0_stepsFrom_5 5 rfl rfl)
theorem dX0_stepsFrom_123 : decode cX0_stepsFrom 123 = .ok (.getfield 199, 3) := dk_180 0 199 (dk_at dksX0_stepsFrom_5 6 rfl rfl)
theorem dX0_stepsFrom_126 : decode cX0_stepsFrom 126 = .ok (.iload 4, 2) := dk_21 4 (dk_at dksX0_stepsFrom_5 9 rfl rfl)
theorem dX0_stepsFrom_128 : decode cX0_stepsFrom 128 = .ok (.iload 5, 2) := dk_21 5 (dk_at dksX0_stepsFrom_5 11 rfl rfl)
theorem dX0_stepsFrom_130 : decode cX0_stepsFrom 130 = .ok (.invokevirtual 308, 3) := dk_182 1 52 (dk_at dksX0_stepsFrom_5 13 rfl rfl)
theorem dX0_stepsFrom_133 : decode cX0_stepsFrom 133 = .ok (.bipush 26, 2) := dk_16 26 (dk_at dksX0_stepsFrom_5 16 rfl rfl)
theorem dX0_stepsFrom_135 : decode cX0_stepsFrom 135 = .ok (.isub, 1) := dk_100 (dk_at dksX0_stepsFrom_5 18 rfl rfl)
theorem dX0_stepsFrom_136 : decode cX0_stepsFrom 136 = .ok (.ishl, 1) := dk_120 (dk_at dksX0_stepsFrom_5 19 rfl rfl)
theorem dX0_stepsFrom_137 : decode cX0_stepsFrom 137 = .ok (.ior, 1) := dk_128 (dk_at dksX0_stepsFrom_5 20 rfl rfl)
theorem dX0_stepsFrom_138 : decode cX0_stepsFrom 138 = .ok (.istore_n 3, 1) := dk_62 (dk_at dksX0_stepsFrom_5 21 rfl rfl)
theorem dX0_stepsFrom_139 : decode cX0_stepsFrom 139 = .ok (.iinc 5 1, 3) := dk_132 5 1 (dk_at dksX0_stepsFrom_6 0 rfl rfl)
theorem dX0_stepsFrom_142 : decode cX0_stepsFrom 142 = .ok (.goto (-93), 3) := dk_167 255 163 (dk_at dksX0_stepsFrom_6 3 rfl rfl)
theorem dX0_stepsFrom_145 : decode cX0_stepsFrom 145 = .ok (.iinc 4 1, 3) := dk_132 4 1 (dk_at dksX0_stepsFrom_6 6 rfl rfl)
theorem dX0_stepsFrom_148 : decode cX0_stepsFrom 148 = .ok (.goto (-143), 3) := dk_167 255 113 (dk_at dksX0_stepsFrom_6 9 rfl rfl)
theorem dX0_stepsFrom_151 : decode cX0_stepsFrom 151 = .ok (.iload_n 3, 1) := dk_29 (dk_at dksX0_stepsFrom_6 12 rfl rfl)
theorem dX0_stepsFrom_152 : decode cX0_stepsFrom 152 = .ok (.ireturn, 1) := dk_172 (dk_at dksX0_stepsFrom_6 13 rfl rfl)
abbrev cX0_makesStates : ByteArray := prog_1_method_47_code
def yX0_makesStates : MethodName := ⟨RX0, "makesStates", "()Z"⟩
def dkwX0_makesStates_5 : List UInt8 := [163, 0, 7, 4, 167, 0, 4, 3, 172]
abbrev dktX0_makesStates_5 : List UInt8 := dkwX0_makesStates_5 ++ []
def dkwX0_makesStates_4 : List UInt8 := [33, 182, 1, 146, 79, 132, 2, 1, 167, 255, 202, 132, 1, 1, 167, 255, 175, 42, 180, 1, 143, 16, 90]
abbrev dktX0_makesStates_4 : List UInt8 := dkwX0_makesStates_4 ++ dktX0_makesStates_5
def dkwX0_makesStates_3 : List UInt8 := [180, 0, 66, 16, 52, 27, 104, 28, 184, 1, 150, 96, 33, 9, 148, 154, 0, 8, 16, 254, 167, 0, 8, 42]
abbrev dktX0_makesStates_3 : List UInt8 := dkwX0_makesStates_3 ++ dktX0_makesStates_4
def dkwX0_makesStates_2 : List UInt8 := [28, 16, 52, 162, 0, 54, 42, 42, 180, 0, 62, 27, 47, 28, 184, 1, 150, 182, 1, 153, 66, 42]
abbrev dktX0_makesStates_2 : List UInt8 := dkwX0_makesStates_2 ++ dktX0_makesStates_3
def dkwX0_makesStates_1 : List UInt8 := [87, 3, 60, 27, 42, 180, 1, 143, 162, 0, 79, 42, 180, 1, 143, 16, 90, 164, 0, 5, 3, 172, 3, 61]
abbrev dktX0_makesStates_1 : List UInt8 := dkwX0_makesStates_1 ++ dktX0_makesStates_2
def dkwX0_makesStates_0 : List UInt8 := [42, 3, 181, 1, 143, 42, 42, 42, 42, 180, 0, 199, 180, 1, 102, 182, 1, 135, 182, 1, 139, 182, 1, 146]
abbrev dktX0_makesStates_0 : List UInt8 := dkwX0_makesStates_0 ++ dktX0_makesStates_1
theorem dksX0_makesStates_0 : cX0_makesStates.data.toList.drop 0 = dktX0_makesStates_0 := by decide +kernel
theorem dksX0_makesStates_1 : cX0_makesStates.data.toList.drop 24 = dktX0_makesStates_1 := dk_seg dksX0_makesStates_0 24 rfl rfl
theorem dksX0_makesStates_2 : cX0_makesStates.data.toList.drop 48 = dktX0_makesStates_2 := dk_seg dksX0_makesStates_1 24 rfl rfl
theorem dksX0_makesStates_3 : cX0_makesStates.data.toList.drop 70 = dktX0_makesStates_3 := dk_seg dksX0_makesStates_2 22 rfl rfl
theorem dksX0_makesStates_4 : cX0_makesStates.data.toList.drop 94 = dktX0_makesStates_4 := dk_seg dksX0_makesStates_3 24 rfl rfl
theorem dksX0_makesStates_5 : cX0_makesStates.data.toList.drop 117 = dktX0_makesStates_5 := dk_seg dksX0_makesStates_4 23 rfl rfl
theorem dX0_makesStates_0 : decode cX0_makesStates 0 = .ok (.aload_n 0, 1) := dk_42 (dk_at dksX0_makesStates_0 0 rfl rfl)
theorem dX0_makesStates_1 : decode cX0_makesStates 1 = .ok (.iconst 0, 1) := dk_3 (dk_at dksX0_makesStates_0 1 rfl rfl)
theorem dX0_makesStates_2 : decode cX0_makesStates 2 = .ok (.putfield 399, 3) := dk_181 1 143 (dk_at dksX0_makesStates_0 2 rfl rfl)
theorem dX0_makesStates_5 : decode cX0_makesStates 5 = .ok (.aload_n 0, 1) := dk_42 (dk_at dksX0_makesStates_0 5 rfl rfl)
theorem dX0_makesStates_6 : decode cX0_makesStates 6 = .ok (.aload_n 0, 1) := dk_42 (dk_at dksX0_makesStates_0 6 rfl rfl)
theorem dX0_makesStates_7 : decode cX0_makesStates 7 = .ok (.aload_n 0, 1) := dk_42 (dk_at dksX0_makesStates_0 7 rfl rfl)
theorem dX0_makesStates_8 : decode cX0_makesStates 8 = .ok (.aload_n 0, 1) := dk_42 (dk_at dksX0_makesStates_0 8 rfl rfl)
theorem dX0_makesStates_9 : decode cX0_makesStates 9 = .ok (.getfield 199, 3) := dk_180 0 199 (dk_at dksX0_makesStates_0 9 rfl rfl)
theorem dX0_makesStates_12 : decode cX0_makesStates 12 = .ok (.getfield 358, 3) := dk_180 1 102 (dk_at dksX0_makesStates_0 12 rfl rfl)
theorem dX0_makesStates_15 : decode cX0_makesStates 15 = .ok (.invokevirtual 391, 3) := dk_182 1 135 (dk_at dksX0_makesStates_0 15 rfl rfl)
theorem dX0_makesStates_18 : decode cX0_makesStates 18 = .ok (.invokevirtual 395, 3) := dk_182 1 139 (dk_at dksX0_makesStates_0 18 rfl rfl)
theorem dX0_makesStates_21 : decode cX0_makesStates 21 = .ok (.invokevirtual 402, 3) := dk_182 1 146 (dk_at dksX0_makesStates_0 21 rfl rfl)
theorem dX0_makesStates_24 : decode cX0_makesStates 24 = .ok (.pop, 1) := dk_87 (dk_at dksX0_makesStates_1 0 rfl rfl)
theorem dX0_makesStates_25 : decode cX0_makesStates 25 = .ok (.iconst 0, 1) := dk_3 (dk_at dksX0_makesStates_1 1 rfl rfl)
theorem dX0_makesStates_26 : decode cX0_makesStates 26 = .ok (.istore_n 1, 1) := dk_60 (dk_at dksX0_makesStates_1 2 rfl rfl)
theorem dX0_makesStates_27 : decode cX0_makesStates 27 = .ok (.iload_n 1, 1) := dk_27 (dk_at dksX0_makesStates_1 3 rfl rfl)
theorem dX0_makesStates_28 : decode cX0_makesStates 28 = .ok (.aload_n 0, 1) := dk_42 (dk_at dksX0_makesStates_1 4 rfl rfl)
theorem dX0_makesStates_29 : decode cX0_makesStates 29 = .ok (.getfield 399, 3) := dk_180 1 143 (dk_at dksX0_makesStates_1 5 rfl rfl)
theorem dX0_makesStates_32 : decode cX0_makesStates 32 = .ok (.if_icmp .ge 79, 3) := dk_162 0 79 (dk_at dksX0_makesStates_1 8 rfl rfl)
theorem dX0_makesStates_35 : decode cX0_makesStates 35 = .ok (.aload_n 0, 1) := dk_42 (dk_at dksX0_makesStates_1 11 rfl rfl)
theorem dX0_makesStates_36 : decode cX0_makesStates 36 = .ok (.getfield 399, 3) := dk_180 1 143 (dk_at dksX0_makesStates_1 12 rfl rfl)
theorem dX0_makesStates_39 : decode cX0_makesStates 39 = .ok (.bipush 90, 2) := dk_16 90 (dk_at dksX0_makesStates_1 15 rfl rfl)
theorem dX0_makesStates_41 : decode cX0_makesStates 41 = .ok (.if_icmp .le 5, 3) := dk_164 0 5 (dk_at dksX0_makesStates_1 17 rfl rfl)
theorem dX0_makesStates_44 : decode cX0_makesStates 44 = .ok (.iconst 0, 1) := dk_3 (dk_at dksX0_makesStates_1 20 rfl rfl)
theorem dX0_makesStates_45 : decode cX0_makesStates 45 = .ok (.ireturn, 1) := dk_172 (dk_at dksX0_makesStates_1 21 rfl rfl)
theorem dX0_makesStates_46 : decode cX0_makesStates 46 = .ok (.iconst 0, 1) := dk_3 (dk_at dksX0_makesStates_1 22 rfl rfl)
theorem dX0_makesStates_47 : decode cX0_makesStates 47 = .ok (.istore_n 2, 1) := dk_61 (dk_at dksX0_makesStates_1 23 rfl rfl)
theorem dX0_makesStates_48 : decode cX0_makesStates 48 = .ok (.iload_n 2, 1) := dk_28 (dk_at dksX0_makesStates_2 0 rfl rfl)
theorem dX0_makesStates_49 : decode cX0_makesStates 49 = .ok (.bipush 52, 2) := dk_16 52 (dk_at dksX0_makesStates_2 1 rfl rfl)
theorem dX0_makesStates_51 : decode cX0_makesStates 51 = .ok (.if_icmp .ge 54, 3) := dk_162 0 54 (dk_at dksX0_makesStates_2 3 rfl rfl)
theorem dX0_makesStates_54 : decode cX0_makesStates 54 = .ok (.aload_n 0, 1) := dk_42 (dk_at dksX0_makesStates_2 6 rfl rfl)
theorem dX0_makesStates_55 : decode cX0_makesStates 55 = .ok (.aload_n 0, 1) := dk_42 (dk_at dksX0_makesStates_2 7 rfl rfl)
theorem dX0_makesStates_56 : decode cX0_makesStates 56 = .ok (.getfield 62, 3) := dk_180 0 62 (dk_at dksX0_makesStates_2 8 rfl rfl)
theorem dX0_makesStates_59 : decode cX0_makesStates 59 = .ok (.iload_n 1, 1) := dk_27 (dk_at dksX0_makesStates_2 11 rfl rfl)
theorem dX0_makesStates_60 : decode cX0_makesStates 60 = .ok (.laload, 1) := dk_47 (dk_at dksX0_makesStates_2 12 rfl rfl)
theorem dX0_makesStates_61 : decode cX0_makesStates 61 = .ok (.iload_n 2, 1) := dk_28 (dk_at dksX0_makesStates_2 13 rfl rfl)
theorem dX0_makesStates_62 : decode cX0_makesStates 62 = .ok (.invokestatic 406, 3) := dk_184 1 150 (dk_at dksX0_makesStates_2 14 rfl rfl)
theorem dX0_makesStates_65 : decode cX0_makesStates 65 = .ok (.invokevirtual 409, 3) := dk_182 1 153 (dk_at dksX0_makesStates_2 17 rfl rfl)
theorem dX0_makesStates_68 : decode cX0_makesStates 68 = .ok (.lstore_n 3, 1) := dk_66 (dk_at dksX0_makesStates_2 20 rfl rfl)
theorem dX0_makesStates_69 : decode cX0_makesStates 69 = .ok (.aload_n 0, 1) := dk_42 (dk_at dksX0_makesStates_2 21 rfl rfl)
theorem dX0_makesStates_70 : decode cX0_makesStates 70 = .ok (.getfield 66, 3) := dk_180 0 66 (dk_at dksX0_makesStates_3 0 rfl rfl)
theorem dX0_makesStates_73 : decode cX0_makesStates 73 = .ok (.bipush 52, 2) := dk_16 52 (dk_at dksX0_makesStates_3 3 rfl rfl)
theorem dX0_makesStates_75 : decode cX0_makesStates 75 = .ok (.iload_n 1, 1) := dk_27 (dk_at dksX0_makesStates_3 5 rfl rfl)
theorem dX0_makesStates_76 : decode cX0_makesStates 76 = .ok (.imul, 1) := dk_104 (dk_at dksX0_makesStates_3 6 rfl rfl)
theorem dX0_makesStates_77 : decode cX0_makesStates 77 = .ok (.iload_n 2, 1) := dk_28 (dk_at dksX0_makesStates_3 7 rfl rfl)
theorem dX0_makesStates_78 : decode cX0_makesStates 78 = .ok (.invokestatic 406, 3) := dk_184 1 150 (dk_at dksX0_makesStates_3 8 rfl rfl)
theorem dX0_makesStates_81 : decode cX0_makesStates 81 = .ok (.iadd, 1) := dk_96 (dk_at dksX0_makesStates_3 11 rfl rfl)
theorem dX0_makesStates_82 : decode cX0_makesStates 82 = .ok (.lload_n 3, 1) := dk_33 (dk_at dksX0_makesStates_3 12 rfl rfl)
theorem dX0_makesStates_83 : decode cX0_makesStates 83 = .ok (.lconst 0, 1) := dk_9 (dk_at dksX0_makesStates_3 13 rfl rfl)
theorem dX0_makesStates_84 : decode cX0_makesStates 84 = .ok (.lcmp, 1) := dk_148 (dk_at dksX0_makesStates_3 14 rfl rfl)
theorem dX0_makesStates_85 : decode cX0_makesStates 85 = .ok (.ifCond .ne 8, 3) := dk_154 0 8 (dk_at dksX0_makesStates_3 15 rfl rfl)
theorem dX0_makesStates_88 : decode cX0_makesStates 88 = .ok (.bipush (-2), 2) := dk_16 254 (dk_at dksX0_makesStates_3 18 rfl rfl)
theorem dX0_makesStates_90 : decode cX0_makesStates 90 = .ok (.goto 8, 3) := dk_167 0 8 (dk_at dksX0_makesStates_3 20 rfl rfl)
theorem dX0_makesStates_93 : decode cX0_makesStates 93 = .ok (.aload_n 0, 1) := dk_42 (dk_at dksX0_makesStates_3 23 rfl rfl)
theorem dX0_makesStates_94 : decode cX0_makesStates 94 = .ok (.lload_n 3, 1) := dk_33 (dk_at dksX0_makesStates_4 0 rfl rfl)
theorem dX0_makesStates_95 : decode cX0_makesStates 95 = .ok (.invokevirtual 402, 3) := dk_182 1 146 (dk_at dksX0_makesStates_4 1 rfl rfl)
theorem dX0_makesStates_98 : decode cX0_makesStates 98 = .ok (.iastore, 1) := dk_79 (dk_at dksX0_makesStates_4 4 rfl rfl)
theorem dX0_makesStates_99 : decode cX0_makesStates 99 = .ok (.iinc 2 1, 3) := dk_132 2 1 (dk_at dksX0_makesStates_4 5 rfl rfl)
theorem dX0_makesStates_102 : decode cX0_makesStates 102 = .ok (.goto (-54), 3) := dk_167 255 202 (dk_at dksX0_makesStates_4 8 rfl rfl)
theorem dX0_makesStates_105 : decode cX0_makesStates 105 = .ok (.iinc 1 1, 3) := dk_132 1 1 (dk_at dksX0_makesStates_4 11 rfl rfl)
theorem dX0_makesStates_108 : decode cX0_makesStates 108 = .ok (.goto (-81), 3) := dk_167 255 175 (dk_at dksX0_makesStates_4 14 rfl rfl)
theorem dX0_makesStates_111 : decode cX0_makesStates 111 = .ok (.aload_n 0, 1) := dk_42 (dk_at dksX0_makesStates_4 17 rfl rfl)
theorem dX0_makesStates_112 : decode cX0_makesStates 112 = .ok (.getfield 399, 3) := dk_180 1 143 (dk_at dksX0_makesStates_4 18 rfl rfl)
theorem dX0_makesStates_115 : decode cX0_makesStates 115 = .ok (.bipush 90, 2) := dk_16 90 (dk_at dksX0_makesStates_4 21 rfl rfl)
theorem dX0_makesStates_117 : decode cX0_makesStates 117 = .ok (.if_icmp .gt 7, 3) := dk_163 0 7 (dk_at dksX0_makesStates_5 0 rfl rfl)
theorem dX0_makesStates_120 : decode cX0_makesStates 120 = .ok (.iconst 1, 1) := dk_4 (dk_at dksX0_makesStates_5 3 rfl rfl)
theorem dX0_makesStates_121 : decode cX0_makesStates 121 = .ok (.goto 4, 3) := dk_167 0 4 (dk_at dksX0_makesStates_5 4 rfl rfl)
theorem dX0_makesStates_124 : decode cX0_makesStates 124 = .ok (.iconst 0, 1) := dk_3 (dk_at dksX0_makesStates_5 7 rfl rfl)
theorem dX0_makesStates_125 : decode cX0_makesStates 125 = .ok (.ireturn, 1) := dk_172 (dk_at dksX0_makesStates_5 8 rfl rfl)
abbrev cX0_rulesOf : ByteArray := prog_1_method_42_code
def yX0_rulesOf : MethodName := ⟨RX0, "rulesOf", "(I)J"⟩
def dkwX0_rulesOf_2 : List UInt8 := [129, 65, 132, 4, 1, 167, 255, 209, 32, 173]
abbrev dktX0_rulesOf_2 : List UInt8 := dkwX0_rulesOf_2 ++ []
def dkwX0_rulesOf_1 : List UInt8 := [153, 0, 26, 42, 180, 0, 199, 180, 1, 49, 21, 4, 46, 27, 160, 0, 12, 32, 21, 4, 3, 184, 1, 125]
abbrev dktX0_rulesOf_1 : List UInt8 := dkwX0_rulesOf_1 ++ dktX0_rulesOf_2
def dkwX0_rulesOf_0 : List UInt8 := [9, 65, 3, 54, 4, 21, 4, 42, 180, 0, 199, 180, 0, 203, 162, 0, 41, 42, 21, 4, 182, 1, 95]
abbrev dktX0_rulesOf_0 : List UInt8 := dkwX0_rulesOf_0 ++ dktX0_rulesOf_1
theorem dksX0_rulesOf_0 : cX0_rulesOf.data.toList.drop 0 = dktX0_rulesOf_0 := by decide +kernel
theorem dksX0_rulesOf_1 : cX0_rulesOf.data.toList.drop 23 = dktX0_rulesOf_1 := dk_seg dksX0_rulesOf_0 23 rfl rfl
theorem dksX0_rulesOf_2 : cX0_rulesOf.data.toList.drop 47 = dktX0_rulesOf_2 := dk_seg dksX0_rulesOf_1 24 rfl rfl
theorem dX0_rulesOf_0 : decode cX0_rulesOf 0 = .ok (.lconst 0, 1) := dk_9 (dk_at dksX0_rulesOf_0 0 rfl rfl)
theorem dX0_rulesOf_1 : decode cX0_rulesOf 1 = .ok (.lstore_n 2, 1) := dk_65 (dk_at dksX0_rulesOf_0 1 rfl rfl)
theorem dX0_rulesOf_2 : decode cX0_rulesOf 2 = .ok (.iconst 0, 1) := dk_3 (dk_at dksX0_rulesOf_0 2 rfl rfl)
theorem dX0_rulesOf_3 : decode cX0_rulesOf 3 = .ok (.istore 4, 2) := dk_54 4 (dk_at dksX0_rulesOf_0 3 rfl rfl)
theorem dX0_rulesOf_5 : decode cX0_rulesOf 5 = .ok (.iload 4, 2) := dk_21 4 (dk_at dksX0_rulesOf_0 5 rfl rfl)
theorem dX0_rulesOf_7 : decode cX0_rulesOf 7 = .ok (.aload_n 0, 1) := dk_42 (dk_at dksX0_rulesOf_0 7 rfl rfl)
theorem dX0_rulesOf_8 : decode cX0_rulesOf 8 = .ok (.getfield 199, 3) := dk_180 0 199 (dk_at dksX0_rulesOf_0 8 rfl rfl)
theorem dX0_rulesOf_11 : decode cX0_rulesOf 11 = .ok (.getfield 203, 3) := dk_180 0 203 (dk_at dksX0_rulesOf_0 11 rfl rfl)
theorem dX0_rulesOf_14 : decode cX0_rulesOf 14 = .ok (.if_icmp .ge 41, 3) := dk_162 0 41 (dk_at dksX0_rulesOf_0 14 rfl rfl)
theorem dX0_rulesOf_17 : decode cX0_rulesOf 17 = .ok (.aload_n 0, 1) := dk_42 (dk_at dksX0_rulesOf_0 17 rfl rfl)
theorem dX0_rulesOf_18 : decode cX0_rulesOf 18 = .ok (.iload 4, 2) := dk_21 4 (dk_at dksX0_rulesOf_0 18 rfl rfl)
theorem dX0_rulesOf_20 : decode cX0_rulesOf 20 = .ok (.invokevirtual 351, 3) := dk_182 1 95 (dk_at dksX0_rulesOf_0 20 rfl rfl)
theorem dX0_rulesOf_23 : decode cX0_rulesOf 23 = .ok (.ifCond .eq 26, 3) := dk_153 0 26 (dk_at dksX0_rulesOf_1 0 rfl rfl)
theorem dX0_rulesOf_26 : decode cX0_rulesOf 26 = .ok (.aload_n 0, 1) := dk_42 (dk_at dksX0_rulesOf_1 3 rfl rfl)
theorem dX0_rulesOf_27 : decode cX0_rulesOf 27 = .ok (.getfield 199, 3) := dk_180 0 199 (dk_at dksX0_rulesOf_1 4 rfl rfl)
theorem dX0_rulesOf_30 : decode cX0_rulesOf 30 = .ok (.getfield 305, 3) := dk_180 1 49 (dk_at dksX0_rulesOf_1 7 rfl rfl)
theorem dX0_rulesOf_33 : decode cX0_rulesOf 33 = .ok (.iload 4, 2) := dk_21 4 (dk_at dksX0_rulesOf_1 10 rfl rfl)
theorem dX0_rulesOf_35 : decode cX0_rulesOf 35 = .ok (.iaload, 1) := dk_46 (dk_at dksX0_rulesOf_1 12 rfl rfl)
theorem dX0_rulesOf_36 : decode cX0_rulesOf 36 = .ok (.iload_n 1, 1) := dk_27 (dk_at dksX0_rulesOf_1 13 rfl rfl)
theorem dX0_rulesOf_37 : decode cX0_rulesOf 37 = .ok (.if_icmp .ne 12, 3) := dk_160 0 12 (dk_at dksX0_rulesOf_1 14 rfl rfl)
theorem dX0_rulesOf_40 : decode cX0_rulesOf 40 = .ok (.lload_n 2, 1) := dk_32 (dk_at dksX0_rulesOf_1 17 rfl rfl)
theorem dX0_rulesOf_41 : decode cX0_rulesOf 41 = .ok (.iload 4, 2) := dk_21 4 (dk_at dksX0_rulesOf_1 18 rfl rfl)
theorem dX0_rulesOf_43 : decode cX0_rulesOf 43 = .ok (.iconst 0, 1) := dk_3 (dk_at dksX0_rulesOf_1 20 rfl rfl)
theorem dX0_rulesOf_44 : decode cX0_rulesOf 44 = .ok (.invokestatic 381, 3) := dk_184 1 125 (dk_at dksX0_rulesOf_1 21 rfl rfl)
theorem dX0_rulesOf_47 : decode cX0_rulesOf 47 = .ok (.lor, 1) := dk_129 (dk_at dksX0_rulesOf_2 0 rfl rfl)
theorem dX0_rulesOf_48 : decode cX0_rulesOf 48 = .ok (.lstore_n 2, 1) := dk_65 (dk_at dksX0_rulesOf_2 1 rfl rfl)
theorem dX0_rulesOf_49 : decode cX0_rulesOf 49 = .ok (.iinc 4 1, 3) := dk_132 4 1 (dk_at dksX0_rulesOf_2 2 rfl rfl)
theorem dX0_rulesOf_52 : decode cX0_rulesOf 52 = .ok (.goto (-47), 3) := dk_167 255 209 (dk_at dksX0_rulesOf_2 5 rfl rfl)
theorem dX0_rulesOf_55 : decode cX0_rulesOf 55 = .ok (.lload_n 2, 1) := dk_32 (dk_at dksX0_rulesOf_2 8 rfl rfl)
theorem dX0_rulesOf_56 : decode cX0_rulesOf 56 = .ok (.lreturn, 1) := dk_173 (dk_at dksX0_rulesOf_2 9 rfl rfl)
abbrev cX0_pointOf : ByteArray := prog_1_method_40_code
def yX0_pointOf : MethodName := ⟨RX0, "pointOf", "(II)J"⟩
def dkwX0_pointOf_0 : List UInt8 := [10, 8, 26, 104, 27, 96, 121, 173]
abbrev dktX0_pointOf_0 : List UInt8 := dkwX0_pointOf_0 ++ []
theorem dksX0_pointOf_0 : cX0_pointOf.data.toList.drop 0 = dktX0_pointOf_0 := by decide +kernel
theorem dX0_pointOf_0 : decode cX0_pointOf 0 = .ok (.lconst 1, 1) := dk_10 (dk_at dksX0_pointOf_0 0 rfl rfl)
theorem dX0_pointOf_1 : decode cX0_pointOf 1 = .ok (.iconst 5, 1) := dk_8 (dk_at dksX0_pointOf_0 1 rfl rfl)
theorem dX0_pointOf_2 : decode cX0_pointOf 2 = .ok (.iload_n 0, 1) := dk_26 (dk_at dksX0_pointOf_0 2 rfl rfl)
theorem dX0_pointOf_3 : decode cX0_pointOf 3 = .ok (.imul, 1) := dk_104 (dk_at dksX0_pointOf_0 3 rfl rfl)
theorem dX0_pointOf_4 : decode cX0_pointOf 4 = .ok (.iload_n 1, 1) := dk_27 (dk_at dksX0_pointOf_0 4 rfl rfl)
theorem dX0_pointOf_5 : decode cX0_pointOf 5 = .ok (.iadd, 1) := dk_96 (dk_at dksX0_pointOf_0 5 rfl rfl)
theorem dX0_pointOf_6 : decode cX0_pointOf 6 = .ok (.lshl, 1) := dk_121 (dk_at dksX0_pointOf_0 6 rfl rfl)
theorem dX0_pointOf_7 : decode cX0_pointOf 7 = .ok (.lreturn, 1) := dk_173 (dk_at dksX0_pointOf_0 7 rfl rfl)
abbrev cX0_closed : ByteArray := prog_1_method_43_code
def yX0_closed : MethodName := ⟨RX0, "closed", "(J)J"⟩
def dkwX0_closed_4 : List UInt8 := [182, 1, 135, 129, 66, 132, 8, 1, 167, 255, 190, 132, 7, 1, 167, 255, 169, 167, 255, 153, 33, 173]
abbrev dktX0_closed_4 : List UInt8 := dkwX0_closed_4 ++ []
def dkwX0_closed_3 : List UInt8 := [182, 1, 52, 184, 1, 55, 153, 0, 21, 33, 42, 42, 180, 0, 199, 21, 7, 21, 8, 182, 1, 52]
abbrev dktX0_closed_3 : List UInt8 := dkwX0_closed_3 ++ dktX0_closed_4
def dkwX0_closed_2 : List UInt8 := [162, 0, 57, 42, 22, 5, 21, 7, 21, 8, 182, 1, 131, 153, 0, 38, 42, 180, 0, 199, 21, 7, 21, 8]
abbrev dktX0_closed_2 : List UInt8 := dkwX0_closed_2 ++ dktX0_closed_3
def dkwX0_closed_1 : List UInt8 := [180, 0, 199, 180, 0, 203, 162, 0, 81, 3, 54, 8, 21, 8, 42, 180, 0, 199, 180, 0, 232, 21, 7, 46]
abbrev dktX0_closed_1 : List UInt8 := dkwX0_closed_1 ++ dktX0_closed_2
def dkwX0_closed_0 : List UInt8 := [31, 66, 20, 1, 129, 55, 5, 33, 22, 5, 148, 153, 0, 102, 33, 55, 5, 3, 54, 7, 21, 7, 42]
abbrev dktX0_closed_0 : List UInt8 := dkwX0_closed_0 ++ dktX0_closed_1
theorem dksX0_closed_0 : cX0_closed.data.toList.drop 0 = dktX0_closed_0 := by decide +kernel
theorem dksX0_closed_1 : cX0_closed.data.toList.drop 23 = dktX0_closed_1 := dk_seg dksX0_closed_0 23 rfl rfl
theorem dksX0_closed_2 : cX0_closed.data.toList.drop 47 = dktX0_closed_2 := dk_seg dksX0_closed_1 24 rfl rfl
theorem dksX0_closed_3 : cX0_closed.data.toList.drop 71 = dktX0_closed_3 := dk_seg dksX0_closed_2 24 rfl rfl
theorem dksX0_closed_4 : cX0_closed.data.toList.drop 93 = dktX0_closed_4 := dk_seg dksX0_closed_3 22 rfl rfl
theorem dX0_closed_0 : decode cX0_closed 0 = .ok (.lload_n 1, 1) := dk_31 (dk_at dksX0_closed_0 0 rfl rfl)
theorem dX0_closed_1 : decode cX0_closed 1 = .ok (.lstore_n 3, 1) := dk_66 (dk_at dksX0_closed_0 1 rfl rfl)
theorem dX0_closed_2 : decode cX0_closed 2 = .ok (.ldc2_w 385, 3) := dk_20 1 129 (dk_at dksX0_closed_0 2 rfl rfl)
theorem dX0_closed_5 : decode cX0_closed 5 = .ok (.lstore 5, 2) := dk_55 5 (dk_at dksX0_closed_0 5 rfl rfl)
theorem dX0_closed_7 : decode cX0_closed 7 = .ok (.lload_n 3, 1) := dk_33 (dk_at dksX0_closed_0 7 rfl rfl)
theorem dX0_closed_8 : decode cX0_closed 8 = .ok (.lload 5, 2) := dk_22 5 (dk_at dksX0_closed_0 8 rfl rfl)
theorem dX0_closed_10 : decode cX0_closed 10 = .ok (.lcmp, 1) := dk_148 (dk_at dksX0_closed_0 10 rfl rfl)
theorem dX0_closed_11 : decode cX0_closed 11 = .ok (.ifCond .eq 102, 3) := dk_153 0 102 (dk_at dksX0_closed_0 11 rfl rfl)
theorem dX0_closed_14 : decode cX0_closed 14 = .ok (.lload_n 3, 1) := dk_33 (dk_at dksX0_closed_0 14 rfl rfl)
theorem dX0_closed_15 : decode cX0_closed 15 = .ok (.lstore 5, 2) := dk_55 5 (dk_at dksX0_closed_0 15 rfl rfl)
theorem dX0_closed_17 : decode cX0_closed 17 = .ok (.iconst 0, 1) := dk_3 (dk_at dksX0_closed_0 17 rfl rfl)
theorem dX0_closed_18 : decode cX0_closed 18 = .ok (.istore 7, 2) := dk_54 7 (dk_at dksX0_closed_0 18 rfl rfl)
theorem dX0_closed_20 : decode cX0_closed 20 = .ok (.iload 7, 2) := dk_21 7 (dk_at dksX0_closed_0 20 rfl rfl)
theorem dX0_closed_22 : decode cX0_closed 22 = .ok (.aload_n 0, 1) := dk_42 (dk_at dksX0_closed_0 22 rfl rfl)
theorem dX0_closed_23 : decode cX0_closed 23 = .ok (.getfield 199, 3) := dk_180 0 199 (dk_at dksX0_closed_1 0 rfl rfl)
theorem dX0_closed_26 : decode cX0_closed 26 = .ok (.getfield 203, 3) := dk_180 0 203 (dk_at dksX0_closed_1 3 rfl rfl)
theorem dX0_closed_29 : decode cX0_closed 29 = .ok (.if_icmp .ge 81, 3) := dk_162 0 81 (dk_at dksX0_closed_1 6 rfl rfl)
theorem dX0_closed_32 : decode cX0_closed 32 = .ok (.iconst 0, 1) := dk_3 (dk_at dksX0_closed_1 9 rfl rfl)
theorem dX0_closed_33 : decode cX0_closed 33 = .ok (.istore 8, 2) := dk_54 8 (dk_at dksX0_closed_1 10 rfl rfl)
theorem dX0_closed_35 : decode cX0_closed 35 = .ok (.iload 8, 2) := dk_21 8 (dk_at dksX0_closed_1 12 rfl rfl)
theorem dX0_closed_37 : decode cX0_closed 37 = .ok (.aload_n 0, 1) := dk_42 (dk_at dksX0_closed_1 14 rfl rfl)
theorem dX0_closed_38 : decode cX0_closed 38 = .ok (.getfield 199, 3) := dk_180 0 199 (dk_at dksX0_closed_1 15 rfl rfl)
theorem dX0_closed_41 : decode cX0_closed 41 = .ok (.getfield 232, 3) := dk_180 0 232 (dk_at dksX0_closed_1 18 rfl rfl)
theorem dX0_closed_44 : decode cX0_closed 44 = .ok (.iload 7, 2) := dk_21 7 (dk_at dksX0_closed_1 21 rfl rfl)
theorem dX0_closed_46 : decode cX0_closed 46 = .ok (.iaload, 1) := dk_46 (dk_at dksX0_closed_1 23 rfl rfl)
theorem dX0_closed_47 : decode cX0_closed 47 = .ok (.if_icmp .ge 57, 3) := dk_162 0 57 (dk_at dksX0_closed_2 0 rfl rfl)
theorem dX0_closed_50 : decode cX0_closed 50 = .ok (.aload_n 0, 1) := dk_42 (dk_at dksX0_closed_2 3 rfl rfl)
theorem dX0_closed_51 : decode cX0_closed 51 = .ok (.lload 5, 2) := dk_22 5 (dk_at dksX0_closed_2 4 rfl rfl)
theorem dX0_closed_53 : decode cX0_closed 53 = .ok (.iload 7, 2) := dk_21 7 (dk_at dksX0_closed_2 6 rfl rfl)
theorem dX0_closed_55 : decode cX0_closed 55 = .ok (.iload 8, 2) := dk_21 8 (dk_at dksX0_closed_2 8 rfl rfl)
theorem dX0_closed_57 : decode cX0_closed 57 = .ok (.invokevirtual 387, 3) := dk_182 1 131 (dk_at dksX0_closed_2 10 rfl rfl)
theorem dX0_closed_60 : decode cX0_closed 60 = .ok (.ifCond .eq 38, 3) := dk_153 0 38 (dk_at dksX0_closed_2 13 rfl rfl)
theorem dX0_closed_63 : decode cX0_closed 63 = .ok (.aload_n 0, 1) := dk_42 (dk_at dksX0_closed_2 16 rfl rfl)
theorem dX0_closed_64 : decode cX0_closed 64 = .ok (.getfield 199, 3) := dk_180 0 199 (dk_at dksX0_closed_2 17 rfl rfl)
theorem dX0_closed_67 : decode cX0_closed 67 = .ok (.iload 7, 2) := dk_21 7 (dk_at dksX0_closed_2 20 rfl rfl)
theorem dX0_closed_69 : decode cX0_closed 69 = .ok (.iload 8, 2) := dk_21 8 (dk_at dksX0_closed_2 22 rfl rfl)
theorem dX0_closed_71 : decode cX0_closed 71 = .ok (.invokevirtual 308, 3) := dk_182 1 52 (dk_at dksX0_closed_3 0 rfl rfl)
theorem dX0_closed_74 : decode cX0_closed 74 = .ok (.invokestatic 311, 3) := dk_184 1 55 (dk_at dksX0_closed_3 3 rfl rfl)
theorem dX0_closed_77 : decode cX0_closed 77 = .ok (.ifCond .eq 21, 3) := dk_153 0 21 (dk_at dksX0_closed_3 6 rfl rfl)
theorem dX0_closed_80 : decode cX0_closed 80 = .ok (.lload_n 3, 1) := dk_33 (dk_at dksX0_closed_3 9 rfl rfl)
theorem dX0_closed_81 : decode cX0_closed 81 = .ok (.aload_n 0, 1) := dk_42 (dk_at dksX0_closed_3 10 rfl rfl)
theorem dX0_closed_82 : decode cX0_closed 82 = .ok (.aload_n 0, 1) := dk_42 (dk_at dksX0_closed_3 11 rfl rfl)
theorem dX0_closed_83 : decode cX0_closed 83 = .ok (.getfield 199, 3) := dk_180 0 199 (dk_at dksX0_closed_3 12 rfl rfl)
theorem dX0_closed_86 : decode cX0_closed 86 = .ok (.iload 7, 2) := dk_21 7 (dk_at dksX0_closed_3 15 rfl rfl)
theorem dX0_closed_88 : decode cX0_closed 88 = .ok (.iload 8, 2) := dk_21 8 (dk_at dksX0_closed_3 17 rfl rfl)
theorem dX0_closed_90 : decode cX0_closed 90 = .ok (.invokevirtual 308, 3) := dk_182 1 52 (dk_at dksX0_closed_3 19 rfl rfl)
theorem dX0_closed_93 : decode cX0_closed 93 = .ok (.invokevirtual 391, 3) := dk_182 1 135 (dk_at dksX0_closed_4 0 rfl rfl)
theorem dX0_closed_96 : decode cX0_closed 96 = .ok (.lor, 1) := dk_129 (dk_at dksX0_closed_4 3 rfl rfl)
theorem dX0_closed_97 : decode cX0_closed 97 = .ok (.lstore_n 3, 1) := dk_66 (dk_at dksX0_closed_4 4 rfl rfl)
theorem dX0_closed_98 : decode cX0_closed 98 = .ok (.iinc 8 1, 3) := dk_132 8 1 (dk_at dksX0_closed_4 5 rfl rfl)
theorem dX0_closed_101 : decode cX0_closed 101 = .ok (.goto (-66), 3) := dk_167 255 190 (dk_at dksX0_closed_4 8 rfl rfl)
theorem dX0_closed_104 : decode cX0_closed 104 = .ok (.iinc 7 1, 3) := dk_132 7 1 (dk_at dksX0_closed_4 11 rfl rfl)
theorem dX0_closed_107 : decode cX0_closed 107 = .ok (.goto (-87), 3) := dk_167 255 169 (dk_at dksX0_closed_4 14 rfl rfl)
theorem dX0_closed_110 : decode cX0_closed 110 = .ok (.goto (-103), 3) := dk_167 255 153 (dk_at dksX0_closed_4 17 rfl rfl)
theorem dX0_closed_113 : decode cX0_closed 113 = .ok (.lload_n 3, 1) := dk_33 (dk_at dksX0_closed_4 20 rfl rfl)
theorem dX0_closed_114 : decode cX0_closed 114 = .ok (.lreturn, 1) := dk_173 (dk_at dksX0_closed_4 21 rfl rfl)
abbrev cX0_hasPoint : ByteArray := prog_1_method_41_code
def yX0_hasPoint : MethodName := ⟨RX0, "hasPoint", "(JII)Z"⟩
def dkwX0_hasPoint_0 : List UInt8 := [31, 29, 21, 4, 184, 1, 125, 127, 9, 148, 153, 0, 7, 4, 167, 0, 4, 3, 172]
abbrev dktX0_hasPoint_0 : List UInt8 := dkwX0_hasPoint_0 ++ []
theorem dksX0_hasPoint_0 : cX0_hasPoint.data.toList.drop 0 = dktX0_hasPoint_0 := by decide +kernel
theorem dX0_hasPoint_0 : decode cX0_hasPoint 0 = .ok (.lload_n 1, 1) := dk_31 (dk_at dksX0_hasPoint_0 0 rfl rfl)
theorem dX0_hasPoint_1 : decode cX0_hasPoint 1 = .ok (.iload_n 3, 1) := dk_29 (dk_at dksX0_hasPoint_0 1 rfl rfl)
theorem dX0_hasPoint_2 : decode cX0_hasPoint 2 = .ok (.iload 4, 2) := dk_21 4 (dk_at dksX0_hasPoint_0 2 rfl rfl)
theorem dX0_hasPoint_4 : decode cX0_hasPoint 4 = .ok (.invokestatic 381, 3) := dk_184 1 125 (dk_at dksX0_hasPoint_0 4 rfl rfl)
theorem dX0_hasPoint_7 : decode cX0_hasPoint 7 = .ok (.land, 1) := dk_127 (dk_at dksX0_hasPoint_0 7 rfl rfl)
theorem dX0_hasPoint_8 : decode cX0_hasPoint 8 = .ok (.lconst 0, 1) := dk_9 (dk_at dksX0_hasPoint_0 8 rfl rfl)
theorem dX0_hasPoint_9 : decode cX0_hasPoint 9 = .ok (.lcmp, 1) := dk_148 (dk_at dksX0_hasPoint_0 9 rfl rfl)
theorem dX0_hasPoint_10 : decode cX0_hasPoint 10 = .ok (.ifCond .eq 7, 3) := dk_153 0 7 (dk_at dksX0_hasPoint_0 10 rfl rfl)
theorem dX0_hasPoint_13 : decode cX0_hasPoint 13 = .ok (.iconst 1, 1) := dk_4 (dk_at dksX0_hasPoint_0 13 rfl rfl)
theorem dX0_hasPoint_14 : decode cX0_hasPoint 14 = .ok (.goto 4, 3) := dk_167 0 4 (dk_at dksX0_hasPoint_0 14 rfl rfl)
theorem dX0_hasPoint_17 : decode cX0_hasPoint 17 = .ok (.iconst 0, 1) := dk_3 (dk_at dksX0_hasPoint_0 17 rfl rfl)
theorem dX0_hasPoint_18 : decode cX0_hasPoint 18 = .ok (.ireturn, 1) := dk_172 (dk_at dksX0_hasPoint_0 18 rfl rfl)
abbrev cX0_numberOf : ByteArray := prog_1_method_45_code
def yX0_numberOf : MethodName := ⟨RX0, "numberOf", "(J)I"⟩
def dkwX0_numberOf_2 : List UInt8 := [42, 180, 1, 143, 31, 80, 42, 89, 180, 1, 143, 4, 96, 181, 1, 143, 42, 180, 1, 143, 4, 100, 172]
abbrev dktX0_numberOf_2 : List UInt8 := dkwX0_numberOf_2 ++ []
def dkwX0_numberOf_1 : List UInt8 := [154, 0, 5, 29, 172, 132, 3, 1, 167, 255, 226, 42, 180, 1, 143, 16, 90, 163, 0, 13, 42, 180, 0, 62]
abbrev dktX0_numberOf_1 : List UInt8 := dkwX0_numberOf_1 ++ dktX0_numberOf_2
def dkwX0_numberOf_0 : List UInt8 := [3, 62, 29, 42, 180, 1, 143, 162, 0, 28, 29, 16, 90, 163, 0, 22, 42, 180, 0, 62, 29, 47, 31, 148]
abbrev dktX0_numberOf_0 : List UInt8 := dkwX0_numberOf_0 ++ dktX0_numberOf_1
theorem dksX0_numberOf_0 : cX0_numberOf.data.toList.drop 0 = dktX0_numberOf_0 := by decide +kernel
theorem dksX0_numberOf_1 : cX0_numberOf.data.toList.drop 24 = dktX0_numberOf_1 := dk_seg dksX0_numberOf_0 24 rfl rfl
theorem dksX0_numberOf_2 : cX0_numberOf.data.toList.drop 48 = dktX0_numberOf_2 := dk_seg dksX0_numberOf_1 24 rfl rfl
theorem dX0_numberOf_0 : decode cX0_numberOf 0 = .ok (.iconst 0, 1) := dk_3 (dk_at dksX0_numberOf_0 0 rfl rfl)
theorem dX0_numberOf_1 : decode cX0_numberOf 1 = .ok (.istore_n 3, 1) := dk_62 (dk_at dksX0_numberOf_0 1 rfl rfl)
theorem dX0_numberOf_2 : decode cX0_numberOf 2 = .ok (.iload_n 3, 1) := dk_29 (dk_at dksX0_numberOf_0 2 rfl rfl)
theorem dX0_numberOf_3 : decode cX0_numberOf 3 = .ok (.aload_n 0, 1) := dk_42 (dk_at dksX0_numberOf_0 3 rfl rfl)
theorem dX0_numberOf_4 : decode cX0_numberOf 4 = .ok (.getfield 399, 3) := dk_180 1 143 (dk_at dksX0_numberOf_0 4 rfl rfl)
theorem dX0_numberOf_7 : decode cX0_numberOf 7 = .ok (.if_icmp .ge 28, 3) := dk_162 0 28 (dk_at dksX0_numberOf_0 7 rfl rfl)
theorem dX0_numberOf_10 : decode cX0_numberOf 10 = .ok (.iload_n 3, 1) := dk_29 (dk_at dksX0_numberOf_0 10 rfl rfl)
theorem dX0_numberOf_11 : decode cX0_numberOf 11 = .ok (.bipush 90, 2) := dk_16 90 (dk_at dksX0_numberOf_0 11 rfl rfl)
theorem dX0_numberOf_13 : decode cX0_numberOf 13 = .ok (.if_icmp .gt 22, 3) := dk_163 0 22 (dk_at dksX0_numberOf_0 13 rfl rfl)
theorem dX0_numberOf_16 : decode cX0_numberOf 16 = .ok (.aload_n 0, 1) := dk_42 (dk_at dksX0_numberOf_0 16 rfl rfl)
theorem dX0_numberOf_17 : decode cX0_numberOf 17 = .ok (.getfield 62, 3) := dk_180 0 62 (dk_at dksX0_numberOf_0 17 rfl rfl)
theorem dX0_numberOf_20 : decode cX0_numberOf 20 = .ok (.iload_n 3, 1) := dk_29 (dk_at dksX0_numberOf_0 20 rfl rfl)
theorem dX0_numberOf_21 : decode cX0_numberOf 21 = .ok (.laload, 1) := dk_47 (dk_at dksX0_numberOf_0 21 rfl rfl)
theorem dX0_numberOf_22 : decode cX0_numberOf 22 = .ok (.lload_n 1, 1) := dk_31 (dk_at dksX0_numberOf_0 22 rfl rfl)
theorem dX0_numberOf_23 : decode cX0_numberOf 23 = .ok (.lcmp, 1) := dk_148 (dk_at dksX0_numberOf_0 23 rfl rfl)
theorem dX0_numberOf_24 : decode cX0_numberOf 24 = .ok (.ifCond .ne 5, 3) := dk_154 0 5 (dk_at dksX0_numberOf_1 0 rfl rfl)
theorem dX0_numberOf_27 : decode cX0_numberOf 27 = .ok (.iload_n 3, 1) := dk_29 (dk_at dksX0_numberOf_1 3 rfl rfl)
theorem dX0_numberOf_28 : decode cX0_numberOf 28 = .ok (.ireturn, 1) := dk_172 (dk_at dksX0_numberOf_1 4 rfl rfl)
theorem dX0_numberOf_29 : decode cX0_numberOf 29 = .ok (.iinc 3 1, 3) := dk_132 3 1 (dk_at dksX0_numberOf_1 5 rfl rfl)
theorem dX0_numberOf_32 : decode cX0_numberOf 32 = .ok (.goto (-30), 3) := dk_167 255 226 (dk_at dksX0_numberOf_1 8 rfl rfl)
theorem dX0_numberOf_35 : decode cX0_numberOf 35 = .ok (.aload_n 0, 1) := dk_42 (dk_at dksX0_numberOf_1 11 rfl rfl)
theorem dX0_numberOf_36 : decode cX0_numberOf 36 = .ok (.getfield 399, 3) := dk_180 1 143 (dk_at dksX0_numberOf_1 12 rfl rfl)
theorem dX0_numberOf_39 : decode cX0_numberOf 39 = .ok (.bipush 90, 2) := dk_16 90 (dk_at dksX0_numberOf_1 15 rfl rfl)
theorem dX0_numberOf_41 : decode cX0_numberOf 41 = .ok (.if_icmp .gt 13, 3) := dk_163 0 13 (dk_at dksX0_numberOf_1 17 rfl rfl)
theorem dX0_numberOf_44 : decode cX0_numberOf 44 = .ok (.aload_n 0, 1) := dk_42 (dk_at dksX0_numberOf_1 20 rfl rfl)
theorem dX0_numberOf_45 : decode cX0_numberOf 45 = .ok (.getfield 62, 3) := dk_180 0 62 (dk_at dksX0_numberOf_1 21 rfl rfl)
theorem dX0_numberOf_48 : decode cX0_numberOf 48 = .ok (.aload_n 0, 1) := dk_42 (dk_at dksX0_numberOf_2 0 rfl rfl)
theorem dX0_numberOf_49 : decode cX0_numberOf 49 = .ok (.getfield 399, 3) := dk_180 1 143 (dk_at dksX0_numberOf_2 1 rfl rfl)
theorem dX0_numberOf_52 : decode cX0_numberOf 52 = .ok (.lload_n 1, 1) := dk_31 (dk_at dksX0_numberOf_2 4 rfl rfl)
theorem dX0_numberOf_53 : decode cX0_numberOf 53 = .ok (.lastore, 1) := dk_80 (dk_at dksX0_numberOf_2 5 rfl rfl)
theorem dX0_numberOf_54 : decode cX0_numberOf 54 = .ok (.aload_n 0, 1) := dk_42 (dk_at dksX0_numberOf_2 6 rfl rfl)
theorem dX0_numberOf_55 : decode cX0_numberOf 55 = .ok (.dup, 1) := dk_89 (dk_at dksX0_numberOf_2 7 rfl rfl)
theorem dX0_numberOf_56 : decode cX0_numberOf 56 = .ok (.getfield 399, 3) := dk_180 1 143 (dk_at dksX0_numberOf_2 8 rfl rfl)
theorem dX0_numberOf_59 : decode cX0_numberOf 59 = .ok (.iconst 1, 1) := dk_4 (dk_at dksX0_numberOf_2 11 rfl rfl)
theorem dX0_numberOf_60 : decode cX0_numberOf 60 = .ok (.iadd, 1) := dk_96 (dk_at dksX0_numberOf_2 12 rfl rfl)
theorem dX0_numberOf_61 : decode cX0_numberOf 61 = .ok (.putfield 399, 3) := dk_181 1 143 (dk_at dksX0_numberOf_2 13 rfl rfl)
theorem dX0_numberOf_64 : decode cX0_numberOf 64 = .ok (.aload_n 0, 1) := dk_42 (dk_at dksX0_numberOf_2 16 rfl rfl)
theorem dX0_numberOf_65 : decode cX0_numberOf 65 = .ok (.getfield 399, 3) := dk_180 1 143 (dk_at dksX0_numberOf_2 17 rfl rfl)
theorem dX0_numberOf_68 : decode cX0_numberOf 68 = .ok (.iconst 1, 1) := dk_4 (dk_at dksX0_numberOf_2 20 rfl rfl)
theorem dX0_numberOf_69 : decode cX0_numberOf 69 = .ok (.isub, 1) := dk_100 (dk_at dksX0_numberOf_2 21 rfl rfl)
theorem dX0_numberOf_70 : decode cX0_numberOf 70 = .ok (.ireturn, 1) := dk_172 (dk_at dksX0_numberOf_2 22 rfl rfl)
abbrev cX0_symbolOf : ByteArray := prog_1_method_46_code
def yX0_symbolOf : MethodName := ⟨RX0, "symbolOf", "(I)I"⟩
def dkwX0_symbolOf_0 : List UInt8 := [26, 16, 26, 162, 0, 10, 26, 16, 26, 96, 167, 0, 7, 26, 16, 26, 100, 172]
abbrev dktX0_symbolOf_0 : List UInt8 := dkwX0_symbolOf_0 ++ []
theorem dksX0_symbolOf_0 : cX0_symbolOf.data.toList.drop 0 = dktX0_symbolOf_0 := by decide +kernel
theorem dX0_symbolOf_0 : decode cX0_symbolOf 0 = .ok (.iload_n 0, 1) := dk_26 (dk_at dksX0_symbolOf_0 0 rfl rfl)
theorem dX0_symbolOf_1 : decode cX0_symbolOf 1 = .ok (.bipush 26, 2) := dk_16 26 (dk_at dksX0_symbolOf_0 1 rfl rfl)
theorem dX0_symbolOf_3 : decode cX0_symbolOf 3 = .ok (.if_icmp .ge 10, 3) := dk_162 0 10 (dk_at dksX0_symbolOf_0 3 rfl rfl)
theorem dX0_symbolOf_6 : decode cX0_symbolOf 6 = .ok (.iload_n 0, 1) := dk_26 (dk_at dksX0_symbolOf_0 6 rfl rfl)
theorem dX0_symbolOf_7 : decode cX0_symbolOf 7 = .ok (.bipush 26, 2) := dk_16 26 (dk_at dksX0_symbolOf_0 7 rfl rfl)
theorem dX0_symbolOf_9 : decode cX0_symbolOf 9 = .ok (.iadd, 1) := dk_96 (dk_at dksX0_symbolOf_0 9 rfl rfl)
theorem dX0_symbolOf_10 : decode cX0_symbolOf 10 = .ok (.goto 7, 3) := dk_167 0 7 (dk_at dksX0_symbolOf_0 10 rfl rfl)
theorem dX0_symbolOf_13 : decode cX0_symbolOf 13 = .ok (.iload_n 0, 1) := dk_26 (dk_at dksX0_symbolOf_0 13 rfl rfl)
theorem dX0_symbolOf_14 : decode cX0_symbolOf 14 = .ok (.bipush 26, 2) := dk_16 26 (dk_at dksX0_symbolOf_0 14 rfl rfl)
theorem dX0_symbolOf_16 : decode cX0_symbolOf 16 = .ok (.isub, 1) := dk_100 (dk_at dksX0_symbolOf_0 16 rfl rfl)
theorem dX0_symbolOf_17 : decode cX0_symbolOf 17 = .ok (.ireturn, 1) := dk_172 (dk_at dksX0_symbolOf_0 17 rfl rfl)
abbrev cX0_behind : ByteArray := prog_1_method_44_code
def yX0_behind : MethodName := ⟨RX0, "behind", "(JI)J"⟩
def dkwX0_behind_4 : List UInt8 := [173]
abbrev dktX0_behind_4 : List UInt8 := dkwX0_behind_4 ++ []
def dkwX0_behind_3 : List UInt8 := [184, 1, 125, 129, 55, 4, 132, 7, 1, 167, 255, 197, 132, 6, 1, 167, 255, 176, 42, 22, 4, 182, 1, 139]
abbrev dktX0_behind_3 : List UInt8 := dkwX0_behind_3 ++ dktX0_behind_4
def dkwX0_behind_2 : List UInt8 := [42, 180, 0, 199, 21, 6, 21, 7, 182, 1, 52, 29, 160, 0, 17, 22, 4, 21, 6, 21, 7, 4, 96]
abbrev dktX0_behind_2 : List UInt8 := dkwX0_behind_2 ++ dktX0_behind_3
def dkwX0_behind_1 : List UInt8 := [180, 0, 199, 180, 0, 232, 21, 6, 46, 162, 0, 50, 42, 31, 21, 6, 21, 7, 182, 1, 131, 153, 0, 32]
abbrev dktX0_behind_1 : List UInt8 := dkwX0_behind_1 ++ dktX0_behind_2
def dkwX0_behind_0 : List UInt8 := [9, 55, 4, 3, 54, 6, 21, 6, 42, 180, 0, 199, 180, 0, 203, 162, 0, 74, 3, 54, 7, 21, 7, 42]
abbrev dktX0_behind_0 : List UInt8 := dkwX0_behind_0 ++ dktX0_behind_1
theorem dksX0_behind_0 : cX0_behind.data.toList.drop 0 = dktX0_behind_0 := by decide +kernel
theorem dksX0_behind_1 : cX0_behind.data.toList.drop 24 = dktX0_behind_1 := dk_seg dksX0_behind_0 24 rfl rfl
theorem dksX0_behind_2 : cX0_behind.data.toList.drop 48 = dktX0_behind_2 := dk_seg dksX0_behind_1 24 rfl rfl
theorem dksX0_behind_3 : cX0_behind.data.toList.drop 71 = dktX0_behind_3 := dk_seg dksX0_behind_2 23 rfl rfl
theorem dksX0_behind_4 : cX0_behind.data.toList.drop 95 = dktX0_behind_4 := dk_seg dksX0_behind_3 24 rfl rfl
theorem dX0_behind_0 : decode cX0_behind 0 = .ok (.lconst 0, 1) := dk_9 (dk_at dksX0_behind_0 0 rfl rfl)
theorem dX0_behind_1 : decode cX0_behind 1 = .ok (.lstore 4, 2) := dk_55 4 (dk_at dksX0_behind_0 1 rfl rfl)
theorem dX0_behind_3 : decode cX0_behind 3 = .ok (.iconst 0, 1) := dk_3 (dk_at dksX0_behind_0 3 rfl rfl)
theorem dX0_behind_4 : decode cX0_behind 4 = .ok (.istore 6, 2) := dk_54 6 (dk_at dksX0_behind_0 4 rfl rfl)
theorem dX0_behind_6 : decode cX0_behind 6 = .ok (.iload 6, 2) := dk_21 6 (dk_at dksX0_behind_0 6 rfl rfl)
theorem dX0_behind_8 : decode cX0_behind 8 = .ok (.aload_n 0, 1) := dk_42 (dk_at dksX0_behind_0 8 rfl rfl)
theorem dX0_behind_9 : decode cX0_behind 9 = .ok (.getfield 199, 3) := dk_180 0 199 (dk_at dksX0_behind_0 9 rfl rfl)
theorem dX0_behind_12 : decode cX0_behind 12 = .ok (.getfield 203, 3) := dk_180 0 203 (dk_at dksX0_behind_0 12 rfl rfl)
theorem dX0_behind_15 : decode cX0_behind 15 = .ok (.if_icmp .ge 74, 3) := dk_162 0 74 (dk_at dksX0_behind_0 15 rfl rfl)
theorem dX0_behind_18 : decode cX0_behind 18 = .ok (.iconst 0, 1) := dk_3 (dk_at dksX0_behind_0 18 rfl rfl)
theorem dX0_behind_19 : decode cX0_behind 19 = .ok (.istore 7, 2) := dk_54 7 (dk_at dksX0_behind_0 19 rfl rfl)
theorem dX0_behind_21 : decode cX0_behind 21 = .ok (.iload 7, 2) := dk_21 7 (dk_at dksX0_behind_0 21 rfl rfl)
theorem dX0_behind_23 : decode cX0_behind 23 = .ok (.aload_n 0, 1) := dk_42 (dk_at dksX0_behind_0 23 rfl rfl)
theorem dX0_behind_24 : decode cX0_behind 24 = .ok (.getfield 199, 3) := dk_180 0 199 (dk_at dksX0_behind_1 0 rfl rfl)
theorem dX0_behind_27 : decode cX0_behind 27 = .ok (.getfield 232, 3) := dk_180 0 232 (dk_at dksX0_behind_1 3 rfl rfl)
theorem dX0_behind_30 : decode cX0_behind 30 = .ok (.iload 6, 2) := dk_21 6 (dk_at dksX0_behind_1 6 rfl rfl)
theorem dX0_behind_32 : decode cX0_behind 32 = .ok (.iaload, 1) := dk_46 (dk_at dksX0_behind_1 8 rfl rfl)
theorem dX0_behind_33 : decode cX0_behind 33 = .ok (.if_icmp .ge 50, 3) := dk_162 0 50 (dk_at dksX0_behind_1 9 rfl rfl)
theorem dX0_behind_36 : decode cX0_behind 36 = .ok (.aload_n 0, 1) := dk_42 (dk_at dksX0_behind_1 12 rfl rfl)
theorem dX0_behind_37 : decode cX0_behind 37 = .ok (.lload_n 1, 1) := dk_31 (dk_at dksX0_behind_1 13 rfl rfl)
theorem dX0_behind_38 : decode cX0_behind 38 = .ok (.iload 6, 2) := dk_21 6 (dk_at dksX0_behind_1 14 rfl rfl)
theorem dX0_behind_40 : decode cX0_behind 40 = .ok (.iload 7, 2) := dk_21 7 (dk_at dksX0_behind_1 16 rfl rfl)
theorem dX0_behind_42 : decode cX0_behind 42 = .ok (.invokevirtual 387, 3) := dk_182 1 131 (dk_at dksX0_behind_1 18 rfl rfl)
theorem dX0_behind_45 : decode cX0_behind 45 = .ok (.ifCond .eq 32, 3) := dk_153 0 32 (dk_at dksX0_behind_1 21 rfl rfl)
theorem dX0_behind_48 : decode cX0_behind 48 = .ok (.aload_n 0, 1) := dk_42 (dk_at dksX0_behind_2 0 rfl rfl)
theorem dX0_behind_49 : decode cX0_behind 49 = .ok (.getfield 199, 3) := dk_180 0 199 (dk_at dksX0_behind_2 1 rfl rfl)
theorem dX0_behind_52 : decode cX0_behind 52 = .ok (.iload 6, 2) := dk_21 6 (dk_at dksX0_behind_2 4 rfl rfl)
theorem dX0_behind_54 : decode cX0_behind 54 = .ok (.iload 7, 2) := dk_21 7 (dk_at dksX0_behind_2 6 rfl rfl)
theorem dX0_behind_56 : decode cX0_behind 56 = .ok (.invokevirtual 308, 3) := dk_182 1 52 (dk_at dksX0_behind_2 8 rfl rfl)
theorem dX0_behind_59 : decode cX0_behind 59 = .ok (.iload_n 3, 1) := dk_29 (dk_at dksX0_behind_2 11 rfl rfl)
theorem dX0_behind_60 : decode cX0_behind 60 = .ok (.if_icmp .ne 17, 3) := dk_160 0 17 (dk_at dksX0_behind_2 12 rfl rfl)
theorem dX0_behind_63 : decode cX0_behind 63 = .ok (.lload 4, 2) := dk_22 4 (dk_at dksX0_behind_2 15 rfl rfl)
theorem dX0_behind_65 : decode cX0_behind 65 = .ok (.iload 6, 2) := dk_21 6 (dk_at dksX0_behind_2 17 rfl rfl)
theorem dX0_behind_67 : decode cX0_behind 67 = .ok (.iload 7, 2) := dk_21 7 (dk_at dksX0_behind_2 19 rfl rfl)
theorem dX0_behind_69 : decode cX0_behind 69 = .ok (.iconst 1, 1) := dk_4 (dk_at dksX0_behind_2 21 rfl rfl)
theorem dX0_behind_70 : decode cX0_behind 70 = .ok (.iadd, 1) := dk_96 (dk_at dksX0_behind_2 22 rfl rfl)
theorem dX0_behind_71 : decode cX0_behind 71 = .ok (.invokestatic 381, 3) := dk_184 1 125 (dk_at dksX0_behind_3 0 rfl rfl)
theorem dX0_behind_74 : decode cX0_behind 74 = .ok (.lor, 1) := dk_129 (dk_at dksX0_behind_3 3 rfl rfl)
theorem dX0_behind_75 : decode cX0_behind 75 = .ok (.lstore 4, 2) := dk_55 4 (dk_at dksX0_behind_3 4 rfl rfl)
theorem dX0_behind_77 : decode cX0_behind 77 = .ok (.iinc 7 1, 3) := dk_132 7 1 (dk_at dksX0_behind_3 6 rfl rfl)
theorem dX0_behind_80 : decode cX0_behind 80 = .ok (.goto (-59), 3) := dk_167 255 197 (dk_at dksX0_behind_3 9 rfl rfl)
theorem dX0_behind_83 : decode cX0_behind 83 = .ok (.iinc 6 1, 3) := dk_132 6 1 (dk_at dksX0_behind_3 12 rfl rfl)
theorem dX0_behind_86 : decode cX0_behind 86 = .ok (.goto (-80), 3) := dk_167 255 176 (dk_at dksX0_behind_3 15 rfl rfl)
theorem dX0_behind_89 : decode cX0_behind 89 = .ok (.aload_n 0, 1) := dk_42 (dk_at dksX0_behind_3 18 rfl rfl)
theorem dX0_behind_90 : decode cX0_behind 90 = .ok (.lload 4, 2) := dk_22 4 (dk_at dksX0_behind_3 19 rfl rfl)
theorem dX0_behind_92 : decode cX0_behind 92 = .ok (.invokevirtual 395, 3) := dk_182 1 139 (dk_at dksX0_behind_3 21 rfl rfl)
theorem dX0_behind_95 : decode cX0_behind 95 = .ok (.lreturn, 1) := dk_173 (dk_at dksX0_behind_4 0 rfl rfl)
abbrev cX0_rule : ByteArray := prog_1_method_23_code
def yX0_rule : MethodName := ⟨RX0, "rule", "(II)I"⟩
def dkwX0_rule_4 : List UInt8 := [172, 2, 172]
abbrev dktX0_rule_4 : List UInt8 := dkwX0_rule_4 ++ []
def dkwX0_rule_3 : List UInt8 := [180, 0, 226, 27, 46, 172, 42, 180, 0, 199, 180, 0, 229, 27, 46, 172, 42, 180, 0, 208, 27, 122, 4, 126]
abbrev dktX0_rule_3 : List UInt8 := dkwX0_rule_3 ++ dktX0_rule_4
def dkwX0_rule_2 : List UInt8 := [42, 180, 0, 199, 180, 1, 49, 27, 46, 172, 42, 180, 0, 199, 180, 0, 232, 27, 46, 172, 42, 180, 0, 199]
abbrev dktX0_rule_2 : List UInt8 := dkwX0_rule_2 ++ dktX0_rule_3
def dkwX0_rule_1 : List UInt8 := [170, 0, 0, 0, 82, 0, 0, 0, 0, 0, 0, 0, 4, 0, 0, 0, 33, 0, 0, 0, 43, 0, 0, 0, 53, 0, 0, 0, 63, 0, 0, 0, 73]
abbrev dktX0_rule_1 : List UInt8 := dkwX0_rule_1 ++ dktX0_rule_2
def dkwX0_rule_0 : List UInt8 := [42, 27, 182, 1, 45, 154, 0, 5, 2, 172, 28]
abbrev dktX0_rule_0 : List UInt8 := dkwX0_rule_0 ++ dktX0_rule_1
theorem dksX0_rule_0 : cX0_rule.data.toList.drop 0 = dktX0_rule_0 := by decide +kernel
theorem dksX0_rule_1 : cX0_rule.data.toList.drop 11 = dktX0_rule_1 := dk_seg dksX0_rule_0 11 rfl rfl
theorem dksX0_rule_2 : cX0_rule.data.toList.drop 44 = dktX0_rule_2 := dk_seg dksX0_rule_1 33 rfl rfl
theorem dksX0_rule_3 : cX0_rule.data.toList.drop 68 = dktX0_rule_3 := dk_seg dksX0_rule_2 24 rfl rfl
theorem dksX0_rule_4 : cX0_rule.data.toList.drop 92 = dktX0_rule_4 := dk_seg dksX0_rule_3 24 rfl rfl
theorem dX0_rule_0 : decode cX0_rule 0 = .ok (.aload_n 0, 1) := dk_42 (dk_at dksX0_rule_0 0 rfl rfl)
theorem dX0_rule_1 : decode cX0_rule 1 = .ok (.iload_n 1, 1) := dk_27 (dk_at dksX0_rule_0 1 rfl rfl)
theorem dX0_rule_2 : decode cX0_rule 2 = .ok (.invokevirtual 301, 3) := dk_182 1 45 (dk_at dksX0_rule_0 2 rfl rfl)
theorem dX0_rule_5 : decode cX0_rule 5 = .ok (.ifCond .ne 5, 3) := dk_154 0 5 (dk_at dksX0_rule_0 5 rfl rfl)
theorem dX0_rule_8 : decode cX0_rule 8 = .ok (.iconst (-1), 1) := dk_2 (dk_at dksX0_rule_0 8 rfl rfl)
theorem dX0_rule_9 : decode cX0_rule 9 = .ok (.ireturn, 1) := dk_172 (dk_at dksX0_rule_0 9 rfl rfl)
theorem dX0_rule_10 : decode cX0_rule 10 = .ok (.iload_n 2, 1) := dk_28 (dk_at dksX0_rule_0 10 rfl rfl)
theorem dX0_rule_11 : decode cX0_rule 11 = .ok (.tableswitch 82 0 4 #[33, 43, 53, 63, 73], 33) := by decide +kernel
theorem dX0_rule_44 : decode cX0_rule 44 = .ok (.aload_n 0, 1) := dk_42 (dk_at dksX0_rule_2 0 rfl rfl)
theorem dX0_rule_45 : decode cX0_rule 45 = .ok (.getfield 199, 3) := dk_180 0 199 (dk_at dksX0_rule_2 1 rfl rfl)
theorem dX0_rule_48 : decode cX0_rule 48 = .ok (.getfield 305, 3) := dk_180 1 49 (dk_at dksX0_rule_2 4 rfl rfl)
theorem dX0_rule_51 : decode cX0_rule 51 = .ok (.iload_n 1, 1) := dk_27 (dk_at dksX0_rule_2 7 rfl rfl)
theorem dX0_rule_52 : decode cX0_rule 52 = .ok (.iaload, 1) := dk_46 (dk_at dksX0_rule_2 8 rfl rfl)
theorem dX0_rule_53 : decode cX0_rule 53 = .ok (.ireturn, 1) := dk_172 (dk_at dksX0_rule_2 9 rfl rfl)
theorem dX0_rule_54 : decode cX0_rule 54 = .ok (.aload_n 0, 1) := dk_42 (dk_at dksX0_rule_2 10 rfl rfl)
theorem dX0_rule_55 : decode cX0_rule 55 = .ok (.getfield 199, 3) := dk_180 0 199 (dk_at dksX0_rule_2 11 rfl rfl)
theorem dX0_rule_58 : decode cX0_rule 58 = .ok (.getfield 232, 3) := dk_180 0 232 (dk_at dksX0_rule_2 14 rfl rfl)
theorem dX0_rule_61 : decode cX0_rule 61 = .ok (.iload_n 1, 1) := dk_27 (dk_at dksX0_rule_2 17 rfl rfl)
theorem dX0_rule_62 : decode cX0_rule 62 = .ok (.iaload, 1) := dk_46 (dk_at dksX0_rule_2 18 rfl rfl)
theorem dX0_rule_63 : decode cX0_rule 63 = .ok (.ireturn, 1) := dk_172 (dk_at dksX0_rule_2 19 rfl rfl)
theorem dX0_rule_64 : decode cX0_rule 64 = .ok (.aload_n 0, 1) := dk_42 (dk_at dksX0_rule_2 20 rfl rfl)
theorem dX0_rule_65 : decode cX0_rule 65 = .ok (.getfield 199, 3) := dk_180 0 199 (dk_at dksX0_rule_2 21 rfl rfl)
theorem dX0_rule_68 : decode cX0_rule 68 = .ok (.getfield 226, 3) := dk_180 0 226 (dk_at dksX0_rule_3 0 rfl rfl)
theorem dX0_rule_71 : decode cX0_rule 71 = .ok (.iload_n 1, 1) := dk_27 (dk_at dksX0_rule_3 3 rfl rfl)
theorem dX0_rule_72 : decode cX0_rule 72 = .ok (.iaload, 1) := dk_46 (dk_at dksX0_rule_3 4 rfl rfl)
theorem dX0_rule_73 : decode cX0_rule 73 = .ok (.ireturn, 1) := dk_172 (dk_at dksX0_rule_3 5 rfl rfl)
theorem dX0_rule_74 : decode cX0_rule 74 = .ok (.aload_n 0, 1) := dk_42 (dk_at dksX0_rule_3 6 rfl rfl)
theorem dX0_rule_75 : decode cX0_rule 75 = .ok (.getfield 199, 3) := dk_180 0 199 (dk_at dksX0_rule_3 7 rfl rfl)
theorem dX0_rule_78 : decode cX0_rule 78 = .ok (.getfield 229, 3) := dk_180 0 229 (dk_at dksX0_rule_3 10 rfl rfl)
theorem dX0_rule_81 : decode cX0_rule 81 = .ok (.iload_n 1, 1) := dk_27 (dk_at dksX0_rule_3 13 rfl rfl)
theorem dX0_rule_82 : decode cX0_rule 82 = .ok (.iaload, 1) := dk_46 (dk_at dksX0_rule_3 14 rfl rfl)
theorem dX0_rule_83 : decode cX0_rule 83 = .ok (.ireturn, 1) := dk_172 (dk_at dksX0_rule_3 15 rfl rfl)
theorem dX0_rule_84 : decode cX0_rule 84 = .ok (.aload_n 0, 1) := dk_42 (dk_at dksX0_rule_3 16 rfl rfl)
theorem dX0_rule_85 : decode cX0_rule 85 = .ok (.getfield 208, 3) := dk_180 0 208 (dk_at dksX0_rule_3 17 rfl rfl)
theorem dX0_rule_88 : decode cX0_rule 88 = .ok (.iload_n 1, 1) := dk_27 (dk_at dksX0_rule_3 20 rfl rfl)
theorem dX0_rule_89 : decode cX0_rule 89 = .ok (.ishr, 1) := dk_122 (dk_at dksX0_rule_3 21 rfl rfl)
theorem dX0_rule_90 : decode cX0_rule 90 = .ok (.iconst 1, 1) := dk_4 (dk_at dksX0_rule_3 22 rfl rfl)
theorem dX0_rule_91 : decode cX0_rule 91 = .ok (.iand, 1) := dk_126 (dk_at dksX0_rule_3 23 rfl rfl)
theorem dX0_rule_92 : decode cX0_rule 92 = .ok (.ireturn, 1) := dk_172 (dk_at dksX0_rule_4 0 rfl rfl)
theorem dX0_rule_93 : decode cX0_rule 93 = .ok (.iconst (-1), 1) := dk_2 (dk_at dksX0_rule_4 1 rfl rfl)
theorem dX0_rule_94 : decode cX0_rule 94 = .ok (.ireturn, 1) := dk_172 (dk_at dksX0_rule_4 2 rfl rfl)
abbrev cX0_isRule : ByteArray := prog_1_method_8_code
def yX0_isRule : MethodName := ⟨RX0, "isRule", "(I)Z"⟩
def dkwX0_isRule_1 : List UInt8 := [167, 0, 4, 3, 172]
abbrev dktX0_isRule_1 : List UInt8 := dkwX0_isRule_1 ++ []
def dkwX0_isRule_0 : List UInt8 := [42, 180, 0, 199, 198, 0, 22, 27, 155, 0, 18, 27, 42, 180, 0, 199, 180, 0, 203, 162, 0, 7, 4]
abbrev dktX0_isRule_0 : List UInt8 := dkwX0_isRule_0 ++ dktX0_isRule_1
theorem dksX0_isRule_0 : cX0_isRule.data.toList.drop 0 = dktX0_isRule_0 := by decide +kernel
theorem dksX0_isRule_1 : cX0_isRule.data.toList.drop 23 = dktX0_isRule_1 := dk_seg dksX0_isRule_0 23 rfl rfl
theorem dX0_isRule_0 : decode cX0_isRule 0 = .ok (.aload_n 0, 1) := dk_42 (dk_at dksX0_isRule_0 0 rfl rfl)
theorem dX0_isRule_1 : decode cX0_isRule 1 = .ok (.getfield 199, 3) := dk_180 0 199 (dk_at dksX0_isRule_0 1 rfl rfl)
theorem dX0_isRule_4 : decode cX0_isRule 4 = .ok (.ifnull 22, 3) := dk_198 0 22 (dk_at dksX0_isRule_0 4 rfl rfl)
theorem dX0_isRule_7 : decode cX0_isRule 7 = .ok (.iload_n 1, 1) := dk_27 (dk_at dksX0_isRule_0 7 rfl rfl)
theorem dX0_isRule_8 : decode cX0_isRule 8 = .ok (.ifCond .lt 18, 3) := dk_155 0 18 (dk_at dksX0_isRule_0 8 rfl rfl)
theorem dX0_isRule_11 : decode cX0_isRule 11 = .ok (.iload_n 1, 1) := dk_27 (dk_at dksX0_isRule_0 11 rfl rfl)
theorem dX0_isRule_12 : decode cX0_isRule 12 = .ok (.aload_n 0, 1) := dk_42 (dk_at dksX0_isRule_0 12 rfl rfl)
theorem dX0_isRule_13 : decode cX0_isRule 13 = .ok (.getfield 199, 3) := dk_180 0 199 (dk_at dksX0_isRule_0 13 rfl rfl)
theorem dX0_isRule_16 : decode cX0_isRule 16 = .ok (.getfield 203, 3) := dk_180 0 203 (dk_at dksX0_isRule_0 16 rfl rfl)
theorem dX0_isRule_19 : decode cX0_isRule 19 = .ok (.if_icmp .ge 7, 3) := dk_162 0 7 (dk_at dksX0_isRule_0 19 rfl rfl)
theorem dX0_isRule_22 : decode cX0_isRule 22 = .ok (.iconst 1, 1) := dk_4 (dk_at dksX0_isRule_0 22 rfl rfl)
theorem dX0_isRule_23 : decode cX0_isRule 23 = .ok (.goto 4, 3) := dk_167 0 4 (dk_at dksX0_isRule_1 0 rfl rfl)
theorem dX0_isRule_26 : decode cX0_isRule 26 = .ok (.iconst 0, 1) := dk_3 (dk_at dksX0_isRule_1 3 rfl rfl)
theorem dX0_isRule_27 : decode cX0_isRule 27 = .ok (.ireturn, 1) := dk_172 (dk_at dksX0_isRule_1 4 rfl rfl)
abbrev cX0_symbol : ByteArray := prog_1_method_24_code
def yX0_symbol : MethodName := ⟨RX0, "symbol", "(II)I"⟩
def dkwX0_symbol_1 : List UInt8 := [162, 0, 15, 42, 180, 0, 199, 27, 28, 182, 1, 52, 167, 0, 4, 2, 172]
abbrev dktX0_symbol_1 : List UInt8 := dkwX0_symbol_1 ++ []
def dkwX0_symbol_0 : List UInt8 := [42, 27, 182, 1, 45, 153, 0, 32, 28, 155, 0, 28, 28, 42, 180, 0, 199, 180, 0, 232, 27, 46]
abbrev dktX0_symbol_0 : List UInt8 := dkwX0_symbol_0 ++ dktX0_symbol_1
theorem dksX0_symbol_0 : cX0_symbol.data.toList.drop 0 = dktX0_symbol_0 := by decide +kernel
theorem dksX0_symbol_1 : cX0_symbol.data.toList.drop 22 = dktX0_symbol_1 := dk_seg dksX0_symbol_0 22 rfl rfl
theorem dX0_symbol_0 : decode cX0_symbol 0 = .ok (.aload_n 0, 1) := dk_42 (dk_at dksX0_symbol_0 0 rfl rfl)
theorem dX0_symbol_1 : decode cX0_symbol 1 = .ok (.iload_n 1, 1) := dk_27 (dk_at dksX0_symbol_0 1 rfl rfl)
theorem dX0_symbol_2 : decode cX0_symbol 2 = .ok (.invokevirtual 301, 3) := dk_182 1 45 (dk_at dksX0_symbol_0 2 rfl rfl)
theorem dX0_symbol_5 : decode cX0_symbol 5 = .ok (.ifCond .eq 32, 3) := dk_153 0 32 (dk_at dksX0_symbol_0 5 rfl rfl)
theorem dX0_symbol_8 : decode cX0_symbol 8 = .ok (.iload_n 2, 1) := dk_28 (dk_at dksX0_symbol_0 8 rfl rfl)
theorem dX0_symbol_9 : decode cX0_symbol 9 = .ok (.ifCond .lt 28, 3) := dk_155 0 28 (dk_at dksX0_symbol_0 9 rfl rfl)
theorem dX0_symbol_12 : decode cX0_symbol 12 = .ok (.iload_n 2, 1) := dk_28 (dk_at dksX0_symbol_0 12 rfl rfl)
theorem dX0_symbol_13 : decode cX0_symbol 13 = .ok (.aload_n 0, 1) := dk_42 (dk_at dksX0_symbol_0 13 rfl rfl)
theorem dX0_symbol_14 : decode cX0_symbol 14 = .ok (.getfield 199, 3) := dk_180 0 199 (dk_at dksX0_symbol_0 14 rfl rfl)
theorem dX0_symbol_17 : decode cX0_symbol 17 = .ok (.getfield 232, 3) := dk_180 0 232 (dk_at dksX0_symbol_0 17 rfl rfl)
theorem dX0_symbol_20 : decode cX0_symbol 20 = .ok (.iload_n 1, 1) := dk_27 (dk_at dksX0_symbol_0 20 rfl rfl)
theorem dX0_symbol_21 : decode cX0_symbol 21 = .ok (.iaload, 1) := dk_46 (dk_at dksX0_symbol_0 21 rfl rfl)
theorem dX0_symbol_22 : decode cX0_symbol 22 = .ok (.if_icmp .ge 15, 3) := dk_162 0 15 (dk_at dksX0_symbol_1 0 rfl rfl)
theorem dX0_symbol_25 : decode cX0_symbol 25 = .ok (.aload_n 0, 1) := dk_42 (dk_at dksX0_symbol_1 3 rfl rfl)
theorem dX0_symbol_26 : decode cX0_symbol 26 = .ok (.getfield 199, 3) := dk_180 0 199 (dk_at dksX0_symbol_1 4 rfl rfl)
theorem dX0_symbol_29 : decode cX0_symbol 29 = .ok (.iload_n 1, 1) := dk_27 (dk_at dksX0_symbol_1 7 rfl rfl)
theorem dX0_symbol_30 : decode cX0_symbol 30 = .ok (.iload_n 2, 1) := dk_28 (dk_at dksX0_symbol_1 8 rfl rfl)
theorem dX0_symbol_31 : decode cX0_symbol 31 = .ok (.invokevirtual 308, 3) := dk_182 1 52 (dk_at dksX0_symbol_1 9 rfl rfl)
theorem dX0_symbol_34 : decode cX0_symbol 34 = .ok (.goto 4, 3) := dk_167 0 4 (dk_at dksX0_symbol_1 12 rfl rfl)
theorem dX0_symbol_37 : decode cX0_symbol 37 = .ok (.iconst (-1), 1) := dk_2 (dk_at dksX0_symbol_1 15 rfl rfl)
theorem dX0_symbol_38 : decode cX0_symbol 38 = .ok (.ireturn, 1) := dk_172 (dk_at dksX0_symbol_1 16 rfl rfl)
abbrev cX0_facts : ByteArray := prog_1_method_36_code
def yX0_facts : MethodName := ⟨RX0, "facts", "(I)I"⟩
def dkwX0_facts_3 : List UInt8 := [172, 42, 180, 0, 199, 180, 0, 223, 172, 2, 172]
abbrev dktX0_facts_3 : List UInt8 := dkwX0_facts_3 ++ []
def dkwX0_facts_2 : List UInt8 := [42, 180, 1, 58, 172, 42, 180, 1, 64, 172, 42, 180, 1, 74, 172, 42, 180, 1, 105, 172, 42, 180, 1, 108]
abbrev dktX0_facts_2 : List UInt8 := dkwX0_facts_2 ++ dktX0_facts_3
def dkwX0_facts_1 : List UInt8 := [170, 0, 0, 0, 0, 71, 0, 0, 0, 0, 0, 0, 0, 5, 0, 0, 0, 38, 0, 0, 0, 43, 0, 0, 0, 48, 0, 0, 0, 53, 0, 0, 0, 58, 0, 0, 0, 63]
abbrev dktX0_facts_1 : List UInt8 := dkwX0_facts_1 ++ dktX0_facts_2
def dkwX0_facts_0 : List UInt8 := [42, 180, 0, 199, 199, 0, 5, 2, 172, 27]
abbrev dktX0_facts_0 : List UInt8 := dkwX0_facts_0 ++ dktX0_facts_1
theorem dksX0_facts_0 : cX0_facts.data.toList.drop 0 = dktX0_facts_0 := by decide +kernel
theorem dksX0_facts_1 : cX0_facts.data.toList.drop 10 = dktX0_facts_1 := dk_seg dksX0_facts_0 10 rfl rfl
theorem dksX0_facts_2 : cX0_facts.data.toList.drop 48 = dktX0_facts_2 := dk_seg dksX0_facts_1 38 rfl rfl
theorem dksX0_facts_3 : cX0_facts.data.toList.drop 72 = dktX0_facts_3 := dk_seg dksX0_facts_2 24 rfl rfl
theorem dX0_facts_0 : decode cX0_facts 0 = .ok (.aload_n 0, 1) := dk_42 (dk_at dksX0_facts_0 0 rfl rfl)
theorem dX0_facts_1 : decode cX0_facts 1 = .ok (.getfield 199, 3) := dk_180 0 199 (dk_at dksX0_facts_0 1 rfl rfl)
theorem dX0_facts_4 : decode cX0_facts 4 = .ok (.ifnonnull 5, 3) := dk_199 0 5 (dk_at dksX0_facts_0 4 rfl rfl)
theorem dX0_facts_7 : decode cX0_facts 7 = .ok (.iconst (-1), 1) := dk_2 (dk_at dksX0_facts_0 7 rfl rfl)
theorem dX0_facts_8 : decode cX0_facts 8 = .ok (.ireturn, 1) := dk_172 (dk_at dksX0_facts_0 8 rfl rfl)
theorem dX0_facts_9 : decode cX0_facts 9 = .ok (.iload_n 1, 1) := dk_27 (dk_at dksX0_facts_0 9 rfl rfl)
theorem dX0_facts_10 : decode cX0_facts 10 = .ok (.tableswitch 71 0 5 #[38, 43, 48, 53, 58, 63], 38) := by decide +kernel
theorem dX0_facts_48 : decode cX0_facts 48 = .ok (.aload_n 0, 1) := dk_42 (dk_at dksX0_facts_2 0 rfl rfl)
theorem dX0_facts_49 : decode cX0_facts 49 = .ok (.getfield 314, 3) := dk_180 1 58 (dk_at dksX0_facts_2 1 rfl rfl)
theorem dX0_facts_52 : decode cX0_facts 52 = .ok (.ireturn, 1) := dk_172 (dk_at dksX0_facts_2 4 rfl rfl)
theorem dX0_facts_53 : decode cX0_facts 53 = .ok (.aload_n 0, 1) := dk_42 (dk_at dksX0_facts_2 5 rfl rfl)
theorem dX0_facts_54 : decode cX0_facts 54 = .ok (.getfield 320, 3) := dk_180 1 64 (dk_at dksX0_facts_2 6 rfl rfl)
theorem dX0_facts_57 : decode cX0_facts 57 = .ok (.ireturn, 1) := dk_172 (dk_at dksX0_facts_2 9 rfl rfl)
theorem dX0_facts_58 : decode cX0_facts 58 = .ok (.aload_n 0, 1) := dk_42 (dk_at dksX0_facts_2 10 rfl rfl)
theorem dX0_facts_59 : decode cX0_facts 59 = .ok (.getfield 330, 3) := dk_180 1 74 (dk_at dksX0_facts_2 11 rfl rfl)
theorem dX0_facts_62 : decode cX0_facts 62 = .ok (.ireturn, 1) := dk_172 (dk_at dksX0_facts_2 14 rfl rfl)
theorem dX0_facts_63 : decode cX0_facts 63 = .ok (.aload_n 0, 1) := dk_42 (dk_at dksX0_facts_2 15 rfl rfl)
theorem dX0_facts_64 : decode cX0_facts 64 = .ok (.getfield 361, 3) := dk_180 1 105 (dk_at dksX0_facts_2 16 rfl rfl)
theorem dX0_facts_67 : decode cX0_facts 67 = .ok (.ireturn, 1) := dk_172 (dk_at dksX0_facts_2 19 rfl rfl)
theorem dX0_facts_68 : decode cX0_facts 68 = .ok (.aload_n 0, 1) := dk_42 (dk_at dksX0_facts_2 20 rfl rfl)
theorem dX0_facts_69 : decode cX0_facts 69 = .ok (.getfield 364, 3) := dk_180 1 108 (dk_at dksX0_facts_2 21 rfl rfl)
theorem dX0_facts_72 : decode cX0_facts 72 = .ok (.ireturn, 1) := dk_172 (dk_at dksX0_facts_3 0 rfl rfl)
theorem dX0_facts_73 : decode cX0_facts 73 = .ok (.aload_n 0, 1) := dk_42 (dk_at dksX0_facts_3 1 rfl rfl)
theorem dX0_facts_74 : decode cX0_facts 74 = .ok (.getfield 199, 3) := dk_180 0 199 (dk_at dksX0_facts_3 2 rfl rfl)
theorem dX0_facts_77 : decode cX0_facts 77 = .ok (.getfield 223, 3) := dk_180 0 223 (dk_at dksX0_facts_3 5 rfl rfl)
theorem dX0_facts_80 : decode cX0_facts 80 = .ok (.ireturn, 1) := dk_172 (dk_at dksX0_facts_3 8 rfl rfl)
theorem dX0_facts_81 : decode cX0_facts 81 = .ok (.iconst (-1), 1) := dk_2 (dk_at dksX0_facts_3 9 rfl rfl)
theorem dX0_facts_82 : decode cX0_facts 82 = .ok (.ireturn, 1) := dk_172 (dk_at dksX0_facts_3 10 rfl rfl)
abbrev cX0_firsts : ByteArray := prog_1_method_37_code
def yX0_firsts : MethodName := ⟨RX0, "firsts", "(I)I"⟩
def dkwX0_firsts_0 : List UInt8 := [42, 27, 182, 1, 122, 153, 0, 15, 42, 180, 0, 53, 27, 16, 26, 100, 46, 167, 0, 4, 2, 172]
abbrev dktX0_firsts_0 : List UInt8 := dkwX0_firsts_0 ++ []
theorem dksX0_firsts_0 : cX0_firsts.data.toList.drop 0 = dktX0_firsts_0 := by decide +kernel
theorem dX0_firsts_0 : decode cX0_firsts 0 = .ok (.aload_n 0, 1) := dk_42 (dk_at dksX0_firsts_0 0 rfl rfl)
theorem dX0_firsts_1 : decode cX0_firsts 1 = .ok (.iload_n 1, 1) := dk_27 (dk_at dksX0_firsts_0 1 rfl rfl)
theorem dX0_firsts_2 : decode cX0_firsts 2 = .ok (.invokevirtual 378, 3) := dk_182 1 122 (dk_at dksX0_firsts_0 2 rfl rfl)
theorem dX0_firsts_5 : decode cX0_firsts 5 = .ok (.ifCond .eq 15, 3) := dk_153 0 15 (dk_at dksX0_firsts_0 5 rfl rfl)
theorem dX0_firsts_8 : decode cX0_firsts 8 = .ok (.aload_n 0, 1) := dk_42 (dk_at dksX0_firsts_0 8 rfl rfl)
theorem dX0_firsts_9 : decode cX0_firsts 9 = .ok (.getfield 53, 3) := dk_180 0 53 (dk_at dksX0_firsts_0 9 rfl rfl)
theorem dX0_firsts_12 : decode cX0_firsts 12 = .ok (.iload_n 1, 1) := dk_27 (dk_at dksX0_firsts_0 12 rfl rfl)
theorem dX0_firsts_13 : decode cX0_firsts 13 = .ok (.bipush 26, 2) := dk_16 26 (dk_at dksX0_firsts_0 13 rfl rfl)
theorem dX0_firsts_15 : decode cX0_firsts 15 = .ok (.isub, 1) := dk_100 (dk_at dksX0_firsts_0 15 rfl rfl)
theorem dX0_firsts_16 : decode cX0_firsts 16 = .ok (.iaload, 1) := dk_46 (dk_at dksX0_firsts_0 16 rfl rfl)
theorem dX0_firsts_17 : decode cX0_firsts 17 = .ok (.goto 4, 3) := dk_167 0 4 (dk_at dksX0_firsts_0 17 rfl rfl)
theorem dX0_firsts_20 : decode cX0_firsts 20 = .ok (.iconst (-1), 1) := dk_2 (dk_at dksX0_firsts_0 20 rfl rfl)
theorem dX0_firsts_21 : decode cX0_firsts 21 = .ok (.ireturn, 1) := dk_172 (dk_at dksX0_firsts_0 21 rfl rfl)
abbrev cX0_isLeft : ByteArray := prog_1_method_10_code
def yX0_isLeft : MethodName := ⟨RX0, "isLeft", "(I)Z"⟩
def dkwX0_isLeft_1 : List UInt8 := [180, 0, 199, 180, 0, 223, 27, 16, 26, 100, 184, 0, 211, 153, 0, 7, 4, 167, 0, 4, 3, 172]
abbrev dktX0_isLeft_1 : List UInt8 := dkwX0_isLeft_1 ++ []
def dkwX0_isLeft_0 : List UInt8 := [42, 180, 0, 199, 198, 0, 38, 27, 133, 20, 0, 215, 20, 0, 217, 184, 0, 219, 153, 0, 24, 42]
abbrev dktX0_isLeft_0 : List UInt8 := dkwX0_isLeft_0 ++ dktX0_isLeft_1
theorem dksX0_isLeft_0 : cX0_isLeft.data.toList.drop 0 = dktX0_isLeft_0 := by decide +kernel
theorem dksX0_isLeft_1 : cX0_isLeft.data.toList.drop 22 = dktX0_isLeft_1 := dk_seg dksX0_isLeft_0 22 rfl rfl
theorem dX0_isLeft_0 : decode cX0_isLeft 0 = .ok (.aload_n 0, 1) := dk_42 (dk_at dksX0_isLeft_0 0 rfl rfl)
theorem dX0_isLeft_1 : decode cX0_isLeft 1 = .ok (.getfield 199, 3) := dk_180 0 199 (dk_at dksX0_isLeft_0 1 rfl rfl)
theorem dX0_isLeft_4 : decode cX0_isLeft 4 = .ok (.ifnull 38, 3) := dk_198 0 38 (dk_at dksX0_isLeft_0 4 rfl rfl)
theorem dX0_isLeft_7 : decode cX0_isLeft 7 = .ok (.iload_n 1, 1) := dk_27 (dk_at dksX0_isLeft_0 7 rfl rfl)
theorem dX0_isLeft_8 : decode cX0_isLeft 8 = .ok (.i2l, 1) := dk_133 (dk_at dksX0_isLeft_0 8 rfl rfl)
theorem dX0_isLeft_9 : decode cX0_isLeft 9 = .ok (.ldc2_w 215, 3) := dk_20 0 215 (dk_at dksX0_isLeft_0 9 rfl rfl)
theorem dX0_isLeft_12 : decode cX0_isLeft 12 = .ok (.ldc2_w 217, 3) := dk_20 0 217 (dk_at dksX0_isLeft_0 12 rfl rfl)
theorem dX0_isLeft_15 : decode cX0_isLeft 15 = .ok (.invokestatic 219, 3) := dk_184 0 219 (dk_at dksX0_isLeft_0 15 rfl rfl)
theorem dX0_isLeft_18 : decode cX0_isLeft 18 = .ok (.ifCond .eq 24, 3) := dk_153 0 24 (dk_at dksX0_isLeft_0 18 rfl rfl)
theorem dX0_isLeft_21 : decode cX0_isLeft 21 = .ok (.aload_n 0, 1) := dk_42 (dk_at dksX0_isLeft_0 21 rfl rfl)
theorem dX0_isLeft_22 : decode cX0_isLeft 22 = .ok (.getfield 199, 3) := dk_180 0 199 (dk_at dksX0_isLeft_1 0 rfl rfl)
theorem dX0_isLeft_25 : decode cX0_isLeft 25 = .ok (.getfield 223, 3) := dk_180 0 223 (dk_at dksX0_isLeft_1 3 rfl rfl)
theorem dX0_isLeft_28 : decode cX0_isLeft 28 = .ok (.iload_n 1, 1) := dk_27 (dk_at dksX0_isLeft_1 6 rfl rfl)
theorem dX0_isLeft_29 : decode cX0_isLeft 29 = .ok (.bipush 26, 2) := dk_16 26 (dk_at dksX0_isLeft_1 7 rfl rfl)
theorem dX0_isLeft_31 : decode cX0_isLeft 31 = .ok (.isub, 1) := dk_100 (dk_at dksX0_isLeft_1 9 rfl rfl)
theorem dX0_isLeft_32 : decode cX0_isLeft 32 = .ok (.invokestatic 211, 3) := dk_184 0 211 (dk_at dksX0_isLeft_1 10 rfl rfl)
theorem dX0_isLeft_35 : decode cX0_isLeft 35 = .ok (.ifCond .eq 7, 3) := dk_153 0 7 (dk_at dksX0_isLeft_1 13 rfl rfl)
theorem dX0_isLeft_38 : decode cX0_isLeft 38 = .ok (.iconst 1, 1) := dk_4 (dk_at dksX0_isLeft_1 16 rfl rfl)
theorem dX0_isLeft_39 : decode cX0_isLeft 39 = .ok (.goto 4, 3) := dk_167 0 4 (dk_at dksX0_isLeft_1 17 rfl rfl)
theorem dX0_isLeft_42 : decode cX0_isLeft 42 = .ok (.iconst 0, 1) := dk_3 (dk_at dksX0_isLeft_1 20 rfl rfl)
theorem dX0_isLeft_43 : decode cX0_isLeft 43 = .ok (.ireturn, 1) := dk_172 (dk_at dksX0_isLeft_1 21 rfl rfl)
abbrev cX0_follows : ByteArray := prog_1_method_38_code
def yX0_follows : MethodName := ⟨RX0, "follows", "(I)I"⟩
def dkwX0_follows_0 : List UInt8 := [42, 27, 182, 1, 122, 153, 0, 15, 42, 180, 0, 56, 27, 16, 26, 100, 46, 167, 0, 4, 2, 172]
abbrev dktX0_follows_0 : List UInt8 := dkwX0_follows_0 ++ []
theorem dksX0_follows_0 : cX0_follows.data.toList.drop 0 = dktX0_follows_0 := by decide +kernel
theorem dX0_follows_0 : decode cX0_follows 0 = .ok (.aload_n 0, 1) := dk_42 (dk_at dksX0_follows_0 0 rfl rfl)
theorem dX0_follows_1 : decode cX0_follows 1 = .ok (.iload_n 1, 1) := dk_27 (dk_at dksX0_follows_0 1 rfl rfl)
theorem dX0_follows_2 : decode cX0_follows 2 = .ok (.invokevirtual 378, 3) := dk_182 1 122 (dk_at dksX0_follows_0 2 rfl rfl)
theorem dX0_follows_5 : decode cX0_follows 5 = .ok (.ifCond .eq 15, 3) := dk_153 0 15 (dk_at dksX0_follows_0 5 rfl rfl)
theorem dX0_follows_8 : decode cX0_follows 8 = .ok (.aload_n 0, 1) := dk_42 (dk_at dksX0_follows_0 8 rfl rfl)
theorem dX0_follows_9 : decode cX0_follows 9 = .ok (.getfield 56, 3) := dk_180 0 56 (dk_at dksX0_follows_0 9 rfl rfl)
theorem dX0_follows_12 : decode cX0_follows 12 = .ok (.iload_n 1, 1) := dk_27 (dk_at dksX0_follows_0 12 rfl rfl)
theorem dX0_follows_13 : decode cX0_follows 13 = .ok (.bipush 26, 2) := dk_16 26 (dk_at dksX0_follows_0 13 rfl rfl)
theorem dX0_follows_15 : decode cX0_follows 15 = .ok (.isub, 1) := dk_100 (dk_at dksX0_follows_0 15 rfl rfl)
theorem dX0_follows_16 : decode cX0_follows 16 = .ok (.iaload, 1) := dk_46 (dk_at dksX0_follows_0 16 rfl rfl)
theorem dX0_follows_17 : decode cX0_follows 17 = .ok (.goto 4, 3) := dk_167 0 4 (dk_at dksX0_follows_0 17 rfl rfl)
theorem dX0_follows_20 : decode cX0_follows 20 = .ok (.iconst (-1), 1) := dk_2 (dk_at dksX0_follows_0 20 rfl rfl)
theorem dX0_follows_21 : decode cX0_follows 21 = .ok (.ireturn, 1) := dk_172 (dk_at dksX0_follows_0 21 rfl rfl)
abbrev cX0_shortest : ByteArray := prog_1_method_39_code
def yX0_shortest : MethodName := ⟨RX0, "shortest", "(I)I"⟩
def dkwX0_shortest_1 : List UInt8 := [16, 254, 167, 0, 12, 42, 180, 0, 59, 27, 16, 26, 100, 46, 172]
abbrev dktX0_shortest_1 : List UInt8 := dkwX0_shortest_1 ++ []
def dkwX0_shortest_0 : List UInt8 := [42, 27, 182, 1, 122, 154, 0, 5, 2, 172, 42, 180, 0, 59, 27, 16, 26, 100, 46, 18, 12, 161, 0, 8]
abbrev dktX0_shortest_0 : List UInt8 := dkwX0_shortest_0 ++ dktX0_shortest_1
theorem dksX0_shortest_0 : cX0_shortest.data.toList.drop 0 = dktX0_shortest_0 := by decide +kernel
theorem dksX0_shortest_1 : cX0_shortest.data.toList.drop 24 = dktX0_shortest_1 := dk_seg dksX0_shortest_0 24 rfl rfl
theorem dX0_shortest_0 : decode cX0_shortest 0 = .ok (.aload_n 0, 1) := dk_42 (dk_at dksX0_shortest_0 0 rfl rfl)
theorem dX0_shortest_1 : decode cX0_shortest 1 = .ok (.iload_n 1, 1) := dk_27 (dk_at dksX0_shortest_0 1 rfl rfl)
theorem dX0_shortest_2 : decode cX0_shortest 2 = .ok (.invokevirtual 378, 3) := dk_182 1 122 (dk_at dksX0_shortest_0 2 rfl rfl)
theorem dX0_shortest_5 : decode cX0_shortest 5 = .ok (.ifCond .ne 5, 3) := dk_154 0 5 (dk_at dksX0_shortest_0 5 rfl rfl)
theorem dX0_shortest_8 : decode cX0_shortest 8 = .ok (.iconst (-1), 1) := dk_2 (dk_at dksX0_shortest_0 8 rfl rfl)
theorem dX0_shortest_9 : decode cX0_shortest 9 = .ok (.ireturn, 1) := dk_172 (dk_at dksX0_shortest_0 9 rfl rfl)
theorem dX0_shortest_10 : decode cX0_shortest 10 = .ok (.aload_n 0, 1) := dk_42 (dk_at dksX0_shortest_0 10 rfl rfl)
theorem dX0_shortest_11 : decode cX0_shortest 11 = .ok (.getfield 59, 3) := dk_180 0 59 (dk_at dksX0_shortest_0 11 rfl rfl)
theorem dX0_shortest_14 : decode cX0_shortest 14 = .ok (.iload_n 1, 1) := dk_27 (dk_at dksX0_shortest_0 14 rfl rfl)
theorem dX0_shortest_15 : decode cX0_shortest 15 = .ok (.bipush 26, 2) := dk_16 26 (dk_at dksX0_shortest_0 15 rfl rfl)
theorem dX0_shortest_17 : decode cX0_shortest 17 = .ok (.isub, 1) := dk_100 (dk_at dksX0_shortest_0 17 rfl rfl)
theorem dX0_shortest_18 : decode cX0_shortest 18 = .ok (.iaload, 1) := dk_46 (dk_at dksX0_shortest_0 18 rfl rfl)
theorem dX0_shortest_19 : decode cX0_shortest 19 = .ok (.ldc 12, 2) := dk_18 12 (dk_at dksX0_shortest_0 19 rfl rfl)
theorem dX0_shortest_21 : decode cX0_shortest 21 = .ok (.if_icmp .lt 8, 3) := dk_161 0 8 (dk_at dksX0_shortest_0 21 rfl rfl)
theorem dX0_shortest_24 : decode cX0_shortest 24 = .ok (.bipush (-2), 2) := dk_16 254 (dk_at dksX0_shortest_1 0 rfl rfl)
theorem dX0_shortest_26 : decode cX0_shortest 26 = .ok (.goto 12, 3) := dk_167 0 12 (dk_at dksX0_shortest_1 2 rfl rfl)
theorem dX0_shortest_29 : decode cX0_shortest 29 = .ok (.aload_n 0, 1) := dk_42 (dk_at dksX0_shortest_1 5 rfl rfl)
theorem dX0_shortest_30 : decode cX0_shortest 30 = .ok (.getfield 59, 3) := dk_180 0 59 (dk_at dksX0_shortest_1 6 rfl rfl)
theorem dX0_shortest_33 : decode cX0_shortest 33 = .ok (.iload_n 1, 1) := dk_27 (dk_at dksX0_shortest_1 9 rfl rfl)
theorem dX0_shortest_34 : decode cX0_shortest 34 = .ok (.bipush 26, 2) := dk_16 26 (dk_at dksX0_shortest_1 10 rfl rfl)
theorem dX0_shortest_36 : decode cX0_shortest 36 = .ok (.isub, 1) := dk_100 (dk_at dksX0_shortest_1 12 rfl rfl)
theorem dX0_shortest_37 : decode cX0_shortest 37 = .ok (.iaload, 1) := dk_46 (dk_at dksX0_shortest_1 13 rfl rfl)
theorem dX0_shortest_38 : decode cX0_shortest 38 = .ok (.ireturn, 1) := dk_172 (dk_at dksX0_shortest_1 14 rfl rfl)
abbrev cX0_states : ByteArray := prog_1_method_49_code
def yX0_states : MethodName := ⟨RX0, "states", "()I"⟩
def dkwX0_states_0 : List UInt8 := [42, 180, 0, 199, 199, 0, 7, 2, 167, 0, 7, 42, 180, 1, 143, 172]
abbrev dktX0_states_0 : List UInt8 := dkwX0_states_0 ++ []
theorem dksX0_states_0 : cX0_states.data.toList.drop 0 = dktX0_states_0 := by decide +kernel
theorem dX0_states_0 : decode cX0_states 0 = .ok (.aload_n 0, 1) := dk_42 (dk_at dksX0_states_0 0 rfl rfl)
theorem dX0_states_1 : decode cX0_states 1 = .ok (.getfield 199, 3) := dk_180 0 199 (dk_at dksX0_states_0 1 rfl rfl)
theorem dX0_states_4 : decode cX0_states 4 = .ok (.ifnonnull 7, 3) := dk_199 0 7 (dk_at dksX0_states_0 4 rfl rfl)
theorem dX0_states_7 : decode cX0_states 7 = .ok (.iconst (-1), 1) := dk_2 (dk_at dksX0_states_0 7 rfl rfl)
theorem dX0_states_8 : decode cX0_states 8 = .ok (.goto 7, 3) := dk_167 0 7 (dk_at dksX0_states_0 8 rfl rfl)
theorem dX0_states_11 : decode cX0_states 11 = .ok (.aload_n 0, 1) := dk_42 (dk_at dksX0_states_0 11 rfl rfl)
theorem dX0_states_12 : decode cX0_states 12 = .ok (.getfield 399, 3) := dk_180 1 143 (dk_at dksX0_states_0 12 rfl rfl)
theorem dX0_states_15 : decode cX0_states 15 = .ok (.ireturn, 1) := dk_172 (dk_at dksX0_states_0 15 rfl rfl)
abbrev cX0_goes : ByteArray := prog_1_method_50_code
def yX0_goes : MethodName := ⟨RX0, "goes", "(II)I"⟩
def dkwX0_goes_1 : List UInt8 := [16, 52, 27, 104, 28, 96, 46, 167, 0, 4, 2, 172]
abbrev dktX0_goes_1 : List UInt8 := dkwX0_goes_1 ++ []
def dkwX0_goes_0 : List UInt8 := [42, 27, 182, 1, 157, 153, 0, 29, 28, 133, 9, 20, 0, 217, 184, 0, 219, 153, 0, 17, 42, 180, 0, 66]
abbrev dktX0_goes_0 : List UInt8 := dkwX0_goes_0 ++ dktX0_goes_1
theorem dksX0_goes_0 : cX0_goes.data.toList.drop 0 = dktX0_goes_0 := by decide +kernel
theorem dksX0_goes_1 : cX0_goes.data.toList.drop 24 = dktX0_goes_1 := dk_seg dksX0_goes_0 24 rfl rfl
theorem dX0_goes_0 : decode cX0_goes 0 = .ok (.aload_n 0, 1) := dk_42 (dk_at dksX0_goes_0 0 rfl rfl)
theorem dX0_goes_1 : decode cX0_goes 1 = .ok (.iload_n 1, 1) := dk_27 (dk_at dksX0_goes_0 1 rfl rfl)
theorem dX0_goes_2 : decode cX0_goes 2 = .ok (.invokevirtual 413, 3) := dk_182 1 157 (dk_at dksX0_goes_0 2 rfl rfl)
theorem dX0_goes_5 : decode cX0_goes 5 = .ok (.ifCond .eq 29, 3) := dk_153 0 29 (dk_at dksX0_goes_0 5 rfl rfl)
theorem dX0_goes_8 : decode cX0_goes 8 = .ok (.iload_n 2, 1) := dk_28 (dk_at dksX0_goes_0 8 rfl rfl)
theorem dX0_goes_9 : decode cX0_goes 9 = .ok (.i2l, 1) := dk_133 (dk_at dksX0_goes_0 9 rfl rfl)
theorem dX0_goes_10 : decode cX0_goes 10 = .ok (.lconst 0, 1) := dk_9 (dk_at dksX0_goes_0 10 rfl rfl)
theorem dX0_goes_11 : decode cX0_goes 11 = .ok (.ldc2_w 217, 3) := dk_20 0 217 (dk_at dksX0_goes_0 11 rfl rfl)
theorem dX0_goes_14 : decode cX0_goes 14 = .ok (.invokestatic 219, 3) := dk_184 0 219 (dk_at dksX0_goes_0 14 rfl rfl)
theorem dX0_goes_17 : decode cX0_goes 17 = .ok (.ifCond .eq 17, 3) := dk_153 0 17 (dk_at dksX0_goes_0 17 rfl rfl)
theorem dX0_goes_20 : decode cX0_goes 20 = .ok (.aload_n 0, 1) := dk_42 (dk_at dksX0_goes_0 20 rfl rfl)
theorem dX0_goes_21 : decode cX0_goes 21 = .ok (.getfield 66, 3) := dk_180 0 66 (dk_at dksX0_goes_0 21 rfl rfl)
theorem dX0_goes_24 : decode cX0_goes 24 = .ok (.bipush 52, 2) := dk_16 52 (dk_at dksX0_goes_1 0 rfl rfl)
theorem dX0_goes_26 : decode cX0_goes 26 = .ok (.iload_n 1, 1) := dk_27 (dk_at dksX0_goes_1 2 rfl rfl)
theorem dX0_goes_27 : decode cX0_goes 27 = .ok (.imul, 1) := dk_104 (dk_at dksX0_goes_1 3 rfl rfl)
theorem dX0_goes_28 : decode cX0_goes 28 = .ok (.iload_n 2, 1) := dk_28 (dk_at dksX0_goes_1 4 rfl rfl)
theorem dX0_goes_29 : decode cX0_goes 29 = .ok (.iadd, 1) := dk_96 (dk_at dksX0_goes_1 5 rfl rfl)
theorem dX0_goes_30 : decode cX0_goes 30 = .ok (.iaload, 1) := dk_46 (dk_at dksX0_goes_1 6 rfl rfl)
theorem dX0_goes_31 : decode cX0_goes 31 = .ok (.goto 4, 3) := dk_167 0 4 (dk_at dksX0_goes_1 7 rfl rfl)
theorem dX0_goes_34 : decode cX0_goes 34 = .ok (.iconst (-1), 1) := dk_2 (dk_at dksX0_goes_1 10 rfl rfl)
theorem dX0_goes_35 : decode cX0_goes 35 = .ok (.ireturn, 1) := dk_172 (dk_at dksX0_goes_1 11 rfl rfl)
abbrev cX0_isState : ByteArray := prog_1_method_48_code
def yX0_isState : MethodName := ⟨RX0, "isState", "(I)Z"⟩
def dkwX0_isState_1 : List UInt8 := [172]
abbrev dktX0_isState_1 : List UInt8 := dkwX0_isState_1 ++ []
def dkwX0_isState_0 : List UInt8 := [42, 180, 0, 199, 198, 0, 19, 27, 155, 0, 15, 27, 42, 180, 1, 143, 162, 0, 7, 4, 167, 0, 4, 3]
abbrev dktX0_isState_0 : List UInt8 := dkwX0_isState_0 ++ dktX0_isState_1
theorem dksX0_isState_0 : cX0_isState.data.toList.drop 0 = dktX0_isState_0 := by decide +kernel
theorem dksX0_isState_1 : cX0_isState.data.toList.drop 24 = dktX0_isState_1 := dk_seg dksX0_isState_0 24 rfl rfl
theorem dX0_isState_0 : decode cX0_isState 0 = .ok (.aload_n 0, 1) := dk_42 (dk_at dksX0_isState_0 0 rfl rfl)
theorem dX0_isState_1 : decode cX0_isState 1 = .ok (.getfield 199, 3) := dk_180 0 199 (dk_at dksX0_isState_0 1 rfl rfl)
theorem dX0_isState_4 : decode cX0_isState 4 = .ok (.ifnull 19, 3) := dk_198 0 19 (dk_at dksX0_isState_0 4 rfl rfl)
theorem dX0_isState_7 : decode cX0_isState 7 = .ok (.iload_n 1, 1) := dk_27 (dk_at dksX0_isState_0 7 rfl rfl)
theorem dX0_isState_8 : decode cX0_isState 8 = .ok (.ifCond .lt 15, 3) := dk_155 0 15 (dk_at dksX0_isState_0 8 rfl rfl)
theorem dX0_isState_11 : decode cX0_isState 11 = .ok (.iload_n 1, 1) := dk_27 (dk_at dksX0_isState_0 11 rfl rfl)
theorem dX0_isState_12 : decode cX0_isState 12 = .ok (.aload_n 0, 1) := dk_42 (dk_at dksX0_isState_0 12 rfl rfl)
theorem dX0_isState_13 : decode cX0_isState 13 = .ok (.getfield 399, 3) := dk_180 1 143 (dk_at dksX0_isState_0 13 rfl rfl)
theorem dX0_isState_16 : decode cX0_isState 16 = .ok (.if_icmp .ge 7, 3) := dk_162 0 7 (dk_at dksX0_isState_0 16 rfl rfl)
theorem dX0_isState_19 : decode cX0_isState 19 = .ok (.iconst 1, 1) := dk_4 (dk_at dksX0_isState_0 19 rfl rfl)
theorem dX0_isState_20 : decode cX0_isState 20 = .ok (.goto 4, 3) := dk_167 0 4 (dk_at dksX0_isState_0 20 rfl rfl)
theorem dX0_isState_23 : decode cX0_isState 23 = .ok (.iconst 0, 1) := dk_3 (dk_at dksX0_isState_0 23 rfl rfl)
theorem dX0_isState_24 : decode cX0_isState 24 = .ok (.ireturn, 1) := dk_172 (dk_at dksX0_isState_1 0 rfl rfl)
abbrev cX0_points : ByteArray := prog_1_method_51_code
def yX0_points : MethodName := ⟨RX0, "points", "(II)I"⟩
def dkwX0_points_1 : List UInt8 := [104, 123, 20, 1, 160, 127, 136, 167, 0, 4, 2, 172]
abbrev dktX0_points_1 : List UInt8 := dkwX0_points_1 ++ []
def dkwX0_points_0 : List UInt8 := [42, 27, 182, 1, 157, 153, 0, 29, 42, 28, 182, 1, 45, 153, 0, 21, 42, 180, 0, 62, 27, 47, 8, 28]
abbrev dktX0_points_0 : List UInt8 := dkwX0_points_0 ++ dktX0_points_1
theorem dksX0_points_0 : cX0_points.data.toList.drop 0 = dktX0_points_0 := by decide +kernel
theorem dksX0_points_1 : cX0_points.data.toList.drop 24 = dktX0_points_1 := dk_seg dksX0_points_0 24 rfl rfl
theorem dX0_points_0 : decode cX0_points 0 = .ok (.aload_n 0, 1) := dk_42 (dk_at dksX0_points_0 0 rfl rfl)
theorem dX0_points_1 : decode cX0_points 1 = .ok (.iload_n 1, 1) := dk_27 (dk_at dksX0_points_0 1 rfl rfl)
theorem dX0_points_2 : decode cX0_points 2 = .ok (.invokevirtual 413, 3) := dk_182 1 157 (dk_at dksX0_points_0 2 rfl rfl)
theorem dX0_points_5 : decode cX0_points 5 = .ok (.ifCond .eq 29, 3) := dk_153 0 29 (dk_at dksX0_points_0 5 rfl rfl)
theorem dX0_points_8 : decode cX0_points 8 = .ok (.aload_n 0, 1) := dk_42 (dk_at dksX0_points_0 8 rfl rfl)
theorem dX0_points_9 : decode cX0_points 9 = .ok (.iload_n 2, 1) := dk_28 (dk_at dksX0_points_0 9 rfl rfl)
theorem dX0_points_10 : decode cX0_points 10 = .ok (.invokevirtual 301, 3) := dk_182 1 45 (dk_at dksX0_points_0 10 rfl rfl)
theorem dX0_points_13 : decode cX0_points 13 = .ok (.ifCond .eq 21, 3) := dk_153 0 21 (dk_at dksX0_points_0 13 rfl rfl)
theorem dX0_points_16 : decode cX0_points 16 = .ok (.aload_n 0, 1) := dk_42 (dk_at dksX0_points_0 16 rfl rfl)
theorem dX0_points_17 : decode cX0_points 17 = .ok (.getfield 62, 3) := dk_180 0 62 (dk_at dksX0_points_0 17 rfl rfl)
theorem dX0_points_20 : decode cX0_points 20 = .ok (.iload_n 1, 1) := dk_27 (dk_at dksX0_points_0 20 rfl rfl)
theorem dX0_points_21 : decode cX0_points 21 = .ok (.laload, 1) := dk_47 (dk_at dksX0_points_0 21 rfl rfl)
theorem dX0_points_22 : decode cX0_points 22 = .ok (.iconst 5, 1) := dk_8 (dk_at dksX0_points_0 22 rfl rfl)
theorem dX0_points_23 : decode cX0_points 23 = .ok (.iload_n 2, 1) := dk_28 (dk_at dksX0_points_0 23 rfl rfl)
theorem dX0_points_24 : decode cX0_points 24 = .ok (.imul, 1) := dk_104 (dk_at dksX0_points_1 0 rfl rfl)
theorem dX0_points_25 : decode cX0_points 25 = .ok (.lshr, 1) := dk_123 (dk_at dksX0_points_1 1 rfl rfl)
theorem dX0_points_26 : decode cX0_points 26 = .ok (.ldc2_w 416, 3) := dk_20 1 160 (dk_at dksX0_points_1 2 rfl rfl)
theorem dX0_points_29 : decode cX0_points 29 = .ok (.land, 1) := dk_127 (dk_at dksX0_points_1 5 rfl rfl)
theorem dX0_points_30 : decode cX0_points 30 = .ok (.l2i, 1) := dk_136 (dk_at dksX0_points_1 6 rfl rfl)
theorem dX0_points_31 : decode cX0_points 31 = .ok (.goto 4, 3) := dk_167 0 4 (dk_at dksX0_points_1 7 rfl rfl)
theorem dX0_points_34 : decode cX0_points 34 = .ok (.iconst (-1), 1) := dk_2 (dk_at dksX0_points_1 10 rfl rfl)
theorem dX0_points_35 : decode cX0_points 35 = .ok (.ireturn, 1) := dk_172 (dk_at dksX0_points_1 11 rfl rfl)
abbrev cX0_done : ByteArray := prog_1_method_53_code
def yX0_done : MethodName := ⟨RX0, "done", "(I)I"⟩
def dkwX0_done_2 : List UInt8 := [132, 3, 1, 167, 255, 223, 28, 172]
abbrev dktX0_done_2 : List UInt8 := dkwX0_done_2 ++ []
def dkwX0_done_1 : List UInt8 := [162, 0, 28, 28, 42, 27, 29, 182, 1, 162, 153, 0, 9, 4, 29, 120, 167, 0, 4, 3, 128, 61]
abbrev dktX0_done_1 : List UInt8 := dkwX0_done_1 ++ dktX0_done_2
def dkwX0_done_0 : List UInt8 := [42, 27, 182, 1, 157, 154, 0, 5, 2, 172, 3, 61, 3, 62, 29, 42, 180, 0, 199, 180, 0, 203]
abbrev dktX0_done_0 : List UInt8 := dkwX0_done_0 ++ dktX0_done_1
theorem dksX0_done_0 : cX0_done.data.toList.drop 0 = dktX0_done_0 := by decide +kernel
theorem dksX0_done_1 : cX0_done.data.toList.drop 22 = dktX0_done_1 := dk_seg dksX0_done_0 22 rfl rfl
theorem dksX0_done_2 : cX0_done.data.toList.drop 44 = dktX0_done_2 := dk_seg dksX0_done_1 22 rfl rfl
theorem dX0_done_0 : decode cX0_done 0 = .ok (.aload_n 0, 1) := dk_42 (dk_at dksX0_done_0 0 rfl rfl)
theorem dX0_done_1 : decode cX0_done 1 = .ok (.iload_n 1, 1) := dk_27 (dk_at dksX0_done_0 1 rfl rfl)
theorem dX0_done_2 : decode cX0_done 2 = .ok (.invokevirtual 413, 3) := dk_182 1 157 (dk_at dksX0_done_0 2 rfl rfl)
theorem dX0_done_5 : decode cX0_done 5 = .ok (.ifCond .ne 5, 3) := dk_154 0 5 (dk_at dksX0_done_0 5 rfl rfl)
theorem dX0_done_8 : decode cX0_done 8 = .ok (.iconst (-1), 1) := dk_2 (dk_at dksX0_done_0 8 rfl rfl)
theorem dX0_done_9 : decode cX0_done 9 = .ok (.ireturn, 1) := dk_172 (dk_at dksX0_done_0 9 rfl rfl)
theorem dX0_done_10 : decode cX0_done 10 = .ok (.iconst 0, 1) := dk_3 (dk_at dksX0_done_0 10 rfl rfl)
theorem dX0_done_11 : decode cX0_done 11 = .ok (.istore_n 2, 1) := dk_61 (dk_at dksX0_done_0 11 rfl rfl)
theorem dX0_done_12 : decode cX0_done 12 = .ok (.iconst 0, 1) := dk_3 (dk_at dksX0_done_0 12 rfl rfl)
theorem dX0_done_13 : decode cX0_done 13 = .ok (.istore_n 3, 1) := dk_62 (dk_at dksX0_done_0 13 rfl rfl)
theorem dX0_done_14 : decode cX0_done 14 = .ok (.iload_n 3, 1) := dk_29 (dk_at dksX0_done_0 14 rfl rfl)
theorem dX0_done_15 : decode cX0_done 15 = .ok (.aload_n 0, 1) := dk_42 (dk_at dksX0_done_0 15 rfl rfl)
theorem dX0_done_16 : decode cX0_done 16 = .ok (.getfield 199, 3) := dk_180 0 199 (dk_at dksX0_done_0 16 rfl rfl)
theorem dX0_done_19 : decode cX0_done 19 = .ok (.getfield 203, 3) := dk_180 0 203 (dk_at dksX0_done_0 19 rfl rfl)
theorem dX0_done_22 : decode cX0_done 22 = .ok (.if_icmp .ge 28, 3) := dk_162 0 28 (dk_at dksX0_done_1 0 rfl rfl)
theorem dX0_done_25 : decode cX0_done 25 = .ok (.iload_n 2, 1) := dk_28 (dk_at dksX0_done_1 3 rfl rfl)
theorem dX0_done_26 : decode cX0_done 26 = .ok (.aload_n 0, 1) := dk_42 (dk_at dksX0_done_1 4 rfl rfl)
theorem dX0_done_27 : decode cX0_done 27 = .ok (.iload_n 1, 1) := dk_27 (dk_at dksX0_done_1 5 rfl rfl)
theorem dX0_done_28 : decode cX0_done 28 = .ok (.iload_n 3, 1) := dk_29 (dk_at dksX0_done_1 6 rfl rfl)
theorem dX0_done_29 : decode cX0_done 29 = .ok (.invokevirtual 418, 3) := dk_182 1 162 (dk_at dksX0_done_1 7 rfl rfl)
theorem dX0_done_32 : decode cX0_done 32 = .ok (.ifCond .eq 9, 3) := dk_153 0 9 (dk_at dksX0_done_1 10 rfl rfl)
theorem dX0_done_35 : decode cX0_done 35 = .ok (.iconst 1, 1) := dk_4 (dk_at dksX0_done_1 13 rfl rfl)
theorem dX0_done_36 : decode cX0_done 36 = .ok (.iload_n 3, 1) := dk_29 (dk_at dksX0_done_1 14 rfl rfl)
theorem dX0_done_37 : decode cX0_done 37 = .ok (.ishl, 1) := dk_120 (dk_at dksX0_done_1 15 rfl rfl)
theorem dX0_done_38 : decode cX0_done 38 = .ok (.goto 4, 3) := dk_167 0 4 (dk_at dksX0_done_1 16 rfl rfl)
theorem dX0_done_41 : decode cX0_done 41 = .ok (.iconst 0, 1) := dk_3 (dk_at dksX0_done_1 19 rfl rfl)
theorem dX0_done_42 : decode cX0_done 42 = .ok (.ior, 1) := dk_128 (dk_at dksX0_done_1 20 rfl rfl)
theorem dX0_done_43 : decode cX0_done 43 = .ok (.istore_n 2, 1) := dk_61 (dk_at dksX0_done_1 21 rfl rfl)
theorem dX0_done_44 : decode cX0_done 44 = .ok (.iinc 3 1, 3) := dk_132 3 1 (dk_at dksX0_done_2 0 rfl rfl)
theorem dX0_done_47 : decode cX0_done 47 = .ok (.goto (-33), 3) := dk_167 255 223 (dk_at dksX0_done_2 3 rfl rfl)
theorem dX0_done_50 : decode cX0_done 50 = .ok (.iload_n 2, 1) := dk_28 (dk_at dksX0_done_2 6 rfl rfl)
theorem dX0_done_51 : decode cX0_done 51 = .ok (.ireturn, 1) := dk_172 (dk_at dksX0_done_2 7 rfl rfl)
abbrev cX0_isDone : ByteArray := prog_1_method_52_code
def yX0_isDone : MethodName := ⟨RX0, "isDone", "(II)Z"⟩
def dkwX0_isDone_2 : List UInt8 := [4, 172, 132, 3, 1, 167, 255, 205, 3, 172]
abbrev dktX0_isDone_2 : List UInt8 := dkwX0_isDone_2 ++ []
def dkwX0_isDone_1 : List UInt8 := [182, 1, 131, 153, 0, 23, 42, 28, 29, 42, 180, 0, 199, 180, 0, 232, 28, 46, 182, 1, 77, 153, 0, 5]
abbrev dktX0_isDone_1 : List UInt8 := dkwX0_isDone_1 ++ dktX0_isDone_2
def dkwX0_isDone_0 : List UInt8 := [3, 62, 29, 42, 180, 0, 199, 180, 0, 232, 28, 46, 163, 0, 44, 42, 42, 180, 0, 62, 27, 47, 28, 29]
abbrev dktX0_isDone_0 : List UInt8 := dkwX0_isDone_0 ++ dktX0_isDone_1
theorem dksX0_isDone_0 : cX0_isDone.data.toList.drop 0 = dktX0_isDone_0 := by decide +kernel
theorem dksX0_isDone_1 : cX0_isDone.data.toList.drop 24 = dktX0_isDone_1 := dk_seg dksX0_isDone_0 24 rfl rfl
theorem dksX0_isDone_2 : cX0_isDone.data.toList.drop 48 = dktX0_isDone_2 := dk_seg dksX0_isDone_1 24 rfl rfl
theorem dX0_isDone_0 : decode cX0_isDone 0 = .ok (.iconst 0, 1) := dk_3 (dk_at dksX0_isDone_0 0 rfl rfl)
theorem dX0_isDone_1 : decode cX0_isDone 1 = .ok (.istore_n 3, 1) := dk_62 (dk_at dksX0_isDone_0 1 rfl rfl)
theorem dX0_isDone_2 : decode cX0_isDone 2 = .ok (.iload_n 3, 1) := dk_29 (dk_at dksX0_isDone_0 2 rfl rfl)
theorem dX0_isDone_3 : decode cX0_isDone 3 = .ok (.aload_n 0, 1) := dk_42 (dk_at dksX0_isDone_0 3 rfl rfl)
theorem dX0_isDone_4 : decode cX0_isDone 4 = .ok (.getfield 199, 3) := dk_180 0 199 (dk_at dksX0_isDone_0 4 rfl rfl)
theorem dX0_isDone_7 : decode cX0_isDone 7 = .ok (.getfield 232, 3) := dk_180 0 232 (dk_at dksX0_isDone_0 7 rfl rfl)
theorem dX0_isDone_10 : decode cX0_isDone 10 = .ok (.iload_n 2, 1) := dk_28 (dk_at dksX0_isDone_0 10 rfl rfl)
theorem dX0_isDone_11 : decode cX0_isDone 11 = .ok (.iaload, 1) := dk_46 (dk_at dksX0_isDone_0 11 rfl rfl)
theorem dX0_isDone_12 : decode cX0_isDone 12 = .ok (.if_icmp .gt 44, 3) := dk_163 0 44 (dk_at dksX0_isDone_0 12 rfl rfl)
theorem dX0_isDone_15 : decode cX0_isDone 15 = .ok (.aload_n 0, 1) := dk_42 (dk_at dksX0_isDone_0 15 rfl rfl)
theorem dX0_isDone_16 : decode cX0_isDone 16 = .ok (.aload_n 0, 1) := dk_42 (dk_at dksX0_isDone_0 16 rfl rfl)
theorem dX0_isDone_17 : decode cX0_isDone 17 = .ok (.getfield 62, 3) := dk_180 0 62 (dk_at dksX0_isDone_0 17 rfl rfl)
theorem dX0_isDone_20 : decode cX0_isDone 20 = .ok (.iload_n 1, 1) := dk_27 (dk_at dksX0_isDone_0 20 rfl rfl)
theorem dX0_isDone_21 : decode cX0_isDone 21 = .ok (.laload, 1) := dk_47 (dk_at dksX0_isDone_0 21 rfl rfl)
theorem dX0_isDone_22 : decode cX0_isDone 22 = .ok (.iload_n 2, 1) := dk_28 (dk_at dksX0_isDone_0 22 rfl rfl)
theorem dX0_isDone_23 : decode cX0_isDone 23 = .ok (.iload_n 3, 1) := dk_29 (dk_at dksX0_isDone_0 23 rfl rfl)
theorem dX0_isDone_24 : decode cX0_isDone 24 = .ok (.invokevirtual 387, 3) := dk_182 1 131 (dk_at dksX0_isDone_1 0 rfl rfl)
theorem dX0_isDone_27 : decode cX0_isDone 27 = .ok (.ifCond .eq 23, 3) := dk_153 0 23 (dk_at dksX0_isDone_1 3 rfl rfl)
theorem dX0_isDone_30 : decode cX0_isDone 30 = .ok (.aload_n 0, 1) := dk_42 (dk_at dksX0_isDone_1 6 rfl rfl)
theorem dX0_isDone_31 : decode cX0_isDone 31 = .ok (.iload_n 2, 1) := dk_28 (dk_at dksX0_isDone_1 7 rfl rfl)
theorem dX0_isDone_32 : decode cX0_isDone 32 = .ok (.iload_n 3, 1) := dk_29 (dk_at dksX0_isDone_1 8 rfl rfl)
theorem dX0_isDone_33 : decode cX0_isDone 33 = .ok (.aload_n 0, 1) := dk_42 (dk_at dksX0_isDone_1 9 rfl rfl)
theorem dX0_isDone_34 : decode cX0_isDone 34 = .ok (.getfield 199, 3) := dk_180 0 199 (dk_at dksX0_isDone_1 10 rfl rfl)
theorem dX0_isDone_37 : decode cX0_isDone 37 = .ok (.getfield 232, 3) := dk_180 0 232 (dk_at dksX0_isDone_1 13 rfl rfl)
theorem dX0_isDone_40 : decode cX0_isDone 40 = .ok (.iload_n 2, 1) := dk_28 (dk_at dksX0_isDone_1 16 rfl rfl)
theorem dX0_isDone_41 : decode cX0_isDone 41 = .ok (.iaload, 1) := dk_46 (dk_at dksX0_isDone_1 17 rfl rfl)
theorem dX0_isDone_42 : decode cX0_isDone 42 = .ok (.invokevirtual 333, 3) := dk_182 1 77 (dk_at dksX0_isDone_1 18 rfl rfl)
theorem dX0_isDone_45 : decode cX0_isDone 45 = .ok (.ifCond .eq 5, 3) := dk_153 0 5 (dk_at dksX0_isDone_1 21 rfl rfl)
theorem dX0_isDone_48 : decode cX0_isDone 48 = .ok (.iconst 1, 1) := dk_4 (dk_at dksX0_isDone_2 0 rfl rfl)
theorem dX0_isDone_49 : decode cX0_isDone 49 = .ok (.ireturn, 1) := dk_172 (dk_at dksX0_isDone_2 1 rfl rfl)
theorem dX0_isDone_50 : decode cX0_isDone 50 = .ok (.iinc 3 1, 3) := dk_132 3 1 (dk_at dksX0_isDone_2 2 rfl rfl)
theorem dX0_isDone_53 : decode cX0_isDone 53 = .ok (.goto (-51), 3) := dk_167 255 205 (dk_at dksX0_isDone_2 5 rfl rfl)
theorem dX0_isDone_56 : decode cX0_isDone 56 = .ok (.iconst 0, 1) := dk_3 (dk_at dksX0_isDone_2 8 rfl rfl)
theorem dX0_isDone_57 : decode cX0_isDone 57 = .ok (.ireturn, 1) := dk_172 (dk_at dksX0_isDone_2 9 rfl rfl)
abbrev cX0_clashes : ByteArray := prog_1_method_56_code
def yX0_clashes : MethodName := ⟨RX0, "clashes", "()I"⟩
def dkwX0_clashes_1 : List UInt8 := [182, 1, 168, 153, 0, 7, 4, 167, 0, 4, 3, 96, 60, 132, 2, 1, 167, 255, 229, 27, 172]
abbrev dktX0_clashes_1 : List UInt8 := dkwX0_clashes_1 ++ []
def dkwX0_clashes_0 : List UInt8 := [42, 180, 0, 199, 199, 0, 5, 2, 172, 3, 60, 3, 61, 28, 42, 180, 1, 143, 162, 0, 25, 27, 42, 28]
abbrev dktX0_clashes_0 : List UInt8 := dkwX0_clashes_0 ++ dktX0_clashes_1
theorem dksX0_clashes_0 : cX0_clashes.data.toList.drop 0 = dktX0_clashes_0 := by decide +kernel
theorem dksX0_clashes_1 : cX0_clashes.data.toList.drop 24 = dktX0_clashes_1 := dk_seg dksX0_clashes_0 24 rfl rfl
theorem dX0_clashes_0 : decode cX0_clashes 0 = .ok (.aload_n 0, 1) := dk_42 (dk_at dksX0_clashes_0 0 rfl rfl)
theorem dX0_clashes_1 : decode cX0_clashes 1 = .ok (.getfield 199, 3) := dk_180 0 199 (dk_at dksX0_clashes_0 1 rfl rfl)
theorem dX0_clashes_4 : decode cX0_clashes 4 = .ok (.ifnonnull 5, 3) := dk_199 0 5 (dk_at dksX0_clashes_0 4 rfl rfl)
theorem dX0_clashes_7 : decode cX0_clashes 7 = .ok (.iconst (-1), 1) := dk_2 (dk_at dksX0_clashes_0 7 rfl rfl)
theorem dX0_clashes_8 : decode cX0_clashes 8 = .ok (.ireturn, 1) := dk_172 (dk_at dksX0_clashes_0 8 rfl rfl)
theorem dX0_clashes_9 : decode cX0_clashes 9 = .ok (.iconst 0, 1) := dk_3 (dk_at dksX0_clashes_0 9 rfl rfl)
theorem dX0_clashes_10 : decode cX0_clashes 10 = .ok (.istore_n 1, 1) := dk_60 (dk_at dksX0_clashes_0 10 rfl rfl)
theorem dX0_clashes_11 : decode cX0_clashes 11 = .ok (.iconst 0, 1) := dk_3 (dk_at dksX0_clashes_0 11 rfl rfl)
theorem dX0_clashes_12 : decode cX0_clashes 12 = .ok (.istore_n 2, 1) := dk_61 (dk_at dksX0_clashes_0 12 rfl rfl)
theorem dX0_clashes_13 : decode cX0_clashes 13 = .ok (.iload_n 2, 1) := dk_28 (dk_at dksX0_clashes_0 13 rfl rfl)
theorem dX0_clashes_14 : decode cX0_clashes 14 = .ok (.aload_n 0, 1) := dk_42 (dk_at dksX0_clashes_0 14 rfl rfl)
theorem dX0_clashes_15 : decode cX0_clashes 15 = .ok (.getfield 399, 3) := dk_180 1 143 (dk_at dksX0_clashes_0 15 rfl rfl)
theorem dX0_clashes_18 : decode cX0_clashes 18 = .ok (.if_icmp .ge 25, 3) := dk_162 0 25 (dk_at dksX0_clashes_0 18 rfl rfl)
theorem dX0_clashes_21 : decode cX0_clashes 21 = .ok (.iload_n 1, 1) := dk_27 (dk_at dksX0_clashes_0 21 rfl rfl)
theorem dX0_clashes_22 : decode cX0_clashes 22 = .ok (.aload_n 0, 1) := dk_42 (dk_at dksX0_clashes_0 22 rfl rfl)
theorem dX0_clashes_23 : decode cX0_clashes 23 = .ok (.iload_n 2, 1) := dk_28 (dk_at dksX0_clashes_0 23 rfl rfl)
theorem dX0_clashes_24 : decode cX0_clashes 24 = .ok (.invokevirtual 424, 3) := dk_182 1 168 (dk_at dksX0_clashes_1 0 rfl rfl)
theorem dX0_clashes_27 : decode cX0_clashes 27 = .ok (.ifCond .eq 7, 3) := dk_153 0 7 (dk_at dksX0_clashes_1 3 rfl rfl)
theorem dX0_clashes_30 : decode cX0_clashes 30 = .ok (.iconst 1, 1) := dk_4 (dk_at dksX0_clashes_1 6 rfl rfl)
theorem dX0_clashes_31 : decode cX0_clashes 31 = .ok (.goto 4, 3) := dk_167 0 4 (dk_at dksX0_clashes_1 7 rfl rfl)
theorem dX0_clashes_34 : decode cX0_clashes 34 = .ok (.iconst 0, 1) := dk_3 (dk_at dksX0_clashes_1 10 rfl rfl)
theorem dX0_clashes_35 : decode cX0_clashes 35 = .ok (.iadd, 1) := dk_96 (dk_at dksX0_clashes_1 11 rfl rfl)
theorem dX0_clashes_36 : decode cX0_clashes 36 = .ok (.istore_n 1, 1) := dk_60 (dk_at dksX0_clashes_1 12 rfl rfl)
theorem dX0_clashes_37 : decode cX0_clashes 37 = .ok (.iinc 2 1, 3) := dk_132 2 1 (dk_at dksX0_clashes_1 13 rfl rfl)
theorem dX0_clashes_40 : decode cX0_clashes 40 = .ok (.goto (-27), 3) := dk_167 255 229 (dk_at dksX0_clashes_1 16 rfl rfl)
theorem dX0_clashes_43 : decode cX0_clashes 43 = .ok (.iload_n 1, 1) := dk_27 (dk_at dksX0_clashes_1 19 rfl rfl)
theorem dX0_clashes_44 : decode cX0_clashes 44 = .ok (.ireturn, 1) := dk_172 (dk_at dksX0_clashes_1 20 rfl rfl)
abbrev cX0_doesClash : ByteArray := prog_1_method_55_code
def yX0_doesClash : MethodName := ⟨RX0, "doesClash", "(I)Z"⟩
def dkwX0_doesClash_4 : List UInt8 := [132, 4, 1, 167, 255, 198, 29, 4, 164, 0, 5, 4, 172, 132, 2, 1, 167, 255, 148, 3, 172]
abbrev dktX0_doesClash_4 : List UInt8 := dkwX0_doesClash_4 ++ []
def dkwX0_doesClash_3 : List UInt8 := [180, 1, 49, 21, 4, 46, 16, 26, 100, 46, 28, 184, 0, 211, 153, 0, 7, 4, 167, 0, 4, 3, 96, 62]
abbrev dktX0_doesClash_3 : List UInt8 := dkwX0_doesClash_3 ++ dktX0_doesClash_4
def dkwX0_doesClash_2 : List UInt8 := [162, 0, 52, 29, 42, 27, 21, 4, 182, 1, 165, 153, 0, 32, 42, 180, 0, 56, 42, 180, 0, 199]
abbrev dktX0_doesClash_2 : List UInt8 := dkwX0_doesClash_2 ++ dktX0_doesClash_3
def dkwX0_doesClash_1 : List UInt8 := [46, 16, 254, 159, 0, 7, 4, 167, 0, 4, 3, 62, 3, 54, 4, 21, 4, 42, 180, 0, 199, 180, 0, 203]
abbrev dktX0_doesClash_1 : List UInt8 := dkwX0_doesClash_1 ++ dktX0_doesClash_2
def dkwX0_doesClash_0 : List UInt8 := [3, 61, 28, 16, 26, 163, 0, 108, 28, 16, 26, 162, 0, 23, 42, 180, 0, 66, 16, 52, 27, 104, 28, 96]
abbrev dktX0_doesClash_0 : List UInt8 := dkwX0_doesClash_0 ++ dktX0_doesClash_1
theorem dksX0_doesClash_0 : cX0_doesClash.data.toList.drop 0 = dktX0_doesClash_0 := by decide +kernel
theorem dksX0_doesClash_1 : cX0_doesClash.data.toList.drop 24 = dktX0_doesClash_1 := dk_seg dksX0_doesClash_0 24 rfl rfl
theorem dksX0_doesClash_2 : cX0_doesClash.data.toList.drop 48 = dktX0_doesClash_2 := dk_seg dksX0_doesClash_1 24 rfl rfl
theorem dksX0_doesClash_3 : cX0_doesClash.data.toList.drop 70 = dktX0_doesClash_3 := dk_seg dksX0_doesClash_2 22 rfl rfl
theorem dksX0_doesClash_4 : cX0_doesClash.data.toList.drop 94 = dktX0_doesClash_4 := dk_seg dksX0_doesClash_3 24 rfl rfl
theorem dX0_doesClash_0 : decode cX0_doesClash 0 = .ok (.iconst 0, 1) := dk_3 (dk_at dksX0_doesClash_0 0 rfl rfl)
theorem dX0_doesClash_1 : decode cX0_doesClash 1 = .ok (.istore_n 2, 1) := dk_61 (dk_at dksX0_doesClash_0 1 rfl rfl)
theorem dX0_doesClash_2 : decode cX0_doesClash 2 = .ok (.iload_n 2, 1) := dk_28 (dk_at dksX0_doesClash_0 2 rfl rfl)
theorem dX0_doesClash_3 : decode cX0_doesClash 3 = .ok (.bipush 26, 2) := dk_16 26 (dk_at dksX0_doesClash_0 3 rfl rfl)
theorem dX0_doesClash_5 : decode cX0_doesClash 5 = .ok (.if_icmp .gt 108, 3) := dk_163 0 108 (dk_at dksX0_doesClash_0 5 rfl rfl)
theorem dX0_doesClash_8 : decode cX0_doesClash 8 = .ok (.iload_n 2, 1) := dk_28 (dk_at dksX0_doesClash_0 8 rfl rfl)
theorem dX0_doesClash_9 : decode cX0_doesClash 9 = .ok (.bipush 26, 2) := dk_16 26 (dk_at dksX0_doesClash_0 9 rfl rfl)
theorem dX0_doesClash_11 : decode cX0_doesClash 11 = .ok (.if_icmp .ge 23, 3) := dk_162 0 23 (dk_at dksX0_doesClash_0 11 rfl rfl)
theorem dX0_doesClash_14 : decode cX0_doesClash 14 = .ok (.aload_n 0, 1) := dk_42 (dk_at dksX0_doesClash_0 14 rfl rfl)
theorem dX0_doesClash_15 : decode cX0_doesClash 15 = .ok (.getfield 66, 3) := dk_180 0 66 (dk_at dksX0_doesClash_0 15 rfl rfl)
theorem dX0_doesClash_18 : decode cX0_doesClash 18 = .ok (.bipush 52, 2) := dk_16 52 (dk_at dksX0_doesClash_0 18 rfl rfl)
theorem dX0_doesClash_20 : decode cX0_doesClash 20 = .ok (.iload_n 1, 1) := dk_27 (dk_at dksX0_doesClash_0 20 rfl rfl)
theorem dX0_doesClash_21 : decode cX0_doesClash 21 = .ok (.imul, 1) := dk_104 (dk_at dksX0_doesClash_0 21 rfl rfl)
theorem dX0_doesClash_22 : decode cX0_doesClash 22 = .ok (.iload_n 2, 1) := dk_28 (dk_at dksX0_doesClash_0 22 rfl rfl)
theorem dX0_doesClash_23 : decode cX0_doesClash 23 = .ok (.iadd, 1) := dk_96 (dk_at dksX0_doesClash_0 23 rfl rfl)
theorem dX0_doesClash_24 : decode cX0_doesClash 24 = .ok (.iaload, 1) := dk_46 (dk_at dksX0_doesClash_1 0 rfl rfl)
theorem dX0_doesClash_25 : decode cX0_doesClash 25 = .ok (.bipush (-2), 2) := dk_16 254 (dk_at dksX0_doesClash_1 1 rfl rfl)
theorem dX0_doesClash_27 : decode cX0_doesClash 27 = .ok (.if_icmp .eq 7, 3) := dk_159 0 7 (dk_at dksX0_doesClash_1 3 rfl rfl)
theorem dX0_doesClash_30 : decode cX0_doesClash 30 = .ok (.iconst 1, 1) := dk_4 (dk_at dksX0_doesClash_1 6 rfl rfl)
theorem dX0_doesClash_31 : decode cX0_doesClash 31 = .ok (.goto 4, 3) := dk_167 0 4 (dk_at dksX0_doesClash_1 7 rfl rfl)
theorem dX0_doesClash_34 : decode cX0_doesClash 34 = .ok (.iconst 0, 1) := dk_3 (dk_at dksX0_doesClash_1 10 rfl rfl)
theorem dX0_doesClash_35 : decode cX0_doesClash 35 = .ok (.istore_n 3, 1) := dk_62 (dk_at dksX0_doesClash_1 11 rfl rfl)
theorem dX0_doesClash_36 : decode cX0_doesClash 36 = .ok (.iconst 0, 1) := dk_3 (dk_at dksX0_doesClash_1 12 rfl rfl)
theorem dX0_doesClash_37 : decode cX0_doesClash 37 = .ok (.istore 4, 2) := dk_54 4 (dk_at dksX0_doesClash_1 13 rfl rfl)
theorem dX0_doesClash_39 : decode cX0_doesClash 39 = .ok (.iload 4, 2) := dk_21 4 (dk_at dksX0_doesClash_1 15 rfl rfl)
theorem dX0_doesClash_41 : decode cX0_doesClash 41 = .ok (.aload_n 0, 1) := dk_42 (dk_at dksX0_doesClash_1 17 rfl rfl)
theorem dX0_doesClash_42 : decode cX0_doesClash 42 = .ok (.getfield 199, 3) := dk_180 0 199 (dk_at dksX0_doesClash_1 18 rfl rfl)
theorem dX0_doesClash_45 : decode cX0_doesClash 45 = .ok (.getfield 203, 3) := dk_180 0 203 (dk_at dksX0_doesClash_1 21 rfl rfl)
theorem dX0_doesClash_48 : decode cX0_doesClash 48 = .ok (.if_icmp .ge 52, 3) := dk_162 0 52 (dk_at dksX0_doesClash_2 0 rfl rfl)
theorem dX0_doesClash_51 : decode cX0_doesClash 51 = .ok (.iload_n 3, 1) := dk_29 (dk_at dksX0_doesClash_2 3 rfl rfl)
theorem dX0_doesClash_52 : decode cX0_doesClash 52 = .ok (.aload_n 0, 1) := dk_42 (dk_at dksX0_doesClash_2 4 rfl rfl)
theorem dX0_doesClash_53 : decode cX0_doesClash 53 = .ok (.iload_n 1, 1) := dk_27 (dk_at dksX0_doesClash_2 5 rfl rfl)
theorem dX0_doesClash_54 : decode cX0_doesClash 54 = .ok (.iload 4, 2) := dk_21 4 (dk_at dksX0_doesClash_2 6 rfl rfl)
theorem dX0_doesClash_56 : decode cX0_doesClash 56 = .ok (.invokevirtual 421, 3) := dk_182 1 165 (dk_at dksX0_doesClash_2 8 rfl rfl)
theorem dX0_doesClash_59 : decode cX0_doesClash 59 = .ok (.ifCond .eq 32, 3) := dk_153 0 32 (dk_at dksX0_doesClash_2 11 rfl rfl)
theorem dX0_doesClash_62 : decode cX0_doesClash 62 = .ok (.aload_n 0, 1) := dk_42 (dk_at dksX0_doesClash_2 14 rfl rfl)
theorem dX0_doesClash_63 : decode cX0_doesClash 63 = .ok (.getfield 56, 3) := dk_180 0 56 (dk_at dksX0_doesClash_2 15 rfl rfl)
theorem dX0_doesClash_66 : decode cX0_doesClash 66 = .ok (.aload_n 0, 1) := dk_42 (dk_at dksX0_doesClash_2 18 rfl rfl)
theorem dX0_doesClash_67 : decode cX0_doesClash 67 = .ok (.getfield 199, 3) := dk_180 0 199 (dk_at dksX0_doesClash_2 19 rfl rfl)
theorem dX0_doesClash_70 : decode cX0_doesClash 70 = .ok (.getfield 305, 3) := dk_180 1 49 (dk_at dksX0_doesClash_3 0 rfl rfl)
theorem dX0_doesClash_73 : decode cX0_doesClash 73 = .ok (.iload 4, 2) := dk_21 4 (dk_at dksX0_doesClash_3 3 rfl rfl)
theorem dX0_doesClash_75 : decode cX0_doesClash 75 = .ok (.iaload, 1) := dk_46 (dk_at dksX0_doesClash_3 5 rfl rfl)
theorem dX0_doesClash_76 : decode cX0_doesClash 76 = .ok (.bipush 26, 2) := dk_16 26 (dk_at dksX0_doesClash_3 6 rfl rfl)
theorem dX0_doesClash_78 : decode cX0_doesClash 78 = .ok (.isub, 1) := dk_100 (dk_at dksX0_doesClash_3 8 rfl rfl)
theorem dX0_doesClash_79 : decode cX0_doesClash 79 = .ok (.iaload, 1) := dk_46 (dk_at dksX0_doesClash_3 9 rfl rfl)
theorem dX0_doesClash_80 : decode cX0_doesClash 80 = .ok (.iload_n 2, 1) := dk_28 (dk_at dksX0_doesClash_3 10 rfl rfl)
theorem dX0_doesClash_81 : decode cX0_doesClash 81 = .ok (.invokestatic 211, 3) := dk_184 0 211 (dk_at dksX0_doesClash_3 11 rfl rfl)
theorem dX0_doesClash_84 : decode cX0_doesClash 84 = .ok (.ifCond .eq 7, 3) := dk_153 0 7 (dk_at dksX0_doesClash_3 14 rfl rfl)
theorem dX0_doesClash_87 : decode cX0_doesClash 87 = .ok (.iconst 1, 1) := dk_4 (dk_at dksX0_doesClash_3 17 rfl rfl)
theorem dX0_doesClash_88 : decode cX0_doesClash 88 = .ok (.goto 4, 3) := dk_167 0 4 (dk_at dksX0_doesClash_3 18 rfl rfl)
theorem dX0_doesClash_91 : decode cX0_doesClash 91 = .ok (.iconst 0, 1) := dk_3 (dk_at dksX0_doesClash_3 21 rfl rfl)
theorem dX0_doesClash_92 : decode cX0_doesClash 92 = .ok (.iadd, 1) := dk_96 (dk_at dksX0_doesClash_3 22 rfl rfl)
theorem dX0_doesClash_93 : decode cX0_doesClash 93 = .ok (.istore_n 3, 1) := dk_62 (dk_at dksX0_doesClash_3 23 rfl rfl)
theorem dX0_doesClash_94 : decode cX0_doesClash 94 = .ok (.iinc 4 1, 3) := dk_132 4 1 (dk_at dksX0_doesClash_4 0 rfl rfl)
theorem dX0_doesClash_97 : decode cX0_doesClash 97 = .ok (.goto (-58), 3) := dk_167 255 198 (dk_at dksX0_doesClash_4 3 rfl rfl)
theorem dX0_doesClash_100 : decode cX0_doesClash 100 = .ok (.iload_n 3, 1) := dk_29 (dk_at dksX0_doesClash_4 6 rfl rfl)
theorem dX0_doesClash_101 : decode cX0_doesClash 101 = .ok (.iconst 1, 1) := dk_4 (dk_at dksX0_doesClash_4 7 rfl rfl)
theorem dX0_doesClash_102 : decode cX0_doesClash 102 = .ok (.if_icmp .le 5, 3) := dk_164 0 5 (dk_at dksX0_doesClash_4 8 rfl rfl)
theorem dX0_doesClash_105 : decode cX0_doesClash 105 = .ok (.iconst 1, 1) := dk_4 (dk_at dksX0_doesClash_4 11 rfl rfl)
theorem dX0_doesClash_106 : decode cX0_doesClash 106 = .ok (.ireturn, 1) := dk_172 (dk_at dksX0_doesClash_4 12 rfl rfl)
theorem dX0_doesClash_107 : decode cX0_doesClash 107 = .ok (.iinc 2 1, 3) := dk_132 2 1 (dk_at dksX0_doesClash_4 13 rfl rfl)
theorem dX0_doesClash_110 : decode cX0_doesClash 110 = .ok (.goto (-108), 3) := dk_167 255 148 (dk_at dksX0_doesClash_4 16 rfl rfl)
theorem dX0_doesClash_113 : decode cX0_doesClash 113 = .ok (.iconst 0, 1) := dk_3 (dk_at dksX0_doesClash_4 19 rfl rfl)
theorem dX0_doesClash_114 : decode cX0_doesClash 114 = .ok (.ireturn, 1) := dk_172 (dk_at dksX0_doesClash_4 20 rfl rfl)
abbrev cX0_isAtEnd : ByteArray := prog_1_method_54_code
def yX0_isAtEnd : MethodName := ⟨RX0, "isAtEnd", "(II)Z"⟩
def dkwX0_isAtEnd_0 : List UInt8 := [42, 42, 180, 0, 62, 27, 47, 28, 42, 180, 0, 199, 180, 0, 232, 28, 46, 182, 1, 131, 172]
abbrev dktX0_isAtEnd_0 : List UInt8 := dkwX0_isAtEnd_0 ++ []
theorem dksX0_isAtEnd_0 : cX0_isAtEnd.data.toList.drop 0 = dktX0_isAtEnd_0 := by decide +kernel
theorem dX0_isAtEnd_0 : decode cX0_isAtEnd 0 = .ok (.aload_n 0, 1) := dk_42 (dk_at dksX0_isAtEnd_0 0 rfl rfl)
theorem dX0_isAtEnd_1 : decode cX0_isAtEnd 1 = .ok (.aload_n 0, 1) := dk_42 (dk_at dksX0_isAtEnd_0 1 rfl rfl)
theorem dX0_isAtEnd_2 : decode cX0_isAtEnd 2 = .ok (.getfield 62, 3) := dk_180 0 62 (dk_at dksX0_isAtEnd_0 2 rfl rfl)
theorem dX0_isAtEnd_5 : decode cX0_isAtEnd 5 = .ok (.iload_n 1, 1) := dk_27 (dk_at dksX0_isAtEnd_0 5 rfl rfl)
theorem dX0_isAtEnd_6 : decode cX0_isAtEnd 6 = .ok (.laload, 1) := dk_47 (dk_at dksX0_isAtEnd_0 6 rfl rfl)
theorem dX0_isAtEnd_7 : decode cX0_isAtEnd 7 = .ok (.iload_n 2, 1) := dk_28 (dk_at dksX0_isAtEnd_0 7 rfl rfl)
theorem dX0_isAtEnd_8 : decode cX0_isAtEnd 8 = .ok (.aload_n 0, 1) := dk_42 (dk_at dksX0_isAtEnd_0 8 rfl rfl)
theorem dX0_isAtEnd_9 : decode cX0_isAtEnd 9 = .ok (.getfield 199, 3) := dk_180 0 199 (dk_at dksX0_isAtEnd_0 9 rfl rfl)
theorem dX0_isAtEnd_12 : decode cX0_isAtEnd 12 = .ok (.getfield 232, 3) := dk_180 0 232 (dk_at dksX0_isAtEnd_0 12 rfl rfl)
theorem dX0_isAtEnd_15 : decode cX0_isAtEnd 15 = .ok (.iload_n 2, 1) := dk_28 (dk_at dksX0_isAtEnd_0 15 rfl rfl)
theorem dX0_isAtEnd_16 : decode cX0_isAtEnd 16 = .ok (.iaload, 1) := dk_46 (dk_at dksX0_isAtEnd_0 16 rfl rfl)
theorem dX0_isAtEnd_17 : decode cX0_isAtEnd 17 = .ok (.invokevirtual 387, 3) := dk_182 1 131 (dk_at dksX0_isAtEnd_0 17 rfl rfl)
theorem dX0_isAtEnd_20 : decode cX0_isAtEnd 20 = .ok (.ireturn, 1) := dk_172 (dk_at dksX0_isAtEnd_0 20 rfl rfl)
abbrev cX0_undo : ByteArray := prog_1_method_59_code
def yX0_undo : MethodName := ⟨RX0, "undo", "()I"⟩
def dkwX0_undo_1 : List UInt8 := [42, 180, 1, 32, 50, 180, 1, 180, 185, 1, 184, 1, 0, 42, 180, 1, 32, 172]
abbrev dktX0_undo_1 : List UInt8 := dkwX0_undo_1 ++ []
def dkwX0_undo_0 : List UInt8 := [42, 180, 1, 32, 154, 0, 6, 16, 254, 172, 42, 89, 180, 1, 32, 4, 100, 181, 1, 32, 42, 180, 0, 32]
abbrev dktX0_undo_0 : List UInt8 := dkwX0_undo_0 ++ dktX0_undo_1
theorem dksX0_undo_0 : cX0_undo.data.toList.drop 0 = dktX0_undo_0 := by decide +kernel
theorem dksX0_undo_1 : cX0_undo.data.toList.drop 24 = dktX0_undo_1 := dk_seg dksX0_undo_0 24 rfl rfl
theorem dX0_undo_0 : decode cX0_undo 0 = .ok (.aload_n 0, 1) := dk_42 (dk_at dksX0_undo_0 0 rfl rfl)
theorem dX0_undo_1 : decode cX0_undo 1 = .ok (.getfield 288, 3) := dk_180 1 32 (dk_at dksX0_undo_0 1 rfl rfl)
theorem dX0_undo_4 : decode cX0_undo 4 = .ok (.ifCond .ne 6, 3) := dk_154 0 6 (dk_at dksX0_undo_0 4 rfl rfl)
theorem dX0_undo_7 : decode cX0_undo 7 = .ok (.bipush (-2), 2) := dk_16 254 (dk_at dksX0_undo_0 7 rfl rfl)
theorem dX0_undo_9 : decode cX0_undo 9 = .ok (.ireturn, 1) := dk_172 (dk_at dksX0_undo_0 9 rfl rfl)
theorem dX0_undo_10 : decode cX0_undo 10 = .ok (.aload_n 0, 1) := dk_42 (dk_at dksX0_undo_0 10 rfl rfl)
theorem dX0_undo_11 : decode cX0_undo 11 = .ok (.dup, 1) := dk_89 (dk_at dksX0_undo_0 11 rfl rfl)
theorem dX0_undo_12 : decode cX0_undo 12 = .ok (.getfield 288, 3) := dk_180 1 32 (dk_at dksX0_undo_0 12 rfl rfl)
theorem dX0_undo_15 : decode cX0_undo 15 = .ok (.iconst 1, 1) := dk_4 (dk_at dksX0_undo_0 15 rfl rfl)
theorem dX0_undo_16 : decode cX0_undo 16 = .ok (.isub, 1) := dk_100 (dk_at dksX0_undo_0 16 rfl rfl)
theorem dX0_undo_17 : decode cX0_undo 17 = .ok (.putfield 288, 3) := dk_181 1 32 (dk_at dksX0_undo_0 17 rfl rfl)
theorem dX0_undo_20 : decode cX0_undo 20 = .ok (.aload_n 0, 1) := dk_42 (dk_at dksX0_undo_0 20 rfl rfl)
theorem dX0_undo_21 : decode cX0_undo 21 = .ok (.getfield 32, 3) := dk_180 0 32 (dk_at dksX0_undo_0 21 rfl rfl)
theorem dX0_undo_24 : decode cX0_undo 24 = .ok (.aload_n 0, 1) := dk_42 (dk_at dksX0_undo_1 0 rfl rfl)
theorem dX0_undo_25 : decode cX0_undo 25 = .ok (.getfield 288, 3) := dk_180 1 32 (dk_at dksX0_undo_1 1 rfl rfl)
theorem dX0_undo_28 : decode cX0_undo 28 = .ok (.aaload, 1) := dk_50 (dk_at dksX0_undo_1 4 rfl rfl)
theorem dX0_undo_29 : decode cX0_undo 29 = .ok (.getfield 436, 3) := dk_180 1 180 (dk_at dksX0_undo_1 5 rfl rfl)
theorem dX0_undo_32 : decode cX0_undo 32 = .ok (.invokeinterface 440 1, 5) := by decide +kernel
theorem dX0_undo_37 : decode cX0_undo 37 = .ok (.aload_n 0, 1) := dk_42 (dk_at dksX0_undo_1 13 rfl rfl)
theorem dX0_undo_38 : decode cX0_undo 38 = .ok (.getfield 288, 3) := dk_180 1 32 (dk_at dksX0_undo_1 14 rfl rfl)
theorem dX0_undo_41 : decode cX0_undo 41 = .ok (.ireturn, 1) := dk_172 (dk_at dksX0_undo_1 17 rfl rfl)
abbrev cX0_read : ByteArray := prog_1_method_64_code
def yX0_read : MethodName := ⟨RX0, "read", "(I)I"⟩
def dkwX0_read_1 : List UInt8 := [172, 42, 42, 186, 1, 201, 0, 0, 182, 1, 204, 42, 27, 182, 1, 207, 42, 180, 1, 29, 172]
abbrev dktX0_read_1 : List UInt8 := dkwX0_read_1 ++ []
def dkwX0_read_0 : List UInt8 := [42, 180, 0, 199, 198, 0, 19, 27, 184, 1, 198, 153, 0, 12, 42, 180, 1, 29, 16, 12, 160, 0, 5, 2]
abbrev dktX0_read_0 : List UInt8 := dkwX0_read_0 ++ dktX0_read_1
theorem dksX0_read_0 : cX0_read.data.toList.drop 0 = dktX0_read_0 := by decide +kernel
theorem dksX0_read_1 : cX0_read.data.toList.drop 24 = dktX0_read_1 := dk_seg dksX0_read_0 24 rfl rfl
theorem dX0_read_0 : decode cX0_read 0 = .ok (.aload_n 0, 1) := dk_42 (dk_at dksX0_read_0 0 rfl rfl)
theorem dX0_read_1 : decode cX0_read 1 = .ok (.getfield 199, 3) := dk_180 0 199 (dk_at dksX0_read_0 1 rfl rfl)
theorem dX0_read_4 : decode cX0_read 4 = .ok (.ifnull 19, 3) := dk_198 0 19 (dk_at dksX0_read_0 4 rfl rfl)
theorem dX0_read_7 : decode cX0_read 7 = .ok (.iload_n 1, 1) := dk_27 (dk_at dksX0_read_0 7 rfl rfl)
theorem dX0_read_8 : decode cX0_read 8 = .ok (.invokestatic 454, 3) := dk_184 1 198 (dk_at dksX0_read_0 8 rfl rfl)
theorem dX0_read_11 : decode cX0_read 11 = .ok (.ifCond .eq 12, 3) := dk_153 0 12 (dk_at dksX0_read_0 11 rfl rfl)
theorem dX0_read_14 : decode cX0_read 14 = .ok (.aload_n 0, 1) := dk_42 (dk_at dksX0_read_0 14 rfl rfl)
theorem dX0_read_15 : decode cX0_read 15 = .ok (.getfield 285, 3) := dk_180 1 29 (dk_at dksX0_read_0 15 rfl rfl)
theorem dX0_read_18 : decode cX0_read 18 = .ok (.bipush 12, 2) := dk_16 12 (dk_at dksX0_read_0 18 rfl rfl)
theorem dX0_read_20 : decode cX0_read 20 = .ok (.if_icmp .ne 5, 3) := dk_160 0 5 (dk_at dksX0_read_0 20 rfl rfl)
theorem dX0_read_23 : decode cX0_read 23 = .ok (.iconst (-1), 1) := dk_2 (dk_at dksX0_read_0 23 rfl rfl)
theorem dX0_read_24 : decode cX0_read 24 = .ok (.ireturn, 1) := dk_172 (dk_at dksX0_read_1 0 rfl rfl)
theorem dX0_read_25 : decode cX0_read 25 = .ok (.aload_n 0, 1) := dk_42 (dk_at dksX0_read_1 1 rfl rfl)
theorem dX0_read_26 : decode cX0_read 26 = .ok (.aload_n 0, 1) := dk_42 (dk_at dksX0_read_1 2 rfl rfl)
theorem dX0_read_27 : decode cX0_read 27 = .ok (.invokedynamic 457, 5) := by decide +kernel
theorem dX0_read_32 : decode cX0_read 32 = .ok (.invokevirtual 460, 3) := dk_182 1 204 (dk_at dksX0_read_1 8 rfl rfl)
theorem dX0_read_35 : decode cX0_read 35 = .ok (.aload_n 0, 1) := dk_42 (dk_at dksX0_read_1 11 rfl rfl)
theorem dX0_read_36 : decode cX0_read 36 = .ok (.iload_n 1, 1) := dk_27 (dk_at dksX0_read_1 12 rfl rfl)
theorem dX0_read_37 : decode cX0_read 37 = .ok (.invokevirtual 463, 3) := dk_182 1 207 (dk_at dksX0_read_1 13 rfl rfl)
theorem dX0_read_40 : decode cX0_read 40 = .ok (.aload_n 0, 1) := dk_42 (dk_at dksX0_read_1 16 rfl rfl)
theorem dX0_read_41 : decode cX0_read 41 = .ok (.getfield 285, 3) := dk_180 1 29 (dk_at dksX0_read_1 17 rfl rfl)
theorem dX0_read_44 : decode cX0_read 44 = .ok (.ireturn, 1) := dk_172 (dk_at dksX0_read_1 20 rfl rfl)
abbrev cX0_isSmall : ByteArray := prog_1_method_63_code
def yX0_isSmall : MethodName := ⟨RX0, "isSmall", "(I)Z"⟩
def dkwX0_isSmall_0 : List UInt8 := [26, 133, 9, 20, 1, 196, 184, 0, 219, 172]
abbrev dktX0_isSmall_0 : List UInt8 := dkwX0_isSmall_0 ++ []
theorem dksX0_isSmall_0 : cX0_isSmall.data.toList.drop 0 = dktX0_isSmall_0 := by decide +kernel
theorem dX0_isSmall_0 : decode cX0_isSmall 0 = .ok (.iload_n 0, 1) := dk_26 (dk_at dksX0_isSmall_0 0 rfl rfl)
theorem dX0_isSmall_1 : decode cX0_isSmall 1 = .ok (.i2l, 1) := dk_133 (dk_at dksX0_isSmall_0 1 rfl rfl)
theorem dX0_isSmall_2 : decode cX0_isSmall 2 = .ok (.lconst 0, 1) := dk_9 (dk_at dksX0_isSmall_0 2 rfl rfl)
theorem dX0_isSmall_3 : decode cX0_isSmall 3 = .ok (.ldc2_w 452, 3) := dk_20 1 196 (dk_at dksX0_isSmall_0 3 rfl rfl)
theorem dX0_isSmall_6 : decode cX0_isSmall 6 = .ok (.invokestatic 219, 3) := dk_184 0 219 (dk_at dksX0_isSmall_0 6 rfl rfl)
theorem dX0_isSmall_9 : decode cX0_isSmall 9 = .ok (.ireturn, 1) := dk_172 (dk_at dksX0_isSmall_0 9 rfl rfl)
abbrev cX0_takesLast : ByteArray := prog_1_method_60_code
def yX0_takesLast : MethodName := ⟨RX0, "takesLast", "()V"⟩
def dkwX0_takesLast_0 : List UInt8 := [42, 89, 180, 1, 29, 4, 100, 181, 1, 29, 42, 182, 1, 189, 177]
abbrev dktX0_takesLast_0 : List UInt8 := dkwX0_takesLast_0 ++ []
theorem dksX0_takesLast_0 : cX0_takesLast.data.toList.drop 0 = dktX0_takesLast_0 := by decide +kernel
theorem dX0_takesLast_0 : decode cX0_takesLast 0 = .ok (.aload_n 0, 1) := dk_42 (dk_at dksX0_takesLast_0 0 rfl rfl)
theorem dX0_takesLast_1 : decode cX0_takesLast 1 = .ok (.dup, 1) := dk_89 (dk_at dksX0_takesLast_0 1 rfl rfl)
theorem dX0_takesLast_2 : decode cX0_takesLast 2 = .ok (.getfield 285, 3) := dk_180 1 29 (dk_at dksX0_takesLast_0 2 rfl rfl)
theorem dX0_takesLast_5 : decode cX0_takesLast 5 = .ok (.iconst 1, 1) := dk_4 (dk_at dksX0_takesLast_0 5 rfl rfl)
theorem dX0_takesLast_6 : decode cX0_takesLast 6 = .ok (.isub, 1) := dk_100 (dk_at dksX0_takesLast_0 6 rfl rfl)
theorem dX0_takesLast_7 : decode cX0_takesLast 7 = .ok (.putfield 285, 3) := dk_181 1 29 (dk_at dksX0_takesLast_0 7 rfl rfl)
theorem dX0_takesLast_10 : decode cX0_takesLast 10 = .ok (.aload_n 0, 1) := dk_42 (dk_at dksX0_takesLast_0 10 rfl rfl)
theorem dX0_takesLast_11 : decode cX0_takesLast 11 = .ok (.invokevirtual 445, 3) := dk_182 1 189 (dk_at dksX0_takesLast_0 11 rfl rfl)
theorem dX0_takesLast_14 : decode cX0_takesLast 14 = .ok (.return_, 1) := dk_177 (dk_at dksX0_takesLast_0 14 rfl rfl)
abbrev cX0_changes : ByteArray := prog_1_method_57_code
def yX0_changes : MethodName := ⟨RX0, "changes", "()V"⟩
def dkwX0_changes_0 : List UInt8 := [42, 3, 181, 1, 2, 42, 3, 181, 1, 6, 177]
abbrev dktX0_changes_0 : List UInt8 := dkwX0_changes_0 ++ []
theorem dksX0_changes_0 : cX0_changes.data.toList.drop 0 = dktX0_changes_0 := by decide +kernel
theorem dX0_changes_0 : decode cX0_changes 0 = .ok (.aload_n 0, 1) := dk_42 (dk_at dksX0_changes_0 0 rfl rfl)
theorem dX0_changes_1 : decode cX0_changes 1 = .ok (.iconst 0, 1) := dk_3 (dk_at dksX0_changes_0 1 rfl rfl)
theorem dX0_changes_2 : decode cX0_changes 2 = .ok (.putfield 258, 3) := dk_181 1 2 (dk_at dksX0_changes_0 2 rfl rfl)
theorem dX0_changes_5 : decode cX0_changes 5 = .ok (.aload_n 0, 1) := dk_42 (dk_at dksX0_changes_0 5 rfl rfl)
theorem dX0_changes_6 : decode cX0_changes 6 = .ok (.iconst 0, 1) := dk_3 (dk_at dksX0_changes_0 6 rfl rfl)
theorem dX0_changes_7 : decode cX0_changes 7 = .ok (.putfield 262, 3) := dk_181 1 6 (dk_at dksX0_changes_0 7 rfl rfl)
theorem dX0_changes_10 : decode cX0_changes 10 = .ok (.return_, 1) := dk_177 (dk_at dksX0_changes_0 10 rfl rfl)
abbrev cX0_keeps : ByteArray := prog_1_method_58_code
def yX0_keeps : MethodName := ⟨RX0, "keeps", "(LPackedForest$Step;)V"⟩
def dkwX0_keeps_2 : List UInt8 := [183, 1, 177, 83, 42, 89, 180, 1, 32, 4, 96, 181, 1, 32, 177]
abbrev dktX0_keeps_2 : List UInt8 := dkwX0_keeps_2 ++ []
def dkwX0_keeps_1 : List UInt8 := [42, 89, 180, 1, 32, 4, 100, 181, 1, 32, 42, 180, 0, 32, 42, 180, 1, 32, 187, 0, 30, 89, 43]
abbrev dktX0_keeps_1 : List UInt8 := dkwX0_keeps_1 ++ dktX0_keeps_2
def dkwX0_keeps_0 : List UInt8 := [42, 180, 1, 32, 16, 20, 160, 0, 28, 42, 180, 0, 32, 4, 42, 180, 0, 32, 3, 16, 19, 184, 1, 171]
abbrev dktX0_keeps_0 : List UInt8 := dkwX0_keeps_0 ++ dktX0_keeps_1
theorem dksX0_keeps_0 : cX0_keeps.data.toList.drop 0 = dktX0_keeps_0 := by decide +kernel
theorem dksX0_keeps_1 : cX0_keeps.data.toList.drop 24 = dktX0_keeps_1 := dk_seg dksX0_keeps_0 24 rfl rfl
theorem dksX0_keeps_2 : cX0_keeps.data.toList.drop 47 = dktX0_keeps_2 := dk_seg dksX0_keeps_1 23 rfl rfl
theorem dX0_keeps_0 : decode cX0_keeps 0 = .ok (.aload_n 0, 1) := dk_42 (dk_at dksX0_keeps_0 0 rfl rfl)
theorem dX0_keeps_1 : decode cX0_keeps 1 = .ok (.getfield 288, 3) := dk_180 1 32 (dk_at dksX0_keeps_0 1 rfl rfl)
theorem dX0_keeps_4 : decode cX0_keeps 4 = .ok (.bipush 20, 2) := dk_16 20 (dk_at dksX0_keeps_0 4 rfl rfl)
theorem dX0_keeps_6 : decode cX0_keeps 6 = .ok (.if_icmp .ne 28, 3) := dk_160 0 28 (dk_at dksX0_keeps_0 6 rfl rfl)
theorem dX0_keeps_9 : decode cX0_keeps 9 = .ok (.aload_n 0, 1) := dk_42 (dk_at dksX0_keeps_0 9 rfl rfl)
theorem dX0_keeps_10 : decode cX0_keeps 10 = .ok (.getfield 32, 3) := dk_180 0 32 (dk_at dksX0_keeps_0 10 rfl rfl)
theorem dX0_keeps_13 : decode cX0_keeps 13 = .ok (.iconst 1, 1) := dk_4 (dk_at dksX0_keeps_0 13 rfl rfl)
theorem dX0_keeps_14 : decode cX0_keeps 14 = .ok (.aload_n 0, 1) := dk_42 (dk_at dksX0_keeps_0 14 rfl rfl)
theorem dX0_keeps_15 : decode cX0_keeps 15 = .ok (.getfield 32, 3) := dk_180 0 32 (dk_at dksX0_keeps_0 15 rfl rfl)
theorem dX0_keeps_18 : decode cX0_keeps 18 = .ok (.iconst 0, 1) := dk_3 (dk_at dksX0_keeps_0 18 rfl rfl)
theorem dX0_keeps_19 : decode cX0_keeps 19 = .ok (.bipush 19, 2) := dk_16 19 (dk_at dksX0_keeps_0 19 rfl rfl)
theorem dX0_keeps_21 : decode cX0_keeps 21 = .ok (.invokestatic 427, 3) := dk_184 1 171 (dk_at dksX0_keeps_0 21 rfl rfl)
theorem dX0_keeps_24 : decode cX0_keeps 24 = .ok (.aload_n 0, 1) := dk_42 (dk_at dksX0_keeps_1 0 rfl rfl)
theorem dX0_keeps_25 : decode cX0_keeps 25 = .ok (.dup, 1) := dk_89 (dk_at dksX0_keeps_1 1 rfl rfl)
theorem dX0_keeps_26 : decode cX0_keeps 26 = .ok (.getfield 288, 3) := dk_180 1 32 (dk_at dksX0_keeps_1 2 rfl rfl)
theorem dX0_keeps_29 : decode cX0_keeps 29 = .ok (.iconst 1, 1) := dk_4 (dk_at dksX0_keeps_1 5 rfl rfl)
theorem dX0_keeps_30 : decode cX0_keeps 30 = .ok (.isub, 1) := dk_100 (dk_at dksX0_keeps_1 6 rfl rfl)
theorem dX0_keeps_31 : decode cX0_keeps 31 = .ok (.putfield 288, 3) := dk_181 1 32 (dk_at dksX0_keeps_1 7 rfl rfl)
theorem dX0_keeps_34 : decode cX0_keeps 34 = .ok (.aload_n 0, 1) := dk_42 (dk_at dksX0_keeps_1 10 rfl rfl)
theorem dX0_keeps_35 : decode cX0_keeps 35 = .ok (.getfield 32, 3) := dk_180 0 32 (dk_at dksX0_keeps_1 11 rfl rfl)
theorem dX0_keeps_38 : decode cX0_keeps 38 = .ok (.aload_n 0, 1) := dk_42 (dk_at dksX0_keeps_1 14 rfl rfl)
theorem dX0_keeps_39 : decode cX0_keeps 39 = .ok (.getfield 288, 3) := dk_180 1 32 (dk_at dksX0_keeps_1 15 rfl rfl)
theorem dX0_keeps_42 : decode cX0_keeps 42 = .ok (.new 30, 3) := dk_187 0 30 (dk_at dksX0_keeps_1 18 rfl rfl)
theorem dX0_keeps_45 : decode cX0_keeps 45 = .ok (.dup, 1) := dk_89 (dk_at dksX0_keeps_1 21 rfl rfl)
theorem dX0_keeps_46 : decode cX0_keeps 46 = .ok (.aload_n 1, 1) := dk_43 (dk_at dksX0_keeps_1 22 rfl rfl)
theorem dX0_keeps_47 : decode cX0_keeps 47 = .ok (.invokespecial 433, 3) := dk_183 1 177 (dk_at dksX0_keeps_2 0 rfl rfl)
theorem dX0_keeps_50 : decode cX0_keeps 50 = .ok (.aastore, 1) := dk_83 (dk_at dksX0_keeps_2 3 rfl rfl)
theorem dX0_keeps_51 : decode cX0_keeps 51 = .ok (.aload_n 0, 1) := dk_42 (dk_at dksX0_keeps_2 4 rfl rfl)
theorem dX0_keeps_52 : decode cX0_keeps 52 = .ok (.dup, 1) := dk_89 (dk_at dksX0_keeps_2 5 rfl rfl)
theorem dX0_keeps_53 : decode cX0_keeps 53 = .ok (.getfield 288, 3) := dk_180 1 32 (dk_at dksX0_keeps_2 6 rfl rfl)
theorem dX0_keeps_56 : decode cX0_keeps 56 = .ok (.iconst 1, 1) := dk_4 (dk_at dksX0_keeps_2 9 rfl rfl)
theorem dX0_keeps_57 : decode cX0_keeps 57 = .ok (.iadd, 1) := dk_96 (dk_at dksX0_keeps_2 10 rfl rfl)
theorem dX0_keeps_58 : decode cX0_keeps 58 = .ok (.putfield 288, 3) := dk_181 1 32 (dk_at dksX0_keeps_2 11 rfl rfl)
theorem dX0_keeps_61 : decode cX0_keeps 61 = .ok (.return_, 1) := dk_177 (dk_at dksX0_keeps_2 14 rfl rfl)
abbrev cX0_laysLast : ByteArray := prog_1_method_62_code
def yX0_laysLast : MethodName := ⟨RX0, "laysLast", "(I)V"⟩
def dkwX0_laysLast_0 : List UInt8 := [42, 89, 180, 1, 29, 4, 96, 181, 1, 29, 42, 42, 180, 1, 29, 4, 100, 27, 182, 1, 192, 177]
abbrev dktX0_laysLast_0 : List UInt8 := dkwX0_laysLast_0 ++ []
theorem dksX0_laysLast_0 : cX0_laysLast.data.toList.drop 0 = dktX0_laysLast_0 := by decide +kernel
theorem dX0_laysLast_0 : decode cX0_laysLast 0 = .ok (.aload_n 0, 1) := dk_42 (dk_at dksX0_laysLast_0 0 rfl rfl)
theorem dX0_laysLast_1 : decode cX0_laysLast 1 = .ok (.dup, 1) := dk_89 (dk_at dksX0_laysLast_0 1 rfl rfl)
theorem dX0_laysLast_2 : decode cX0_laysLast 2 = .ok (.getfield 285, 3) := dk_180 1 29 (dk_at dksX0_laysLast_0 2 rfl rfl)
theorem dX0_laysLast_5 : decode cX0_laysLast 5 = .ok (.iconst 1, 1) := dk_4 (dk_at dksX0_laysLast_0 5 rfl rfl)
theorem dX0_laysLast_6 : decode cX0_laysLast 6 = .ok (.iadd, 1) := dk_96 (dk_at dksX0_laysLast_0 6 rfl rfl)
theorem dX0_laysLast_7 : decode cX0_laysLast 7 = .ok (.putfield 285, 3) := dk_181 1 29 (dk_at dksX0_laysLast_0 7 rfl rfl)
theorem dX0_laysLast_10 : decode cX0_laysLast 10 = .ok (.aload_n 0, 1) := dk_42 (dk_at dksX0_laysLast_0 10 rfl rfl)
theorem dX0_laysLast_11 : decode cX0_laysLast 11 = .ok (.aload_n 0, 1) := dk_42 (dk_at dksX0_laysLast_0 11 rfl rfl)
theorem dX0_laysLast_12 : decode cX0_laysLast 12 = .ok (.getfield 285, 3) := dk_180 1 29 (dk_at dksX0_laysLast_0 12 rfl rfl)
theorem dX0_laysLast_15 : decode cX0_laysLast 15 = .ok (.iconst 1, 1) := dk_4 (dk_at dksX0_laysLast_0 15 rfl rfl)
theorem dX0_laysLast_16 : decode cX0_laysLast 16 = .ok (.isub, 1) := dk_100 (dk_at dksX0_laysLast_0 16 rfl rfl)
theorem dX0_laysLast_17 : decode cX0_laysLast 17 = .ok (.iload_n 1, 1) := dk_27 (dk_at dksX0_laysLast_0 17 rfl rfl)
theorem dX0_laysLast_18 : decode cX0_laysLast 18 = .ok (.invokevirtual 448, 3) := dk_182 1 192 (dk_at dksX0_laysLast_0 18 rfl rfl)
theorem dX0_laysLast_21 : decode cX0_laysLast 21 = .ok (.return_, 1) := dk_177 (dk_at dksX0_laysLast_0 21 rfl rfl)
abbrev cX0_laysAt : ByteArray := prog_1_method_61_code
def yX0_laysAt : MethodName := ⟨RX0, "laysAt", "(II)V"⟩
def dkwX0_laysAt_0 : List UInt8 := [42, 180, 0, 19, 27, 28, 79, 42, 182, 1, 189, 177]
abbrev dktX0_laysAt_0 : List UInt8 := dkwX0_laysAt_0 ++ []
theorem dksX0_laysAt_0 : cX0_laysAt.data.toList.drop 0 = dktX0_laysAt_0 := by decide +kernel
theorem dX0_laysAt_0 : decode cX0_laysAt 0 = .ok (.aload_n 0, 1) := dk_42 (dk_at dksX0_laysAt_0 0 rfl rfl)
theorem dX0_laysAt_1 : decode cX0_laysAt 1 = .ok (.getfield 19, 3) := dk_180 0 19 (dk_at dksX0_laysAt_0 1 rfl rfl)
theorem dX0_laysAt_4 : decode cX0_laysAt 4 = .ok (.iload_n 1, 1) := dk_27 (dk_at dksX0_laysAt_0 4 rfl rfl)
theorem dX0_laysAt_5 : decode cX0_laysAt 5 = .ok (.iload_n 2, 1) := dk_28 (dk_at dksX0_laysAt_0 5 rfl rfl)
theorem dX0_laysAt_6 : decode cX0_laysAt 6 = .ok (.iastore, 1) := dk_79 (dk_at dksX0_laysAt_0 6 rfl rfl)
theorem dX0_laysAt_7 : decode cX0_laysAt 7 = .ok (.aload_n 0, 1) := dk_42 (dk_at dksX0_laysAt_0 7 rfl rfl)
theorem dX0_laysAt_8 : decode cX0_laysAt 8 = .ok (.invokevirtual 445, 3) := dk_182 1 189 (dk_at dksX0_laysAt_0 8 rfl rfl)
theorem dX0_laysAt_11 : decode cX0_laysAt 11 = .ok (.return_, 1) := dk_177 (dk_at dksX0_laysAt_0 11 rfl rfl)
abbrev cX0_drop : ByteArray := prog_1_method_65_code
def yX0_drop : MethodName := ⟨RX0, "drop", "()I"⟩
def dkwX0_drop_1 : List UInt8 := [186, 1, 210, 0, 0, 182, 1, 204, 42, 182, 1, 213, 27, 172]
abbrev dktX0_drop_1 : List UInt8 := dkwX0_drop_1 ++ []
def dkwX0_drop_0 : List UInt8 := [42, 180, 1, 29, 154, 0, 5, 2, 172, 42, 180, 0, 19, 42, 180, 1, 29, 4, 100, 46, 60, 42, 42, 27]
abbrev dktX0_drop_0 : List UInt8 := dkwX0_drop_0 ++ dktX0_drop_1
theorem dksX0_drop_0 : cX0_drop.data.toList.drop 0 = dktX0_drop_0 := by decide +kernel
theorem dksX0_drop_1 : cX0_drop.data.toList.drop 24 = dktX0_drop_1 := dk_seg dksX0_drop_0 24 rfl rfl
theorem dX0_drop_0 : decode cX0_drop 0 = .ok (.aload_n 0, 1) := dk_42 (dk_at dksX0_drop_0 0 rfl rfl)
theorem dX0_drop_1 : decode cX0_drop 1 = .ok (.getfield 285, 3) := dk_180 1 29 (dk_at dksX0_drop_0 1 rfl rfl)
theorem dX0_drop_4 : decode cX0_drop 4 = .ok (.ifCond .ne 5, 3) := dk_154 0 5 (dk_at dksX0_drop_0 4 rfl rfl)
theorem dX0_drop_7 : decode cX0_drop 7 = .ok (.iconst (-1), 1) := dk_2 (dk_at dksX0_drop_0 7 rfl rfl)
theorem dX0_drop_8 : decode cX0_drop 8 = .ok (.ireturn, 1) := dk_172 (dk_at dksX0_drop_0 8 rfl rfl)
theorem dX0_drop_9 : decode cX0_drop 9 = .ok (.aload_n 0, 1) := dk_42 (dk_at dksX0_drop_0 9 rfl rfl)
theorem dX0_drop_10 : decode cX0_drop 10 = .ok (.getfield 19, 3) := dk_180 0 19 (dk_at dksX0_drop_0 10 rfl rfl)
theorem dX0_drop_13 : decode cX0_drop 13 = .ok (.aload_n 0, 1) := dk_42 (dk_at dksX0_drop_0 13 rfl rfl)
theorem dX0_drop_14 : decode cX0_drop 14 = .ok (.getfield 285, 3) := dk_180 1 29 (dk_at dksX0_drop_0 14 rfl rfl)
theorem dX0_drop_17 : decode cX0_drop 17 = .ok (.iconst 1, 1) := dk_4 (dk_at dksX0_drop_0 17 rfl rfl)
theorem dX0_drop_18 : decode cX0_drop 18 = .ok (.isub, 1) := dk_100 (dk_at dksX0_drop_0 18 rfl rfl)
theorem dX0_drop_19 : decode cX0_drop 19 = .ok (.iaload, 1) := dk_46 (dk_at dksX0_drop_0 19 rfl rfl)
theorem dX0_drop_20 : decode cX0_drop 20 = .ok (.istore_n 1, 1) := dk_60 (dk_at dksX0_drop_0 20 rfl rfl)
theorem dX0_drop_21 : decode cX0_drop 21 = .ok (.aload_n 0, 1) := dk_42 (dk_at dksX0_drop_0 21 rfl rfl)
theorem dX0_drop_22 : decode cX0_drop 22 = .ok (.aload_n 0, 1) := dk_42 (dk_at dksX0_drop_0 22 rfl rfl)
theorem dX0_drop_23 : decode cX0_drop 23 = .ok (.iload_n 1, 1) := dk_27 (dk_at dksX0_drop_0 23 rfl rfl)
theorem dX0_drop_24 : decode cX0_drop 24 = .ok (.invokedynamic 466, 5) := by decide +kernel
theorem dX0_drop_29 : decode cX0_drop 29 = .ok (.invokevirtual 460, 3) := dk_182 1 204 (dk_at dksX0_drop_1 5 rfl rfl)
theorem dX0_drop_32 : decode cX0_drop 32 = .ok (.aload_n 0, 1) := dk_42 (dk_at dksX0_drop_1 8 rfl rfl)
theorem dX0_drop_33 : decode cX0_drop 33 = .ok (.invokevirtual 469, 3) := dk_182 1 213 (dk_at dksX0_drop_1 9 rfl rfl)
theorem dX0_drop_36 : decode cX0_drop 36 = .ok (.iload_n 1, 1) := dk_27 (dk_at dksX0_drop_1 12 rfl rfl)
theorem dX0_drop_37 : decode cX0_drop 37 = .ok (.ireturn, 1) := dk_172 (dk_at dksX0_drop_1 13 rfl rfl)
abbrev cX0_lambda_drop_0 : ByteArray := prog_1_method_142_code
def yX0_lambda_drop_0 : MethodName := ⟨RX0, "lambda$drop$0", "(I)V"⟩
def dkwX0_lambda_drop_0_0 : List UInt8 := [42, 27, 182, 1, 207, 177]
abbrev dktX0_lambda_drop_0_0 : List UInt8 := dkwX0_lambda_drop_0_0 ++ []
theorem dksX0_lambda_drop_0_0 : cX0_lambda_drop_0.data.toList.drop 0 = dktX0_lambda_drop_0_0 := by decide +kernel
theorem dX0_lambda_drop_0_0 : decode cX0_lambda_drop_0 0 = .ok (.aload_n 0, 1) := dk_42 (dk_at dksX0_lambda_drop_0_0 0 rfl rfl)
theorem dX0_lambda_drop_0_1 : decode cX0_lambda_drop_0 1 = .ok (.iload_n 1, 1) := dk_27 (dk_at dksX0_lambda_drop_0_0 1 rfl rfl)
theorem dX0_lambda_drop_0_2 : decode cX0_lambda_drop_0 2 = .ok (.invokevirtual 463, 3) := dk_182 1 207 (dk_at dksX0_lambda_drop_0_0 2 rfl rfl)
theorem dX0_lambda_drop_0_5 : decode cX0_lambda_drop_0 5 = .ok (.return_, 1) := dk_177 (dk_at dksX0_lambda_drop_0_0 5 rfl rfl)
abbrev cX0_change : ByteArray := prog_1_method_66_code
def yX0_change : MethodName := ⟨RX0, "change", "(II)I"⟩
def dkwX0_change_2 : List UInt8 := [182, 1, 204, 42, 27, 28, 182, 1, 192, 29, 172]
abbrev dktX0_change_2 : List UInt8 := dkwX0_change_2 ++ []
def dkwX0_change_1 : List UInt8 := [46, 28, 160, 0, 5, 2, 172, 42, 180, 0, 19, 27, 46, 62, 42, 42, 27, 29, 186, 1, 216, 0, 0]
abbrev dktX0_change_1 : List UInt8 := dkwX0_change_1 ++ dktX0_change_2
def dkwX0_change_0 : List UInt8 := [27, 155, 0, 28, 27, 42, 180, 1, 29, 162, 0, 20, 28, 184, 1, 198, 153, 0, 13, 42, 180, 0, 19, 27]
abbrev dktX0_change_0 : List UInt8 := dkwX0_change_0 ++ dktX0_change_1
theorem dksX0_change_0 : cX0_change.data.toList.drop 0 = dktX0_change_0 := by decide +kernel
theorem dksX0_change_1 : cX0_change.data.toList.drop 24 = dktX0_change_1 := dk_seg dksX0_change_0 24 rfl rfl
theorem dksX0_change_2 : cX0_change.data.toList.drop 47 = dktX0_change_2 := dk_seg dksX0_change_1 23 rfl rfl
theorem dX0_change_0 : decode cX0_change 0 = .ok (.iload_n 1, 1) := dk_27 (dk_at dksX0_change_0 0 rfl rfl)
theorem dX0_change_1 : decode cX0_change 1 = .ok (.ifCond .lt 28, 3) := dk_155 0 28 (dk_at dksX0_change_0 1 rfl rfl)
theorem dX0_change_4 : decode cX0_change 4 = .ok (.iload_n 1, 1) := dk_27 (dk_at dksX0_change_0 4 rfl rfl)
theorem dX0_change_5 : decode cX0_change 5 = .ok (.aload_n 0, 1) := dk_42 (dk_at dksX0_change_0 5 rfl rfl)
theorem dX0_change_6 : decode cX0_change 6 = .ok (.getfield 285, 3) := dk_180 1 29 (dk_at dksX0_change_0 6 rfl rfl)
theorem dX0_change_9 : decode cX0_change 9 = .ok (.if_icmp .ge 20, 3) := dk_162 0 20 (dk_at dksX0_change_0 9 rfl rfl)
theorem dX0_change_12 : decode cX0_change 12 = .ok (.iload_n 2, 1) := dk_28 (dk_at dksX0_change_0 12 rfl rfl)
theorem dX0_change_13 : decode cX0_change 13 = .ok (.invokestatic 454, 3) := dk_184 1 198 (dk_at dksX0_change_0 13 rfl rfl)
theorem dX0_change_16 : decode cX0_change 16 = .ok (.ifCond .eq 13, 3) := dk_153 0 13 (dk_at dksX0_change_0 16 rfl rfl)
theorem dX0_change_19 : decode cX0_change 19 = .ok (.aload_n 0, 1) := dk_42 (dk_at dksX0_change_0 19 rfl rfl)
theorem dX0_change_20 : decode cX0_change 20 = .ok (.getfield 19, 3) := dk_180 0 19 (dk_at dksX0_change_0 20 rfl rfl)
theorem dX0_change_23 : decode cX0_change 23 = .ok (.iload_n 1, 1) := dk_27 (dk_at dksX0_change_0 23 rfl rfl)
theorem dX0_change_24 : decode cX0_change 24 = .ok (.iaload, 1) := dk_46 (dk_at dksX0_change_1 0 rfl rfl)
theorem dX0_change_25 : decode cX0_change 25 = .ok (.iload_n 2, 1) := dk_28 (dk_at dksX0_change_1 1 rfl rfl)
theorem dX0_change_26 : decode cX0_change 26 = .ok (.if_icmp .ne 5, 3) := dk_160 0 5 (dk_at dksX0_change_1 2 rfl rfl)
theorem dX0_change_29 : decode cX0_change 29 = .ok (.iconst (-1), 1) := dk_2 (dk_at dksX0_change_1 5 rfl rfl)
theorem dX0_change_30 : decode cX0_change 30 = .ok (.ireturn, 1) := dk_172 (dk_at dksX0_change_1 6 rfl rfl)
theorem dX0_change_31 : decode cX0_change 31 = .ok (.aload_n 0, 1) := dk_42 (dk_at dksX0_change_1 7 rfl rfl)
theorem dX0_change_32 : decode cX0_change 32 = .ok (.getfield 19, 3) := dk_180 0 19 (dk_at dksX0_change_1 8 rfl rfl)
theorem dX0_change_35 : decode cX0_change 35 = .ok (.iload_n 1, 1) := dk_27 (dk_at dksX0_change_1 11 rfl rfl)
theorem dX0_change_36 : decode cX0_change 36 = .ok (.iaload, 1) := dk_46 (dk_at dksX0_change_1 12 rfl rfl)
theorem dX0_change_37 : decode cX0_change 37 = .ok (.istore_n 3, 1) := dk_62 (dk_at dksX0_change_1 13 rfl rfl)
theorem dX0_change_38 : decode cX0_change 38 = .ok (.aload_n 0, 1) := dk_42 (dk_at dksX0_change_1 14 rfl rfl)
theorem dX0_change_39 : decode cX0_change 39 = .ok (.aload_n 0, 1) := dk_42 (dk_at dksX0_change_1 15 rfl rfl)
theorem dX0_change_40 : decode cX0_change 40 = .ok (.iload_n 1, 1) := dk_27 (dk_at dksX0_change_1 16 rfl rfl)
theorem dX0_change_41 : decode cX0_change 41 = .ok (.iload_n 3, 1) := dk_29 (dk_at dksX0_change_1 17 rfl rfl)
theorem dX0_change_42 : decode cX0_change 42 = .ok (.invokedynamic 472, 5) := by decide +kernel
theorem dX0_change_47 : decode cX0_change 47 = .ok (.invokevirtual 460, 3) := dk_182 1 204 (dk_at dksX0_change_2 0 rfl rfl)
theorem dX0_change_50 : decode cX0_change 50 = .ok (.aload_n 0, 1) := dk_42 (dk_at dksX0_change_2 3 rfl rfl)
theorem dX0_change_51 : decode cX0_change 51 = .ok (.iload_n 1, 1) := dk_27 (dk_at dksX0_change_2 4 rfl rfl)
theorem dX0_change_52 : decode cX0_change 52 = .ok (.iload_n 2, 1) := dk_28 (dk_at dksX0_change_2 5 rfl rfl)
theorem dX0_change_53 : decode cX0_change 53 = .ok (.invokevirtual 448, 3) := dk_182 1 192 (dk_at dksX0_change_2 6 rfl rfl)
theorem dX0_change_56 : decode cX0_change 56 = .ok (.iload_n 3, 1) := dk_29 (dk_at dksX0_change_2 9 rfl rfl)
theorem dX0_change_57 : decode cX0_change 57 = .ok (.ireturn, 1) := dk_172 (dk_at dksX0_change_2 10 rfl rfl)
abbrev cX0_lambda_change_1 : ByteArray := prog_1_method_141_code
def yX0_lambda_change_1 : MethodName := ⟨RX0, "lambda$change$1", "(II)V"⟩
def dkwX0_lambda_change_1_0 : List UInt8 := [42, 27, 28, 182, 1, 192, 177]
abbrev dktX0_lambda_change_1_0 : List UInt8 := dkwX0_lambda_change_1_0 ++ []
theorem dksX0_lambda_change_1_0 : cX0_lambda_change_1.data.toList.drop 0 = dktX0_lambda_change_1_0 := by decide +kernel
theorem dX0_lambda_change_1_0 : decode cX0_lambda_change_1 0 = .ok (.aload_n 0, 1) := dk_42 (dk_at dksX0_lambda_change_1_0 0 rfl rfl)
theorem dX0_lambda_change_1_1 : decode cX0_lambda_change_1 1 = .ok (.iload_n 1, 1) := dk_27 (dk_at dksX0_lambda_change_1_0 1 rfl rfl)
theorem dX0_lambda_change_1_2 : decode cX0_lambda_change_1 2 = .ok (.iload_n 2, 1) := dk_28 (dk_at dksX0_lambda_change_1_0 2 rfl rfl)
theorem dX0_lambda_change_1_3 : decode cX0_lambda_change_1 3 = .ok (.invokevirtual 448, 3) := dk_182 1 192 (dk_at dksX0_lambda_change_1_0 3 rfl rfl)
theorem dX0_lambda_change_1_6 : decode cX0_lambda_change_1 6 = .ok (.return_, 1) := dk_177 (dk_at dksX0_lambda_change_1_0 6 rfl rfl)
abbrev cX0_strike : ByteArray := prog_1_method_68_code
def yX0_strike : MethodName := ⟨RX0, "strike", "(I)I"⟩
def dkwX0_strike_1 : List UInt8 := [16, 254, 172, 42, 42, 27, 186, 1, 222, 0, 0, 182, 1, 204, 42, 180, 1, 143, 172]
abbrev dktX0_strike_1 : List UInt8 := dkwX0_strike_1 ++ []
def dkwX0_strike_0 : List UInt8 := [42, 27, 182, 1, 45, 154, 0, 5, 2, 172, 42, 27, 182, 1, 219, 154, 0, 12, 42, 27, 182, 1, 219, 87]
abbrev dktX0_strike_0 : List UInt8 := dkwX0_strike_0 ++ dktX0_strike_1
theorem dksX0_strike_0 : cX0_strike.data.toList.drop 0 = dktX0_strike_0 := by decide +kernel
theorem dksX0_strike_1 : cX0_strike.data.toList.drop 24 = dktX0_strike_1 := dk_seg dksX0_strike_0 24 rfl rfl
theorem dX0_strike_0 : decode cX0_strike 0 = .ok (.aload_n 0, 1) := dk_42 (dk_at dksX0_strike_0 0 rfl rfl)
theorem dX0_strike_1 : decode cX0_strike 1 = .ok (.iload_n 1, 1) := dk_27 (dk_at dksX0_strike_0 1 rfl rfl)
theorem dX0_strike_2 : decode cX0_strike 2 = .ok (.invokevirtual 301, 3) := dk_182 1 45 (dk_at dksX0_strike_0 2 rfl rfl)
theorem dX0_strike_5 : decode cX0_strike 5 = .ok (.ifCond .ne 5, 3) := dk_154 0 5 (dk_at dksX0_strike_0 5 rfl rfl)
theorem dX0_strike_8 : decode cX0_strike 8 = .ok (.iconst (-1), 1) := dk_2 (dk_at dksX0_strike_0 8 rfl rfl)
theorem dX0_strike_9 : decode cX0_strike 9 = .ok (.ireturn, 1) := dk_172 (dk_at dksX0_strike_0 9 rfl rfl)
theorem dX0_strike_10 : decode cX0_strike 10 = .ok (.aload_n 0, 1) := dk_42 (dk_at dksX0_strike_0 10 rfl rfl)
theorem dX0_strike_11 : decode cX0_strike 11 = .ok (.iload_n 1, 1) := dk_27 (dk_at dksX0_strike_0 11 rfl rfl)
theorem dX0_strike_12 : decode cX0_strike 12 = .ok (.invokevirtual 475, 3) := dk_182 1 219 (dk_at dksX0_strike_0 12 rfl rfl)
theorem dX0_strike_15 : decode cX0_strike 15 = .ok (.ifCond .ne 12, 3) := dk_154 0 12 (dk_at dksX0_strike_0 15 rfl rfl)
theorem dX0_strike_18 : decode cX0_strike 18 = .ok (.aload_n 0, 1) := dk_42 (dk_at dksX0_strike_0 18 rfl rfl)
theorem dX0_strike_19 : decode cX0_strike 19 = .ok (.iload_n 1, 1) := dk_27 (dk_at dksX0_strike_0 19 rfl rfl)
theorem dX0_strike_20 : decode cX0_strike 20 = .ok (.invokevirtual 475, 3) := dk_182 1 219 (dk_at dksX0_strike_0 20 rfl rfl)
theorem dX0_strike_23 : decode cX0_strike 23 = .ok (.pop, 1) := dk_87 (dk_at dksX0_strike_0 23 rfl rfl)
theorem dX0_strike_24 : decode cX0_strike 24 = .ok (.bipush (-2), 2) := dk_16 254 (dk_at dksX0_strike_1 0 rfl rfl)
theorem dX0_strike_26 : decode cX0_strike 26 = .ok (.ireturn, 1) := dk_172 (dk_at dksX0_strike_1 2 rfl rfl)
theorem dX0_strike_27 : decode cX0_strike 27 = .ok (.aload_n 0, 1) := dk_42 (dk_at dksX0_strike_1 3 rfl rfl)
theorem dX0_strike_28 : decode cX0_strike 28 = .ok (.aload_n 0, 1) := dk_42 (dk_at dksX0_strike_1 4 rfl rfl)
theorem dX0_strike_29 : decode cX0_strike 29 = .ok (.iload_n 1, 1) := dk_27 (dk_at dksX0_strike_1 5 rfl rfl)
theorem dX0_strike_30 : decode cX0_strike 30 = .ok (.invokedynamic 478, 5) := by decide +kernel
theorem dX0_strike_35 : decode cX0_strike 35 = .ok (.invokevirtual 460, 3) := dk_182 1 204 (dk_at dksX0_strike_1 11 rfl rfl)
theorem dX0_strike_38 : decode cX0_strike 38 = .ok (.aload_n 0, 1) := dk_42 (dk_at dksX0_strike_1 14 rfl rfl)
theorem dX0_strike_39 : decode cX0_strike 39 = .ok (.getfield 399, 3) := dk_180 1 143 (dk_at dksX0_strike_1 15 rfl rfl)
theorem dX0_strike_42 : decode cX0_strike 42 = .ok (.ireturn, 1) := dk_172 (dk_at dksX0_strike_1 18 rfl rfl)
abbrev cX0_turns : ByteArray := prog_1_method_67_code
def yX0_turns : MethodName := ⟨RX0, "turns", "(I)Z"⟩
def dkwX0_turns_0 : List UInt8 := [42, 42, 180, 0, 199, 42, 180, 0, 208, 4, 27, 120, 130, 182, 1, 25, 172]
abbrev dktX0_turns_0 : List UInt8 := dkwX0_turns_0 ++ []
theorem dksX0_turns_0 : cX0_turns.data.toList.drop 0 = dktX0_turns_0 := by decide +kernel
theorem dX0_turns_0 : decode cX0_turns 0 = .ok (.aload_n 0, 1) := dk_42 (dk_at dksX0_turns_0 0 rfl rfl)
theorem dX0_turns_1 : decode cX0_turns 1 = .ok (.aload_n 0, 1) := dk_42 (dk_at dksX0_turns_0 1 rfl rfl)
theorem dX0_turns_2 : decode cX0_turns 2 = .ok (.getfield 199, 3) := dk_180 0 199 (dk_at dksX0_turns_0 2 rfl rfl)
theorem dX0_turns_5 : decode cX0_turns 5 = .ok (.aload_n 0, 1) := dk_42 (dk_at dksX0_turns_0 5 rfl rfl)
theorem dX0_turns_6 : decode cX0_turns 6 = .ok (.getfield 208, 3) := dk_180 0 208 (dk_at dksX0_turns_0 6 rfl rfl)
theorem dX0_turns_9 : decode cX0_turns 9 = .ok (.iconst 1, 1) := dk_4 (dk_at dksX0_turns_0 9 rfl rfl)
theorem dX0_turns_10 : decode cX0_turns 10 = .ok (.iload_n 1, 1) := dk_27 (dk_at dksX0_turns_0 10 rfl rfl)
theorem dX0_turns_11 : decode cX0_turns 11 = .ok (.ishl, 1) := dk_120 (dk_at dksX0_turns_0 11 rfl rfl)
theorem dX0_turns_12 : decode cX0_turns 12 = .ok (.ixor, 1) := dk_130 (dk_at dksX0_turns_0 12 rfl rfl)
theorem dX0_turns_13 : decode cX0_turns 13 = .ok (.invokevirtual 281, 3) := dk_182 1 25 (dk_at dksX0_turns_0 13 rfl rfl)
theorem dX0_turns_16 : decode cX0_turns 16 = .ok (.ireturn, 1) := dk_172 (dk_at dksX0_turns_0 16 rfl rfl)
abbrev cX0_lambda_strike_2 : ByteArray := prog_1_method_140_code
def yX0_lambda_strike_2 : MethodName := ⟨RX0, "lambda$strike$2", "(I)V"⟩
def dkwX0_lambda_strike_2_0 : List UInt8 := [42, 27, 182, 1, 219, 87, 177]
abbrev dktX0_lambda_strike_2_0 : List UInt8 := dkwX0_lambda_strike_2_0 ++ []
theorem dksX0_lambda_strike_2_0 : cX0_lambda_strike_2.data.toList.drop 0 = dktX0_lambda_strike_2_0 := by decide +kernel
theorem dX0_lambda_strike_2_0 : decode cX0_lambda_strike_2 0 = .ok (.aload_n 0, 1) := dk_42 (dk_at dksX0_lambda_strike_2_0 0 rfl rfl)
theorem dX0_lambda_strike_2_1 : decode cX0_lambda_strike_2 1 = .ok (.iload_n 1, 1) := dk_27 (dk_at dksX0_lambda_strike_2_0 1 rfl rfl)
theorem dX0_lambda_strike_2_2 : decode cX0_lambda_strike_2 2 = .ok (.invokevirtual 475, 3) := dk_182 1 219 (dk_at dksX0_lambda_strike_2_0 2 rfl rfl)
theorem dX0_lambda_strike_2_5 : decode cX0_lambda_strike_2 5 = .ok (.pop, 1) := dk_87 (dk_at dksX0_lambda_strike_2_0 5 rfl rfl)
theorem dX0_lambda_strike_2_6 : decode cX0_lambda_strike_2 6 = .ok (.return_, 1) := dk_177 (dk_at dksX0_lambda_strike_2_0 6 rfl rfl)
abbrev cX0_ban : ByteArray := prog_1_method_71_code
def yX0_ban : MethodName := ⟨RX0, "ban", "(III)I"⟩
def dkwX0_ban_6 : List UInt8 := [180, 0, 235, 172]
abbrev dktX0_ban_6 : List UInt8 := dkwX0_ban_6 ++ []
def dkwX0_ban_5 : List UInt8 := [6, 21, 5, 21, 7, 100, 4, 100, 104, 184, 1, 171, 42, 25, 6, 21, 5, 4, 100, 182, 1, 237, 42]
abbrev dktX0_ban_5 : List UInt8 := dkwX0_ban_5 ++ dktX0_ban_6
def dkwX0_ban_4 : List UInt8 := [21, 5, 4, 96, 182, 1, 237, 167, 0, 39, 25, 4, 6, 21, 7, 104, 6, 96, 25, 6, 6, 21, 7, 104]
abbrev dktX0_ban_4 : List UInt8 := dkwX0_ban_4 ++ dktX0_ban_5
def dkwX0_ban_3 : List UInt8 := [25, 6, 6, 21, 5, 104, 4, 96, 28, 79, 25, 6, 6, 21, 5, 104, 5, 96, 29, 79, 42, 25, 6]
abbrev dktX0_ban_3 : List UInt8 := dkwX0_ban_3 ++ dktX0_ban_4
def dkwX0_ban_2 : List UInt8 := [21, 5, 186, 1, 234, 0, 0, 182, 1, 204, 21, 7, 2, 160, 0, 44, 25, 6, 6, 21, 5, 104, 27, 79]
abbrev dktX0_ban_2 : List UInt8 := dkwX0_ban_2 ++ dktX0_ban_3
def dkwX0_ban_1 : List UInt8 := [25, 4, 182, 1, 229, 192, 1, 230, 58, 6, 42, 27, 28, 29, 182, 0, 238, 54, 7, 42, 42, 25, 4]
abbrev dktX0_ban_1 : List UInt8 := dkwX0_ban_1 ++ dktX0_ban_2
def dkwX0_ban_0 : List UInt8 := [42, 27, 28, 29, 182, 1, 226, 154, 0, 5, 2, 172, 42, 180, 0, 27, 58, 4, 42, 180, 0, 235, 54, 5]
abbrev dktX0_ban_0 : List UInt8 := dkwX0_ban_0 ++ dktX0_ban_1
theorem dksX0_ban_0 : cX0_ban.data.toList.drop 0 = dktX0_ban_0 := by decide +kernel
theorem dksX0_ban_1 : cX0_ban.data.toList.drop 24 = dktX0_ban_1 := dk_seg dksX0_ban_0 24 rfl rfl
theorem dksX0_ban_2 : cX0_ban.data.toList.drop 47 = dktX0_ban_2 := dk_seg dksX0_ban_1 23 rfl rfl
theorem dksX0_ban_3 : cX0_ban.data.toList.drop 71 = dktX0_ban_3 := dk_seg dksX0_ban_2 24 rfl rfl
theorem dksX0_ban_4 : cX0_ban.data.toList.drop 94 = dktX0_ban_4 := dk_seg dksX0_ban_3 23 rfl rfl
theorem dksX0_ban_5 : cX0_ban.data.toList.drop 118 = dktX0_ban_5 := dk_seg dksX0_ban_4 24 rfl rfl
theorem dksX0_ban_6 : cX0_ban.data.toList.drop 141 = dktX0_ban_6 := dk_seg dksX0_ban_5 23 rfl rfl
theorem dX0_ban_0 : decode cX0_ban 0 = .ok (.aload_n 0, 1) := dk_42 (dk_at dksX0_ban_0 0 rfl rfl)
theorem dX0_ban_1 : decode cX0_ban 1 = .ok (.iload_n 1, 1) := dk_27 (dk_at dksX0_ban_0 1 rfl rfl)
theorem dX0_ban_2 : decode cX0_ban 2 = .ok (.iload_n 2, 1) := dk_28 (dk_at dksX0_ban_0 2 rfl rfl)
theorem dX0_ban_3 : decode cX0_ban 3 = .ok (.iload_n 3, 1) := dk_29 (dk_at dksX0_ban_0 3 rfl rfl)
theorem dX0_ban_4 : decode cX0_ban 4 = .ok (.invokevirtual 482, 3) := dk_182 1 226 (dk_at dksX0_ban_0 4 rfl rfl)
theorem dX0_ban_7 : decode cX0_ban 7 = .ok (.ifCond .ne 5, 3) := dk_154 0 5 (dk_at dksX0_ban_0 7 rfl rfl)
theorem dX0_ban_10 : decode cX0_ban 10 = .ok (.iconst (-1), 1) := dk_2 (dk_at dksX0_ban_0 10 rfl rfl)
theorem dX0_ban_11 : decode cX0_ban 11 = .ok (.ireturn, 1) := dk_172 (dk_at dksX0_ban_0 11 rfl rfl)
theorem dX0_ban_12 : decode cX0_ban 12 = .ok (.aload_n 0, 1) := dk_42 (dk_at dksX0_ban_0 12 rfl rfl)
theorem dX0_ban_13 : decode cX0_ban 13 = .ok (.getfield 27, 3) := dk_180 0 27 (dk_at dksX0_ban_0 13 rfl rfl)
theorem dX0_ban_16 : decode cX0_ban 16 = .ok (.astore 4, 2) := dk_58 4 (dk_at dksX0_ban_0 16 rfl rfl)
theorem dX0_ban_18 : decode cX0_ban 18 = .ok (.aload_n 0, 1) := dk_42 (dk_at dksX0_ban_0 18 rfl rfl)
theorem dX0_ban_19 : decode cX0_ban 19 = .ok (.getfield 235, 3) := dk_180 0 235 (dk_at dksX0_ban_0 19 rfl rfl)
theorem dX0_ban_22 : decode cX0_ban 22 = .ok (.istore 5, 2) := dk_54 5 (dk_at dksX0_ban_0 22 rfl rfl)
theorem dX0_ban_24 : decode cX0_ban 24 = .ok (.aload 4, 2) := dk_25 4 (dk_at dksX0_ban_1 0 rfl rfl)
theorem dX0_ban_26 : decode cX0_ban 26 = .ok (.invokevirtual 485, 3) := dk_182 1 229 (dk_at dksX0_ban_1 2 rfl rfl)
theorem dX0_ban_29 : decode cX0_ban 29 = .ok (.checkcast 486, 3) := dk_192 1 230 (dk_at dksX0_ban_1 5 rfl rfl)
theorem dX0_ban_32 : decode cX0_ban 32 = .ok (.astore 6, 2) := dk_58 6 (dk_at dksX0_ban_1 8 rfl rfl)
theorem dX0_ban_34 : decode cX0_ban 34 = .ok (.aload_n 0, 1) := dk_42 (dk_at dksX0_ban_1 10 rfl rfl)
theorem dX0_ban_35 : decode cX0_ban 35 = .ok (.iload_n 1, 1) := dk_27 (dk_at dksX0_ban_1 11 rfl rfl)
theorem dX0_ban_36 : decode cX0_ban 36 = .ok (.iload_n 2, 1) := dk_28 (dk_at dksX0_ban_1 12 rfl rfl)
theorem dX0_ban_37 : decode cX0_ban 37 = .ok (.iload_n 3, 1) := dk_29 (dk_at dksX0_ban_1 13 rfl rfl)
theorem dX0_ban_38 : decode cX0_ban 38 = .ok (.invokevirtual 238, 3) := dk_182 0 238 (dk_at dksX0_ban_1 14 rfl rfl)
theorem dX0_ban_41 : decode cX0_ban 41 = .ok (.istore 7, 2) := dk_54 7 (dk_at dksX0_ban_1 17 rfl rfl)
theorem dX0_ban_43 : decode cX0_ban 43 = .ok (.aload_n 0, 1) := dk_42 (dk_at dksX0_ban_1 19 rfl rfl)
theorem dX0_ban_44 : decode cX0_ban 44 = .ok (.aload_n 0, 1) := dk_42 (dk_at dksX0_ban_1 20 rfl rfl)
theorem dX0_ban_45 : decode cX0_ban 45 = .ok (.aload 4, 2) := dk_25 4 (dk_at dksX0_ban_1 21 rfl rfl)
theorem dX0_ban_47 : decode cX0_ban 47 = .ok (.iload 5, 2) := dk_21 5 (dk_at dksX0_ban_2 0 rfl rfl)
theorem dX0_ban_49 : decode cX0_ban 49 = .ok (.invokedynamic 490, 5) := by decide +kernel
theorem dX0_ban_54 : decode cX0_ban 54 = .ok (.invokevirtual 460, 3) := dk_182 1 204 (dk_at dksX0_ban_2 7 rfl rfl)
theorem dX0_ban_57 : decode cX0_ban 57 = .ok (.iload 7, 2) := dk_21 7 (dk_at dksX0_ban_2 10 rfl rfl)
theorem dX0_ban_59 : decode cX0_ban 59 = .ok (.iconst (-1), 1) := dk_2 (dk_at dksX0_ban_2 12 rfl rfl)
theorem dX0_ban_60 : decode cX0_ban 60 = .ok (.if_icmp .ne 44, 3) := dk_160 0 44 (dk_at dksX0_ban_2 13 rfl rfl)
theorem dX0_ban_63 : decode cX0_ban 63 = .ok (.aload 6, 2) := dk_25 6 (dk_at dksX0_ban_2 16 rfl rfl)
theorem dX0_ban_65 : decode cX0_ban 65 = .ok (.iconst 3, 1) := dk_6 (dk_at dksX0_ban_2 18 rfl rfl)
theorem dX0_ban_66 : decode cX0_ban 66 = .ok (.iload 5, 2) := dk_21 5 (dk_at dksX0_ban_2 19 rfl rfl)
theorem dX0_ban_68 : decode cX0_ban 68 = .ok (.imul, 1) := dk_104 (dk_at dksX0_ban_2 21 rfl rfl)
theorem dX0_ban_69 : decode cX0_ban 69 = .ok (.iload_n 1, 1) := dk_27 (dk_at dksX0_ban_2 22 rfl rfl)
theorem dX0_ban_70 : decode cX0_ban 70 = .ok (.iastore, 1) := dk_79 (dk_at dksX0_ban_2 23 rfl rfl)
theorem dX0_ban_71 : decode cX0_ban 71 = .ok (.aload 6, 2) := dk_25 6 (dk_at dksX0_ban_3 0 rfl rfl)
theorem dX0_ban_73 : decode cX0_ban 73 = .ok (.iconst 3, 1) := dk_6 (dk_at dksX0_ban_3 2 rfl rfl)
theorem dX0_ban_74 : decode cX0_ban 74 = .ok (.iload 5, 2) := dk_21 5 (dk_at dksX0_ban_3 3 rfl rfl)
theorem dX0_ban_76 : decode cX0_ban 76 = .ok (.imul, 1) := dk_104 (dk_at dksX0_ban_3 5 rfl rfl)
theorem dX0_ban_77 : decode cX0_ban 77 = .ok (.iconst 1, 1) := dk_4 (dk_at dksX0_ban_3 6 rfl rfl)
theorem dX0_ban_78 : decode cX0_ban 78 = .ok (.iadd, 1) := dk_96 (dk_at dksX0_ban_3 7 rfl rfl)
theorem dX0_ban_79 : decode cX0_ban 79 = .ok (.iload_n 2, 1) := dk_28 (dk_at dksX0_ban_3 8 rfl rfl)
theorem dX0_ban_80 : decode cX0_ban 80 = .ok (.iastore, 1) := dk_79 (dk_at dksX0_ban_3 9 rfl rfl)
theorem dX0_ban_81 : decode cX0_ban 81 = .ok (.aload 6, 2) := dk_25 6 (dk_at dksX0_ban_3 10 rfl rfl)
theorem dX0_ban_83 : decode cX0_ban 83 = .ok (.iconst 3, 1) := dk_6 (dk_at dksX0_ban_3 12 rfl rfl)
theorem dX0_ban_84 : decode cX0_ban 84 = .ok (.iload 5, 2) := dk_21 5 (dk_at dksX0_ban_3 13 rfl rfl)
theorem dX0_ban_86 : decode cX0_ban 86 = .ok (.imul, 1) := dk_104 (dk_at dksX0_ban_3 15 rfl rfl)
theorem dX0_ban_87 : decode cX0_ban 87 = .ok (.iconst 2, 1) := dk_5 (dk_at dksX0_ban_3 16 rfl rfl)
theorem dX0_ban_88 : decode cX0_ban 88 = .ok (.iadd, 1) := dk_96 (dk_at dksX0_ban_3 17 rfl rfl)
theorem dX0_ban_89 : decode cX0_ban 89 = .ok (.iload_n 3, 1) := dk_29 (dk_at dksX0_ban_3 18 rfl rfl)
theorem dX0_ban_90 : decode cX0_ban 90 = .ok (.iastore, 1) := dk_79 (dk_at dksX0_ban_3 19 rfl rfl)
theorem dX0_ban_91 : decode cX0_ban 91 = .ok (.aload_n 0, 1) := dk_42 (dk_at dksX0_ban_3 20 rfl rfl)
theorem dX0_ban_92 : decode cX0_ban 92 = .ok (.aload 6, 2) := dk_25 6 (dk_at dksX0_ban_3 21 rfl rfl)
theorem dX0_ban_94 : decode cX0_ban 94 = .ok (.iload 5, 2) := dk_21 5 (dk_at dksX0_ban_4 0 rfl rfl)
theorem dX0_ban_96 : decode cX0_ban 96 = .ok (.iconst 1, 1) := dk_4 (dk_at dksX0_ban_4 2 rfl rfl)
theorem dX0_ban_97 : decode cX0_ban 97 = .ok (.iadd, 1) := dk_96 (dk_at dksX0_ban_4 3 rfl rfl)
theorem dX0_ban_98 : decode cX0_ban 98 = .ok (.invokevirtual 493, 3) := dk_182 1 237 (dk_at dksX0_ban_4 4 rfl rfl)
theorem dX0_ban_101 : decode cX0_ban 101 = .ok (.goto 39, 3) := dk_167 0 39 (dk_at dksX0_ban_4 7 rfl rfl)
theorem dX0_ban_104 : decode cX0_ban 104 = .ok (.aload 4, 2) := dk_25 4 (dk_at dksX0_ban_4 10 rfl rfl)
theorem dX0_ban_106 : decode cX0_ban 106 = .ok (.iconst 3, 1) := dk_6 (dk_at dksX0_ban_4 12 rfl rfl)
theorem dX0_ban_107 : decode cX0_ban 107 = .ok (.iload 7, 2) := dk_21 7 (dk_at dksX0_ban_4 13 rfl rfl)
theorem dX0_ban_109 : decode cX0_ban 109 = .ok (.imul, 1) := dk_104 (dk_at dksX0_ban_4 15 rfl rfl)
theorem dX0_ban_110 : decode cX0_ban 110 = .ok (.iconst 3, 1) := dk_6 (dk_at dksX0_ban_4 16 rfl rfl)
theorem dX0_ban_111 : decode cX0_ban 111 = .ok (.iadd, 1) := dk_96 (dk_at dksX0_ban_4 17 rfl rfl)
theorem dX0_ban_112 : decode cX0_ban 112 = .ok (.aload 6, 2) := dk_25 6 (dk_at dksX0_ban_4 18 rfl rfl)
theorem dX0_ban_114 : decode cX0_ban 114 = .ok (.iconst 3, 1) := dk_6 (dk_at dksX0_ban_4 20 rfl rfl)
theorem dX0_ban_115 : decode cX0_ban 115 = .ok (.iload 7, 2) := dk_21 7 (dk_at dksX0_ban_4 21 rfl rfl)
theorem dX0_ban_117 : decode cX0_ban 117 = .ok (.imul, 1) := dk_104 (dk_at dksX0_ban_4 23 rfl rfl)
theorem dX0_ban_118 : decode cX0_ban 118 = .ok (.iconst 3, 1) := dk_6 (dk_at dksX0_ban_5 0 rfl rfl)
theorem dX0_ban_119 : decode cX0_ban 119 = .ok (.iload 5, 2) := dk_21 5 (dk_at dksX0_ban_5 1 rfl rfl)
theorem dX0_ban_121 : decode cX0_ban 121 = .ok (.iload 7, 2) := dk_21 7 (dk_at dksX0_ban_5 3 rfl rfl)
theorem dX0_ban_123 : decode cX0_ban 123 = .ok (.isub, 1) := dk_100 (dk_at dksX0_ban_5 5 rfl rfl)
theorem dX0_ban_124 : decode cX0_ban 124 = .ok (.iconst 1, 1) := dk_4 (dk_at dksX0_ban_5 6 rfl rfl)
theorem dX0_ban_125 : decode cX0_ban 125 = .ok (.isub, 1) := dk_100 (dk_at dksX0_ban_5 7 rfl rfl)
theorem dX0_ban_126 : decode cX0_ban 126 = .ok (.imul, 1) := dk_104 (dk_at dksX0_ban_5 8 rfl rfl)
theorem dX0_ban_127 : decode cX0_ban 127 = .ok (.invokestatic 427, 3) := dk_184 1 171 (dk_at dksX0_ban_5 9 rfl rfl)
theorem dX0_ban_130 : decode cX0_ban 130 = .ok (.aload_n 0, 1) := dk_42 (dk_at dksX0_ban_5 12 rfl rfl)
theorem dX0_ban_131 : decode cX0_ban 131 = .ok (.aload 6, 2) := dk_25 6 (dk_at dksX0_ban_5 13 rfl rfl)
theorem dX0_ban_133 : decode cX0_ban 133 = .ok (.iload 5, 2) := dk_21 5 (dk_at dksX0_ban_5 15 rfl rfl)
theorem dX0_ban_135 : decode cX0_ban 135 = .ok (.iconst 1, 1) := dk_4 (dk_at dksX0_ban_5 17 rfl rfl)
theorem dX0_ban_136 : decode cX0_ban 136 = .ok (.isub, 1) := dk_100 (dk_at dksX0_ban_5 18 rfl rfl)
theorem dX0_ban_137 : decode cX0_ban 137 = .ok (.invokevirtual 493, 3) := dk_182 1 237 (dk_at dksX0_ban_5 19 rfl rfl)
theorem dX0_ban_140 : decode cX0_ban 140 = .ok (.aload_n 0, 1) := dk_42 (dk_at dksX0_ban_5 22 rfl rfl)
theorem dX0_ban_141 : decode cX0_ban 141 = .ok (.getfield 235, 3) := dk_180 0 235 (dk_at dksX0_ban_6 0 rfl rfl)
theorem dX0_ban_144 : decode cX0_ban 144 = .ok (.ireturn, 1) := dk_172 (dk_at dksX0_ban_6 3 rfl rfl)
abbrev cX0_canBan : ByteArray := prog_1_method_70_code
def yX0_canBan : MethodName := ⟨RX0, "canBan", "(III)Z"⟩
def dkwX0_canBan_3 : List UInt8 := [16, 8, 162, 0, 7, 4, 167, 0, 4, 3, 172]
abbrev dktX0_canBan_3 : List UInt8 := dkwX0_canBan_3 ++ []
def dkwX0_canBan_2 : List UInt8 := [180, 1, 49, 29, 46, 159, 0, 5, 3, 172, 42, 27, 28, 29, 182, 1, 223, 154, 0, 12, 42, 180, 0, 235]
abbrev dktX0_canBan_2 : List UInt8 := dkwX0_canBan_2 ++ dktX0_canBan_3
def dkwX0_canBan_1 : List UInt8 := [180, 0, 199, 180, 0, 232, 27, 46, 162, 0, 24, 42, 180, 0, 199, 27, 28, 182, 1, 52, 42, 180, 0, 199]
abbrev dktX0_canBan_1 : List UInt8 := dkwX0_canBan_1 ++ dktX0_canBan_2
def dkwX0_canBan_0 : List UInt8 := [42, 27, 182, 1, 45, 153, 0, 49, 42, 29, 182, 1, 45, 153, 0, 41, 28, 155, 0, 37, 28, 42]
abbrev dktX0_canBan_0 : List UInt8 := dkwX0_canBan_0 ++ dktX0_canBan_1
theorem dksX0_canBan_0 : cX0_canBan.data.toList.drop 0 = dktX0_canBan_0 := by decide +kernel
theorem dksX0_canBan_1 : cX0_canBan.data.toList.drop 22 = dktX0_canBan_1 := dk_seg dksX0_canBan_0 22 rfl rfl
theorem dksX0_canBan_2 : cX0_canBan.data.toList.drop 46 = dktX0_canBan_2 := dk_seg dksX0_canBan_1 24 rfl rfl
theorem dksX0_canBan_3 : cX0_canBan.data.toList.drop 70 = dktX0_canBan_3 := dk_seg dksX0_canBan_2 24 rfl rfl
theorem dX0_canBan_0 : decode cX0_canBan 0 = .ok (.aload_n 0, 1) := dk_42 (dk_at dksX0_canBan_0 0 rfl rfl)
theorem dX0_canBan_1 : decode cX0_canBan 1 = .ok (.iload_n 1, 1) := dk_27 (dk_at dksX0_canBan_0 1 rfl rfl)
theorem dX0_canBan_2 : decode cX0_canBan 2 = .ok (.invokevirtual 301, 3) := dk_182 1 45 (dk_at dksX0_canBan_0 2 rfl rfl)
theorem dX0_canBan_5 : decode cX0_canBan 5 = .ok (.ifCond .eq 49, 3) := dk_153 0 49 (dk_at dksX0_canBan_0 5 rfl rfl)
theorem dX0_canBan_8 : decode cX0_canBan 8 = .ok (.aload_n 0, 1) := dk_42 (dk_at dksX0_canBan_0 8 rfl rfl)
theorem dX0_canBan_9 : decode cX0_canBan 9 = .ok (.iload_n 3, 1) := dk_29 (dk_at dksX0_canBan_0 9 rfl rfl)
theorem dX0_canBan_10 : decode cX0_canBan 10 = .ok (.invokevirtual 301, 3) := dk_182 1 45 (dk_at dksX0_canBan_0 10 rfl rfl)
theorem dX0_canBan_13 : decode cX0_canBan 13 = .ok (.ifCond .eq 41, 3) := dk_153 0 41 (dk_at dksX0_canBan_0 13 rfl rfl)
theorem dX0_canBan_16 : decode cX0_canBan 16 = .ok (.iload_n 2, 1) := dk_28 (dk_at dksX0_canBan_0 16 rfl rfl)
theorem dX0_canBan_17 : decode cX0_canBan 17 = .ok (.ifCond .lt 37, 3) := dk_155 0 37 (dk_at dksX0_canBan_0 17 rfl rfl)
theorem dX0_canBan_20 : decode cX0_canBan 20 = .ok (.iload_n 2, 1) := dk_28 (dk_at dksX0_canBan_0 20 rfl rfl)
theorem dX0_canBan_21 : decode cX0_canBan 21 = .ok (.aload_n 0, 1) := dk_42 (dk_at dksX0_canBan_0 21 rfl rfl)
theorem dX0_canBan_22 : decode cX0_canBan 22 = .ok (.getfield 199, 3) := dk_180 0 199 (dk_at dksX0_canBan_1 0 rfl rfl)
theorem dX0_canBan_25 : decode cX0_canBan 25 = .ok (.getfield 232, 3) := dk_180 0 232 (dk_at dksX0_canBan_1 3 rfl rfl)
theorem dX0_canBan_28 : decode cX0_canBan 28 = .ok (.iload_n 1, 1) := dk_27 (dk_at dksX0_canBan_1 6 rfl rfl)
theorem dX0_canBan_29 : decode cX0_canBan 29 = .ok (.iaload, 1) := dk_46 (dk_at dksX0_canBan_1 7 rfl rfl)
theorem dX0_canBan_30 : decode cX0_canBan 30 = .ok (.if_icmp .ge 24, 3) := dk_162 0 24 (dk_at dksX0_canBan_1 8 rfl rfl)
theorem dX0_canBan_33 : decode cX0_canBan 33 = .ok (.aload_n 0, 1) := dk_42 (dk_at dksX0_canBan_1 11 rfl rfl)
theorem dX0_canBan_34 : decode cX0_canBan 34 = .ok (.getfield 199, 3) := dk_180 0 199 (dk_at dksX0_canBan_1 12 rfl rfl)
theorem dX0_canBan_37 : decode cX0_canBan 37 = .ok (.iload_n 1, 1) := dk_27 (dk_at dksX0_canBan_1 15 rfl rfl)
theorem dX0_canBan_38 : decode cX0_canBan 38 = .ok (.iload_n 2, 1) := dk_28 (dk_at dksX0_canBan_1 16 rfl rfl)
theorem dX0_canBan_39 : decode cX0_canBan 39 = .ok (.invokevirtual 308, 3) := dk_182 1 52 (dk_at dksX0_canBan_1 17 rfl rfl)
theorem dX0_canBan_42 : decode cX0_canBan 42 = .ok (.aload_n 0, 1) := dk_42 (dk_at dksX0_canBan_1 20 rfl rfl)
theorem dX0_canBan_43 : decode cX0_canBan 43 = .ok (.getfield 199, 3) := dk_180 0 199 (dk_at dksX0_canBan_1 21 rfl rfl)
theorem dX0_canBan_46 : decode cX0_canBan 46 = .ok (.getfield 305, 3) := dk_180 1 49 (dk_at dksX0_canBan_2 0 rfl rfl)
theorem dX0_canBan_49 : decode cX0_canBan 49 = .ok (.iload_n 3, 1) := dk_29 (dk_at dksX0_canBan_2 3 rfl rfl)
theorem dX0_canBan_50 : decode cX0_canBan 50 = .ok (.iaload, 1) := dk_46 (dk_at dksX0_canBan_2 4 rfl rfl)
theorem dX0_canBan_51 : decode cX0_canBan 51 = .ok (.if_icmp .eq 5, 3) := dk_159 0 5 (dk_at dksX0_canBan_2 5 rfl rfl)
theorem dX0_canBan_54 : decode cX0_canBan 54 = .ok (.iconst 0, 1) := dk_3 (dk_at dksX0_canBan_2 8 rfl rfl)
theorem dX0_canBan_55 : decode cX0_canBan 55 = .ok (.ireturn, 1) := dk_172 (dk_at dksX0_canBan_2 9 rfl rfl)
theorem dX0_canBan_56 : decode cX0_canBan 56 = .ok (.aload_n 0, 1) := dk_42 (dk_at dksX0_canBan_2 10 rfl rfl)
theorem dX0_canBan_57 : decode cX0_canBan 57 = .ok (.iload_n 1, 1) := dk_27 (dk_at dksX0_canBan_2 11 rfl rfl)
theorem dX0_canBan_58 : decode cX0_canBan 58 = .ok (.iload_n 2, 1) := dk_28 (dk_at dksX0_canBan_2 12 rfl rfl)
theorem dX0_canBan_59 : decode cX0_canBan 59 = .ok (.iload_n 3, 1) := dk_29 (dk_at dksX0_canBan_2 13 rfl rfl)
theorem dX0_canBan_60 : decode cX0_canBan 60 = .ok (.invokevirtual 479, 3) := dk_182 1 223 (dk_at dksX0_canBan_2 14 rfl rfl)
theorem dX0_canBan_63 : decode cX0_canBan 63 = .ok (.ifCond .ne 12, 3) := dk_154 0 12 (dk_at dksX0_canBan_2 17 rfl rfl)
theorem dX0_canBan_66 : decode cX0_canBan 66 = .ok (.aload_n 0, 1) := dk_42 (dk_at dksX0_canBan_2 20 rfl rfl)
theorem dX0_canBan_67 : decode cX0_canBan 67 = .ok (.getfield 235, 3) := dk_180 0 235 (dk_at dksX0_canBan_2 21 rfl rfl)
theorem dX0_canBan_70 : decode cX0_canBan 70 = .ok (.bipush 8, 2) := dk_16 8 (dk_at dksX0_canBan_3 0 rfl rfl)
theorem dX0_canBan_72 : decode cX0_canBan 72 = .ok (.if_icmp .ge 7, 3) := dk_162 0 7 (dk_at dksX0_canBan_3 2 rfl rfl)
theorem dX0_canBan_75 : decode cX0_canBan 75 = .ok (.iconst 1, 1) := dk_4 (dk_at dksX0_canBan_3 5 rfl rfl)
theorem dX0_canBan_76 : decode cX0_canBan 76 = .ok (.goto 4, 3) := dk_167 0 4 (dk_at dksX0_canBan_3 6 rfl rfl)
theorem dX0_canBan_79 : decode cX0_canBan 79 = .ok (.iconst 0, 1) := dk_3 (dk_at dksX0_canBan_3 9 rfl rfl)
theorem dX0_canBan_80 : decode cX0_canBan 80 = .ok (.ireturn, 1) := dk_172 (dk_at dksX0_canBan_3 10 rfl rfl)
abbrev cX0_lambda_ban_3 : ByteArray := prog_1_method_139_code
def yX0_lambda_ban_3 : MethodName := ⟨RX0, "lambda$ban$3", "([II)V"⟩
def dkwX0_lambda_ban_3_0 : List UInt8 := [42, 43, 28, 182, 1, 237, 177]
abbrev dktX0_lambda_ban_3_0 : List UInt8 := dkwX0_lambda_ban_3_0 ++ []
theorem dksX0_lambda_ban_3_0 : cX0_lambda_ban_3.data.toList.drop 0 = dktX0_lambda_ban_3_0 := by decide +kernel
theorem dX0_lambda_ban_3_0 : decode cX0_lambda_ban_3 0 = .ok (.aload_n 0, 1) := dk_42 (dk_at dksX0_lambda_ban_3_0 0 rfl rfl)
theorem dX0_lambda_ban_3_1 : decode cX0_lambda_ban_3 1 = .ok (.aload_n 1, 1) := dk_43 (dk_at dksX0_lambda_ban_3_0 1 rfl rfl)
theorem dX0_lambda_ban_3_2 : decode cX0_lambda_ban_3 2 = .ok (.iload_n 2, 1) := dk_28 (dk_at dksX0_lambda_ban_3_0 2 rfl rfl)
theorem dX0_lambda_ban_3_3 : decode cX0_lambda_ban_3 3 = .ok (.invokevirtual 493, 3) := dk_182 1 237 (dk_at dksX0_lambda_ban_3_0 3 rfl rfl)
theorem dX0_lambda_ban_3_6 : decode cX0_lambda_ban_3 6 = .ok (.return_, 1) := dk_177 (dk_at dksX0_lambda_ban_3_0 6 rfl rfl)
abbrev cX0_laysBans : ByteArray := prog_1_method_69_code
def yX0_laysBans : MethodName := ⟨RX0, "laysBans", "([II)V"⟩
def dkwX0_laysBans_0 : List UInt8 := [42, 43, 181, 0, 27, 42, 28, 181, 0, 235, 42, 182, 1, 189, 177]
abbrev dktX0_laysBans_0 : List UInt8 := dkwX0_laysBans_0 ++ []
theorem dksX0_laysBans_0 : cX0_laysBans.data.toList.drop 0 = dktX0_laysBans_0 := by decide +kernel
theorem dX0_laysBans_0 : decode cX0_laysBans 0 = .ok (.aload_n 0, 1) := dk_42 (dk_at dksX0_laysBans_0 0 rfl rfl)
theorem dX0_laysBans_1 : decode cX0_laysBans 1 = .ok (.aload_n 1, 1) := dk_43 (dk_at dksX0_laysBans_0 1 rfl rfl)
theorem dX0_laysBans_2 : decode cX0_laysBans 2 = .ok (.putfield 27, 3) := dk_181 0 27 (dk_at dksX0_laysBans_0 2 rfl rfl)
theorem dX0_laysBans_5 : decode cX0_laysBans 5 = .ok (.aload_n 0, 1) := dk_42 (dk_at dksX0_laysBans_0 5 rfl rfl)
theorem dX0_laysBans_6 : decode cX0_laysBans 6 = .ok (.iload_n 2, 1) := dk_28 (dk_at dksX0_laysBans_0 6 rfl rfl)
theorem dX0_laysBans_7 : decode cX0_laysBans 7 = .ok (.putfield 235, 3) := dk_181 0 235 (dk_at dksX0_laysBans_0 7 rfl rfl)
theorem dX0_laysBans_10 : decode cX0_laysBans 10 = .ok (.aload_n 0, 1) := dk_42 (dk_at dksX0_laysBans_0 10 rfl rfl)
theorem dX0_laysBans_11 : decode cX0_laysBans 11 = .ok (.invokevirtual 445, 3) := dk_182 1 189 (dk_at dksX0_laysBans_0 11 rfl rfl)
theorem dX0_laysBans_14 : decode cX0_laysBans 14 = .ok (.return_, 1) := dk_177 (dk_at dksX0_laysBans_0 14 rfl rfl)
abbrev cX0_filter : ByteArray := prog_1_method_73_code
def yX0_filter : MethodName := ⟨RX0, "filter", "(I)I"⟩
def dkwX0_filter_1 : List UInt8 := [186, 1, 243, 0, 0, 182, 1, 204, 42, 27, 182, 1, 244, 42, 180, 0, 23, 172]
abbrev dktX0_filter_1 : List UInt8 := dkwX0_filter_1 ++ []
def dkwX0_filter_0 : List UInt8 := [42, 180, 0, 199, 198, 0, 15, 27, 133, 9, 20, 1, 241, 184, 0, 219, 154, 0, 5, 2, 172, 42, 42, 27]
abbrev dktX0_filter_0 : List UInt8 := dkwX0_filter_0 ++ dktX0_filter_1
theorem dksX0_filter_0 : cX0_filter.data.toList.drop 0 = dktX0_filter_0 := by decide +kernel
theorem dksX0_filter_1 : cX0_filter.data.toList.drop 24 = dktX0_filter_1 := dk_seg dksX0_filter_0 24 rfl rfl
theorem dX0_filter_0 : decode cX0_filter 0 = .ok (.aload_n 0, 1) := dk_42 (dk_at dksX0_filter_0 0 rfl rfl)
theorem dX0_filter_1 : decode cX0_filter 1 = .ok (.getfield 199, 3) := dk_180 0 199 (dk_at dksX0_filter_0 1 rfl rfl)
theorem dX0_filter_4 : decode cX0_filter 4 = .ok (.ifnull 15, 3) := dk_198 0 15 (dk_at dksX0_filter_0 4 rfl rfl)
theorem dX0_filter_7 : decode cX0_filter 7 = .ok (.iload_n 1, 1) := dk_27 (dk_at dksX0_filter_0 7 rfl rfl)
theorem dX0_filter_8 : decode cX0_filter 8 = .ok (.i2l, 1) := dk_133 (dk_at dksX0_filter_0 8 rfl rfl)
theorem dX0_filter_9 : decode cX0_filter 9 = .ok (.lconst 0, 1) := dk_9 (dk_at dksX0_filter_0 9 rfl rfl)
theorem dX0_filter_10 : decode cX0_filter 10 = .ok (.ldc2_w 497, 3) := dk_20 1 241 (dk_at dksX0_filter_0 10 rfl rfl)
theorem dX0_filter_13 : decode cX0_filter 13 = .ok (.invokestatic 219, 3) := dk_184 0 219 (dk_at dksX0_filter_0 13 rfl rfl)
theorem dX0_filter_16 : decode cX0_filter 16 = .ok (.ifCond .ne 5, 3) := dk_154 0 5 (dk_at dksX0_filter_0 16 rfl rfl)
theorem dX0_filter_19 : decode cX0_filter 19 = .ok (.iconst (-1), 1) := dk_2 (dk_at dksX0_filter_0 19 rfl rfl)
theorem dX0_filter_20 : decode cX0_filter 20 = .ok (.ireturn, 1) := dk_172 (dk_at dksX0_filter_0 20 rfl rfl)
theorem dX0_filter_21 : decode cX0_filter 21 = .ok (.aload_n 0, 1) := dk_42 (dk_at dksX0_filter_0 21 rfl rfl)
theorem dX0_filter_22 : decode cX0_filter 22 = .ok (.aload_n 0, 1) := dk_42 (dk_at dksX0_filter_0 22 rfl rfl)
theorem dX0_filter_23 : decode cX0_filter 23 = .ok (.iload_n 1, 1) := dk_27 (dk_at dksX0_filter_0 23 rfl rfl)
theorem dX0_filter_24 : decode cX0_filter 24 = .ok (.invokedynamic 499, 5) := by decide +kernel
theorem dX0_filter_29 : decode cX0_filter 29 = .ok (.invokevirtual 460, 3) := dk_182 1 204 (dk_at dksX0_filter_1 5 rfl rfl)
theorem dX0_filter_32 : decode cX0_filter 32 = .ok (.aload_n 0, 1) := dk_42 (dk_at dksX0_filter_1 8 rfl rfl)
theorem dX0_filter_33 : decode cX0_filter 33 = .ok (.iload_n 1, 1) := dk_27 (dk_at dksX0_filter_1 9 rfl rfl)
theorem dX0_filter_34 : decode cX0_filter 34 = .ok (.invokevirtual 500, 3) := dk_182 1 244 (dk_at dksX0_filter_1 10 rfl rfl)
theorem dX0_filter_37 : decode cX0_filter 37 = .ok (.aload_n 0, 1) := dk_42 (dk_at dksX0_filter_1 13 rfl rfl)
theorem dX0_filter_38 : decode cX0_filter 38 = .ok (.getfield 23, 3) := dk_180 0 23 (dk_at dksX0_filter_1 14 rfl rfl)
theorem dX0_filter_41 : decode cX0_filter 41 = .ok (.ireturn, 1) := dk_172 (dk_at dksX0_filter_1 17 rfl rfl)
abbrev cX0_lambda_filter_4 : ByteArray := prog_1_method_138_code
def yX0_lambda_filter_4 : MethodName := ⟨RX0, "lambda$filter$4", "(I)V"⟩
def dkwX0_lambda_filter_4_0 : List UInt8 := [42, 27, 182, 1, 244, 177]
abbrev dktX0_lambda_filter_4_0 : List UInt8 := dkwX0_lambda_filter_4_0 ++ []
theorem dksX0_lambda_filter_4_0 : cX0_lambda_filter_4.data.toList.drop 0 = dktX0_lambda_filter_4_0 := by decide +kernel
theorem dX0_lambda_filter_4_0 : decode cX0_lambda_filter_4 0 = .ok (.aload_n 0, 1) := dk_42 (dk_at dksX0_lambda_filter_4_0 0 rfl rfl)
theorem dX0_lambda_filter_4_1 : decode cX0_lambda_filter_4 1 = .ok (.iload_n 1, 1) := dk_27 (dk_at dksX0_lambda_filter_4_0 1 rfl rfl)
theorem dX0_lambda_filter_4_2 : decode cX0_lambda_filter_4 2 = .ok (.invokevirtual 500, 3) := dk_182 1 244 (dk_at dksX0_lambda_filter_4_0 2 rfl rfl)
theorem dX0_lambda_filter_4_5 : decode cX0_lambda_filter_4 5 = .ok (.return_, 1) := dk_177 (dk_at dksX0_lambda_filter_4_0 5 rfl rfl)
abbrev cX0_switches : ByteArray := prog_1_method_72_code
def yX0_switches : MethodName := ⟨RX0, "switches", "(I)V"⟩
def dkwX0_switches_0 : List UInt8 := [42, 89, 180, 0, 23, 4, 27, 120, 130, 181, 0, 23, 42, 182, 1, 189, 177]
abbrev dktX0_switches_0 : List UInt8 := dkwX0_switches_0 ++ []
theorem dksX0_switches_0 : cX0_switches.data.toList.drop 0 = dktX0_switches_0 := by decide +kernel
theorem dX0_switches_0 : decode cX0_switches 0 = .ok (.aload_n 0, 1) := dk_42 (dk_at dksX0_switches_0 0 rfl rfl)
theorem dX0_switches_1 : decode cX0_switches 1 = .ok (.dup, 1) := dk_89 (dk_at dksX0_switches_0 1 rfl rfl)
theorem dX0_switches_2 : decode cX0_switches 2 = .ok (.getfield 23, 3) := dk_180 0 23 (dk_at dksX0_switches_0 2 rfl rfl)
theorem dX0_switches_5 : decode cX0_switches 5 = .ok (.iconst 1, 1) := dk_4 (dk_at dksX0_switches_0 5 rfl rfl)
theorem dX0_switches_6 : decode cX0_switches 6 = .ok (.iload_n 1, 1) := dk_27 (dk_at dksX0_switches_0 6 rfl rfl)
theorem dX0_switches_7 : decode cX0_switches 7 = .ok (.ishl, 1) := dk_120 (dk_at dksX0_switches_0 7 rfl rfl)
theorem dX0_switches_8 : decode cX0_switches 8 = .ok (.ixor, 1) := dk_130 (dk_at dksX0_switches_0 8 rfl rfl)
theorem dX0_switches_9 : decode cX0_switches 9 = .ok (.putfield 23, 3) := dk_181 0 23 (dk_at dksX0_switches_0 9 rfl rfl)
theorem dX0_switches_12 : decode cX0_switches 12 = .ok (.aload_n 0, 1) := dk_42 (dk_at dksX0_switches_0 12 rfl rfl)
theorem dX0_switches_13 : decode cX0_switches 13 = .ok (.invokevirtual 445, 3) := dk_182 1 189 (dk_at dksX0_switches_0 13 rfl rfl)
theorem dX0_switches_16 : decode cX0_switches 16 = .ok (.return_, 1) := dk_177 (dk_at dksX0_switches_0 16 rfl rfl)
abbrev cX0_letter : ByteArray := prog_1_method_74_code
def yX0_letter : MethodName := ⟨RX0, "letter", "(I)I"⟩
def dkwX0_letter_0 : List UInt8 := [27, 155, 0, 20, 27, 42, 180, 1, 29, 162, 0, 12, 42, 180, 0, 19, 27, 46, 167, 0, 4, 2, 172]
abbrev dktX0_letter_0 : List UInt8 := dkwX0_letter_0 ++ []
theorem dksX0_letter_0 : cX0_letter.data.toList.drop 0 = dktX0_letter_0 := by decide +kernel
theorem dX0_letter_0 : decode cX0_letter 0 = .ok (.iload_n 1, 1) := dk_27 (dk_at dksX0_letter_0 0 rfl rfl)
theorem dX0_letter_1 : decode cX0_letter 1 = .ok (.ifCond .lt 20, 3) := dk_155 0 20 (dk_at dksX0_letter_0 1 rfl rfl)
theorem dX0_letter_4 : decode cX0_letter 4 = .ok (.iload_n 1, 1) := dk_27 (dk_at dksX0_letter_0 4 rfl rfl)
theorem dX0_letter_5 : decode cX0_letter 5 = .ok (.aload_n 0, 1) := dk_42 (dk_at dksX0_letter_0 5 rfl rfl)
theorem dX0_letter_6 : decode cX0_letter 6 = .ok (.getfield 285, 3) := dk_180 1 29 (dk_at dksX0_letter_0 6 rfl rfl)
theorem dX0_letter_9 : decode cX0_letter 9 = .ok (.if_icmp .ge 12, 3) := dk_162 0 12 (dk_at dksX0_letter_0 9 rfl rfl)
theorem dX0_letter_12 : decode cX0_letter 12 = .ok (.aload_n 0, 1) := dk_42 (dk_at dksX0_letter_0 12 rfl rfl)
theorem dX0_letter_13 : decode cX0_letter 13 = .ok (.getfield 19, 3) := dk_180 0 19 (dk_at dksX0_letter_0 13 rfl rfl)
theorem dX0_letter_16 : decode cX0_letter 16 = .ok (.iload_n 1, 1) := dk_27 (dk_at dksX0_letter_0 16 rfl rfl)
theorem dX0_letter_17 : decode cX0_letter 17 = .ok (.iaload, 1) := dk_46 (dk_at dksX0_letter_0 17 rfl rfl)
theorem dX0_letter_18 : decode cX0_letter 18 = .ok (.goto 4, 3) := dk_167 0 4 (dk_at dksX0_letter_0 18 rfl rfl)
theorem dX0_letter_21 : decode cX0_letter 21 = .ok (.iconst (-1), 1) := dk_2 (dk_at dksX0_letter_0 21 rfl rfl)
theorem dX0_letter_22 : decode cX0_letter 22 = .ok (.ireturn, 1) := dk_172 (dk_at dksX0_letter_0 22 rfl rfl)
abbrev cX0_alive : ByteArray := prog_1_method_82_code
def yX0_alive : MethodName := ⟨RX0, "alive", "(II)I"⟩
def dkwX0_alive_3 : List UInt8 := [132, 4, 1, 167, 255, 230, 29, 172]
abbrev dktX0_alive_3 : List UInt8 := dkwX0_alive_3 ++ []
def dkwX0_alive_2 : List UInt8 := [21, 4, 42, 180, 1, 143, 162, 0, 23, 29, 42, 180, 0, 82, 21, 4, 46, 27, 122, 4, 126, 96, 62]
abbrev dktX0_alive_2 : List UInt8 := dkwX0_alive_2 ++ dktX0_alive_3
def dkwX0_alive_1 : List UInt8 := [182, 2, 13, 28, 2, 159, 0, 14, 42, 180, 0, 82, 28, 46, 27, 122, 4, 126, 172, 3, 62, 3, 54, 4]
abbrev dktX0_alive_1 : List UInt8 := dkwX0_alive_1 ++ dktX0_alive_2
def dkwX0_alive_0 : List UInt8 := [42, 27, 182, 2, 10, 153, 0, 16, 28, 2, 159, 0, 13, 42, 28, 182, 1, 157, 154, 0, 5, 2, 172, 42]
abbrev dktX0_alive_0 : List UInt8 := dkwX0_alive_0 ++ dktX0_alive_1
theorem dksX0_alive_0 : cX0_alive.data.toList.drop 0 = dktX0_alive_0 := by decide +kernel
theorem dksX0_alive_1 : cX0_alive.data.toList.drop 24 = dktX0_alive_1 := dk_seg dksX0_alive_0 24 rfl rfl
theorem dksX0_alive_2 : cX0_alive.data.toList.drop 48 = dktX0_alive_2 := dk_seg dksX0_alive_1 24 rfl rfl
theorem dksX0_alive_3 : cX0_alive.data.toList.drop 71 = dktX0_alive_3 := dk_seg dksX0_alive_2 23 rfl rfl
theorem dX0_alive_0 : decode cX0_alive 0 = .ok (.aload_n 0, 1) := dk_42 (dk_at dksX0_alive_0 0 rfl rfl)
theorem dX0_alive_1 : decode cX0_alive 1 = .ok (.iload_n 1, 1) := dk_27 (dk_at dksX0_alive_0 1 rfl rfl)
theorem dX0_alive_2 : decode cX0_alive 2 = .ok (.invokevirtual 522, 3) := dk_182 2 10 (dk_at dksX0_alive_0 2 rfl rfl)
theorem dX0_alive_5 : decode cX0_alive 5 = .ok (.ifCond .eq 16, 3) := dk_153 0 16 (dk_at dksX0_alive_0 5 rfl rfl)
theorem dX0_alive_8 : decode cX0_alive 8 = .ok (.iload_n 2, 1) := dk_28 (dk_at dksX0_alive_0 8 rfl rfl)
theorem dX0_alive_9 : decode cX0_alive 9 = .ok (.iconst (-1), 1) := dk_2 (dk_at dksX0_alive_0 9 rfl rfl)
theorem dX0_alive_10 : decode cX0_alive 10 = .ok (.if_icmp .eq 13, 3) := dk_159 0 13 (dk_at dksX0_alive_0 10 rfl rfl)
theorem dX0_alive_13 : decode cX0_alive 13 = .ok (.aload_n 0, 1) := dk_42 (dk_at dksX0_alive_0 13 rfl rfl)
theorem dX0_alive_14 : decode cX0_alive 14 = .ok (.iload_n 2, 1) := dk_28 (dk_at dksX0_alive_0 14 rfl rfl)
theorem dX0_alive_15 : decode cX0_alive 15 = .ok (.invokevirtual 413, 3) := dk_182 1 157 (dk_at dksX0_alive_0 15 rfl rfl)
theorem dX0_alive_18 : decode cX0_alive 18 = .ok (.ifCond .ne 5, 3) := dk_154 0 5 (dk_at dksX0_alive_0 18 rfl rfl)
theorem dX0_alive_21 : decode cX0_alive 21 = .ok (.iconst (-1), 1) := dk_2 (dk_at dksX0_alive_0 21 rfl rfl)
theorem dX0_alive_22 : decode cX0_alive 22 = .ok (.ireturn, 1) := dk_172 (dk_at dksX0_alive_0 22 rfl rfl)
theorem dX0_alive_23 : decode cX0_alive 23 = .ok (.aload_n 0, 1) := dk_42 (dk_at dksX0_alive_0 23 rfl rfl)
theorem dX0_alive_24 : decode cX0_alive 24 = .ok (.invokevirtual 525, 3) := dk_182 2 13 (dk_at dksX0_alive_1 0 rfl rfl)
theorem dX0_alive_27 : decode cX0_alive 27 = .ok (.iload_n 2, 1) := dk_28 (dk_at dksX0_alive_1 3 rfl rfl)
theorem dX0_alive_28 : decode cX0_alive 28 = .ok (.iconst (-1), 1) := dk_2 (dk_at dksX0_alive_1 4 rfl rfl)
theorem dX0_alive_29 : decode cX0_alive 29 = .ok (.if_icmp .eq 14, 3) := dk_159 0 14 (dk_at dksX0_alive_1 5 rfl rfl)
theorem dX0_alive_32 : decode cX0_alive 32 = .ok (.aload_n 0, 1) := dk_42 (dk_at dksX0_alive_1 8 rfl rfl)
theorem dX0_alive_33 : decode cX0_alive 33 = .ok (.getfield 82, 3) := dk_180 0 82 (dk_at dksX0_alive_1 9 rfl rfl)
theorem dX0_alive_36 : decode cX0_alive 36 = .ok (.iload_n 2, 1) := dk_28 (dk_at dksX0_alive_1 12 rfl rfl)
theorem dX0_alive_37 : decode cX0_alive 37 = .ok (.iaload, 1) := dk_46 (dk_at dksX0_alive_1 13 rfl rfl)
theorem dX0_alive_38 : decode cX0_alive 38 = .ok (.iload_n 1, 1) := dk_27 (dk_at dksX0_alive_1 14 rfl rfl)
theorem dX0_alive_39 : decode cX0_alive 39 = .ok (.ishr, 1) := dk_122 (dk_at dksX0_alive_1 15 rfl rfl)
theorem dX0_alive_40 : decode cX0_alive 40 = .ok (.iconst 1, 1) := dk_4 (dk_at dksX0_alive_1 16 rfl rfl)
theorem dX0_alive_41 : decode cX0_alive 41 = .ok (.iand, 1) := dk_126 (dk_at dksX0_alive_1 17 rfl rfl)
theorem dX0_alive_42 : decode cX0_alive 42 = .ok (.ireturn, 1) := dk_172 (dk_at dksX0_alive_1 18 rfl rfl)
theorem dX0_alive_43 : decode cX0_alive 43 = .ok (.iconst 0, 1) := dk_3 (dk_at dksX0_alive_1 19 rfl rfl)
theorem dX0_alive_44 : decode cX0_alive 44 = .ok (.istore_n 3, 1) := dk_62 (dk_at dksX0_alive_1 20 rfl rfl)
theorem dX0_alive_45 : decode cX0_alive 45 = .ok (.iconst 0, 1) := dk_3 (dk_at dksX0_alive_1 21 rfl rfl)
theorem dX0_alive_46 : decode cX0_alive 46 = .ok (.istore 4, 2) := dk_54 4 (dk_at dksX0_alive_1 22 rfl rfl)
theorem dX0_alive_48 : decode cX0_alive 48 = .ok (.iload 4, 2) := dk_21 4 (dk_at dksX0_alive_2 0 rfl rfl)
theorem dX0_alive_50 : decode cX0_alive 50 = .ok (.aload_n 0, 1) := dk_42 (dk_at dksX0_alive_2 2 rfl rfl)
theorem dX0_alive_51 : decode cX0_alive 51 = .ok (.getfield 399, 3) := dk_180 1 143 (dk_at dksX0_alive_2 3 rfl rfl)
theorem dX0_alive_54 : decode cX0_alive 54 = .ok (.if_icmp .ge 23, 3) := dk_162 0 23 (dk_at dksX0_alive_2 6 rfl rfl)
theorem dX0_alive_57 : decode cX0_alive 57 = .ok (.iload_n 3, 1) := dk_29 (dk_at dksX0_alive_2 9 rfl rfl)
theorem dX0_alive_58 : decode cX0_alive 58 = .ok (.aload_n 0, 1) := dk_42 (dk_at dksX0_alive_2 10 rfl rfl)
theorem dX0_alive_59 : decode cX0_alive 59 = .ok (.getfield 82, 3) := dk_180 0 82 (dk_at dksX0_alive_2 11 rfl rfl)
theorem dX0_alive_62 : decode cX0_alive 62 = .ok (.iload 4, 2) := dk_21 4 (dk_at dksX0_alive_2 14 rfl rfl)
theorem dX0_alive_64 : decode cX0_alive 64 = .ok (.iaload, 1) := dk_46 (dk_at dksX0_alive_2 16 rfl rfl)
theorem dX0_alive_65 : decode cX0_alive 65 = .ok (.iload_n 1, 1) := dk_27 (dk_at dksX0_alive_2 17 rfl rfl)
theorem dX0_alive_66 : decode cX0_alive 66 = .ok (.ishr, 1) := dk_122 (dk_at dksX0_alive_2 18 rfl rfl)
theorem dX0_alive_67 : decode cX0_alive 67 = .ok (.iconst 1, 1) := dk_4 (dk_at dksX0_alive_2 19 rfl rfl)
theorem dX0_alive_68 : decode cX0_alive 68 = .ok (.iand, 1) := dk_126 (dk_at dksX0_alive_2 20 rfl rfl)
theorem dX0_alive_69 : decode cX0_alive 69 = .ok (.iadd, 1) := dk_96 (dk_at dksX0_alive_2 21 rfl rfl)
theorem dX0_alive_70 : decode cX0_alive 70 = .ok (.istore_n 3, 1) := dk_62 (dk_at dksX0_alive_2 22 rfl rfl)
theorem dX0_alive_71 : decode cX0_alive 71 = .ok (.iinc 4 1, 3) := dk_132 4 1 (dk_at dksX0_alive_3 0 rfl rfl)
theorem dX0_alive_74 : decode cX0_alive 74 = .ok (.goto (-26), 3) := dk_167 255 230 (dk_at dksX0_alive_3 3 rfl rfl)
theorem dX0_alive_77 : decode cX0_alive 77 = .ok (.iload_n 3, 1) := dk_29 (dk_at dksX0_alive_3 6 rfl rfl)
theorem dX0_alive_78 : decode cX0_alive 78 = .ok (.ireturn, 1) := dk_172 (dk_at dksX0_alive_3 7 rfl rfl)
abbrev cX0_isLevel : ByteArray := prog_1_method_81_code
def yX0_isLevel : MethodName := ⟨RX0, "isLevel", "(I)Z"⟩
def dkwX0_isLevel_1 : List UInt8 := [172]
abbrev dktX0_isLevel_1 : List UInt8 := dkwX0_isLevel_1 ++ []
def dkwX0_isLevel_0 : List UInt8 := [42, 180, 0, 199, 198, 0, 19, 27, 155, 0, 15, 27, 42, 180, 1, 29, 163, 0, 7, 4, 167, 0, 4, 3]
abbrev dktX0_isLevel_0 : List UInt8 := dkwX0_isLevel_0 ++ dktX0_isLevel_1
theorem dksX0_isLevel_0 : cX0_isLevel.data.toList.drop 0 = dktX0_isLevel_0 := by decide +kernel
theorem dksX0_isLevel_1 : cX0_isLevel.data.toList.drop 24 = dktX0_isLevel_1 := dk_seg dksX0_isLevel_0 24 rfl rfl
theorem dX0_isLevel_0 : decode cX0_isLevel 0 = .ok (.aload_n 0, 1) := dk_42 (dk_at dksX0_isLevel_0 0 rfl rfl)
theorem dX0_isLevel_1 : decode cX0_isLevel 1 = .ok (.getfield 199, 3) := dk_180 0 199 (dk_at dksX0_isLevel_0 1 rfl rfl)
theorem dX0_isLevel_4 : decode cX0_isLevel 4 = .ok (.ifnull 19, 3) := dk_198 0 19 (dk_at dksX0_isLevel_0 4 rfl rfl)
theorem dX0_isLevel_7 : decode cX0_isLevel 7 = .ok (.iload_n 1, 1) := dk_27 (dk_at dksX0_isLevel_0 7 rfl rfl)
theorem dX0_isLevel_8 : decode cX0_isLevel 8 = .ok (.ifCond .lt 15, 3) := dk_155 0 15 (dk_at dksX0_isLevel_0 8 rfl rfl)
theorem dX0_isLevel_11 : decode cX0_isLevel 11 = .ok (.iload_n 1, 1) := dk_27 (dk_at dksX0_isLevel_0 11 rfl rfl)
theorem dX0_isLevel_12 : decode cX0_isLevel 12 = .ok (.aload_n 0, 1) := dk_42 (dk_at dksX0_isLevel_0 12 rfl rfl)
theorem dX0_isLevel_13 : decode cX0_isLevel 13 = .ok (.getfield 285, 3) := dk_180 1 29 (dk_at dksX0_isLevel_0 13 rfl rfl)
theorem dX0_isLevel_16 : decode cX0_isLevel 16 = .ok (.if_icmp .gt 7, 3) := dk_163 0 7 (dk_at dksX0_isLevel_0 16 rfl rfl)
theorem dX0_isLevel_19 : decode cX0_isLevel 19 = .ok (.iconst 1, 1) := dk_4 (dk_at dksX0_isLevel_0 19 rfl rfl)
theorem dX0_isLevel_20 : decode cX0_isLevel 20 = .ok (.goto 4, 3) := dk_167 0 4 (dk_at dksX0_isLevel_0 20 rfl rfl)
theorem dX0_isLevel_23 : decode cX0_isLevel 23 = .ok (.iconst 0, 1) := dk_3 (dk_at dksX0_isLevel_0 23 rfl rfl)
theorem dX0_isLevel_24 : decode cX0_isLevel 24 = .ok (.ireturn, 1) := dk_172 (dk_at dksX0_isLevel_1 0 rfl rfl)
abbrev cX0_stacks : ByteArray := prog_1_method_80_code
def yX0_stacks : MethodName := ⟨RX0, "stacks", "()V"⟩
def dkwX0_stacks_3 : List UInt8 := [167, 255, 214, 27, 42, 180, 1, 29, 162, 0, 8, 42, 27, 182, 2, 7, 132, 1, 1, 167, 255, 185, 177]
abbrev dktX0_stacks_3 : List UInt8 := dkwX0_stacks_3 ++ []
def dkwX0_stacks_2 : List UInt8 := [42, 29, 182, 1, 95, 153, 0, 12, 28, 42, 29, 27, 182, 2, 4, 128, 61, 132, 3, 1, 167, 255, 225]
abbrev dktX0_stacks_2 : List UInt8 := dkwX0_stacks_2 ++ dktX0_stacks_3
def dkwX0_stacks_1 : List UInt8 := [163, 0, 69, 4, 61, 28, 153, 0, 44, 3, 61, 3, 62, 29, 42, 180, 0, 199, 180, 0, 203, 162, 0, 26]
abbrev dktX0_stacks_1 : List UInt8 := dkwX0_stacks_1 ++ dktX0_stacks_2
def dkwX0_stacks_0 : List UInt8 := [42, 180, 1, 2, 153, 0, 4, 177, 42, 4, 181, 1, 2, 42, 182, 2, 1, 3, 60, 27, 42, 180, 1, 29]
abbrev dktX0_stacks_0 : List UInt8 := dkwX0_stacks_0 ++ dktX0_stacks_1
theorem dksX0_stacks_0 : cX0_stacks.data.toList.drop 0 = dktX0_stacks_0 := by decide +kernel
theorem dksX0_stacks_1 : cX0_stacks.data.toList.drop 24 = dktX0_stacks_1 := dk_seg dksX0_stacks_0 24 rfl rfl
theorem dksX0_stacks_2 : cX0_stacks.data.toList.drop 48 = dktX0_stacks_2 := dk_seg dksX0_stacks_1 24 rfl rfl
theorem dksX0_stacks_3 : cX0_stacks.data.toList.drop 71 = dktX0_stacks_3 := dk_seg dksX0_stacks_2 23 rfl rfl
theorem dX0_stacks_0 : decode cX0_stacks 0 = .ok (.aload_n 0, 1) := dk_42 (dk_at dksX0_stacks_0 0 rfl rfl)
theorem dX0_stacks_1 : decode cX0_stacks 1 = .ok (.getfield 258, 3) := dk_180 1 2 (dk_at dksX0_stacks_0 1 rfl rfl)
theorem dX0_stacks_4 : decode cX0_stacks 4 = .ok (.ifCond .eq 4, 3) := dk_153 0 4 (dk_at dksX0_stacks_0 4 rfl rfl)
theorem dX0_stacks_7 : decode cX0_stacks 7 = .ok (.return_, 1) := dk_177 (dk_at dksX0_stacks_0 7 rfl rfl)
theorem dX0_stacks_8 : decode cX0_stacks 8 = .ok (.aload_n 0, 1) := dk_42 (dk_at dksX0_stacks_0 8 rfl rfl)
theorem dX0_stacks_9 : decode cX0_stacks 9 = .ok (.iconst 1, 1) := dk_4 (dk_at dksX0_stacks_0 9 rfl rfl)
theorem dX0_stacks_10 : decode cX0_stacks 10 = .ok (.putfield 258, 3) := dk_181 1 2 (dk_at dksX0_stacks_0 10 rfl rfl)
theorem dX0_stacks_13 : decode cX0_stacks 13 = .ok (.aload_n 0, 1) := dk_42 (dk_at dksX0_stacks_0 13 rfl rfl)
theorem dX0_stacks_14 : decode cX0_stacks 14 = .ok (.invokevirtual 513, 3) := dk_182 2 1 (dk_at dksX0_stacks_0 14 rfl rfl)
theorem dX0_stacks_17 : decode cX0_stacks 17 = .ok (.iconst 0, 1) := dk_3 (dk_at dksX0_stacks_0 17 rfl rfl)
theorem dX0_stacks_18 : decode cX0_stacks 18 = .ok (.istore_n 1, 1) := dk_60 (dk_at dksX0_stacks_0 18 rfl rfl)
theorem dX0_stacks_19 : decode cX0_stacks 19 = .ok (.iload_n 1, 1) := dk_27 (dk_at dksX0_stacks_0 19 rfl rfl)
theorem dX0_stacks_20 : decode cX0_stacks 20 = .ok (.aload_n 0, 1) := dk_42 (dk_at dksX0_stacks_0 20 rfl rfl)
theorem dX0_stacks_21 : decode cX0_stacks 21 = .ok (.getfield 285, 3) := dk_180 1 29 (dk_at dksX0_stacks_0 21 rfl rfl)
theorem dX0_stacks_24 : decode cX0_stacks 24 = .ok (.if_icmp .gt 69, 3) := dk_163 0 69 (dk_at dksX0_stacks_1 0 rfl rfl)
theorem dX0_stacks_27 : decode cX0_stacks 27 = .ok (.iconst 1, 1) := dk_4 (dk_at dksX0_stacks_1 3 rfl rfl)
theorem dX0_stacks_28 : decode cX0_stacks 28 = .ok (.istore_n 2, 1) := dk_61 (dk_at dksX0_stacks_1 4 rfl rfl)
theorem dX0_stacks_29 : decode cX0_stacks 29 = .ok (.iload_n 2, 1) := dk_28 (dk_at dksX0_stacks_1 5 rfl rfl)
theorem dX0_stacks_30 : decode cX0_stacks 30 = .ok (.ifCond .eq 44, 3) := dk_153 0 44 (dk_at dksX0_stacks_1 6 rfl rfl)
theorem dX0_stacks_33 : decode cX0_stacks 33 = .ok (.iconst 0, 1) := dk_3 (dk_at dksX0_stacks_1 9 rfl rfl)
theorem dX0_stacks_34 : decode cX0_stacks 34 = .ok (.istore_n 2, 1) := dk_61 (dk_at dksX0_stacks_1 10 rfl rfl)
theorem dX0_stacks_35 : decode cX0_stacks 35 = .ok (.iconst 0, 1) := dk_3 (dk_at dksX0_stacks_1 11 rfl rfl)
theorem dX0_stacks_36 : decode cX0_stacks 36 = .ok (.istore_n 3, 1) := dk_62 (dk_at dksX0_stacks_1 12 rfl rfl)
theorem dX0_stacks_37 : decode cX0_stacks 37 = .ok (.iload_n 3, 1) := dk_29 (dk_at dksX0_stacks_1 13 rfl rfl)
theorem dX0_stacks_38 : decode cX0_stacks 38 = .ok (.aload_n 0, 1) := dk_42 (dk_at dksX0_stacks_1 14 rfl rfl)
theorem dX0_stacks_39 : decode cX0_stacks 39 = .ok (.getfield 199, 3) := dk_180 0 199 (dk_at dksX0_stacks_1 15 rfl rfl)
theorem dX0_stacks_42 : decode cX0_stacks 42 = .ok (.getfield 203, 3) := dk_180 0 203 (dk_at dksX0_stacks_1 18 rfl rfl)
theorem dX0_stacks_45 : decode cX0_stacks 45 = .ok (.if_icmp .ge 26, 3) := dk_162 0 26 (dk_at dksX0_stacks_1 21 rfl rfl)
theorem dX0_stacks_48 : decode cX0_stacks 48 = .ok (.aload_n 0, 1) := dk_42 (dk_at dksX0_stacks_2 0 rfl rfl)
theorem dX0_stacks_49 : decode cX0_stacks 49 = .ok (.iload_n 3, 1) := dk_29 (dk_at dksX0_stacks_2 1 rfl rfl)
theorem dX0_stacks_50 : decode cX0_stacks 50 = .ok (.invokevirtual 351, 3) := dk_182 1 95 (dk_at dksX0_stacks_2 2 rfl rfl)
theorem dX0_stacks_53 : decode cX0_stacks 53 = .ok (.ifCond .eq 12, 3) := dk_153 0 12 (dk_at dksX0_stacks_2 5 rfl rfl)
theorem dX0_stacks_56 : decode cX0_stacks 56 = .ok (.iload_n 2, 1) := dk_28 (dk_at dksX0_stacks_2 8 rfl rfl)
theorem dX0_stacks_57 : decode cX0_stacks 57 = .ok (.aload_n 0, 1) := dk_42 (dk_at dksX0_stacks_2 9 rfl rfl)
theorem dX0_stacks_58 : decode cX0_stacks 58 = .ok (.iload_n 3, 1) := dk_29 (dk_at dksX0_stacks_2 10 rfl rfl)
theorem dX0_stacks_59 : decode cX0_stacks 59 = .ok (.iload_n 1, 1) := dk_27 (dk_at dksX0_stacks_2 11 rfl rfl)
theorem dX0_stacks_60 : decode cX0_stacks 60 = .ok (.invokevirtual 516, 3) := dk_182 2 4 (dk_at dksX0_stacks_2 12 rfl rfl)
theorem dX0_stacks_63 : decode cX0_stacks 63 = .ok (.ior, 1) := dk_128 (dk_at dksX0_stacks_2 15 rfl rfl)
theorem dX0_stacks_64 : decode cX0_stacks 64 = .ok (.istore_n 2, 1) := dk_61 (dk_at dksX0_stacks_2 16 rfl rfl)
theorem dX0_stacks_65 : decode cX0_stacks 65 = .ok (.iinc 3 1, 3) := dk_132 3 1 (dk_at dksX0_stacks_2 17 rfl rfl)
theorem dX0_stacks_68 : decode cX0_stacks 68 = .ok (.goto (-31), 3) := dk_167 255 225 (dk_at dksX0_stacks_2 20 rfl rfl)
theorem dX0_stacks_71 : decode cX0_stacks 71 = .ok (.goto (-42), 3) := dk_167 255 214 (dk_at dksX0_stacks_3 0 rfl rfl)
theorem dX0_stacks_74 : decode cX0_stacks 74 = .ok (.iload_n 1, 1) := dk_27 (dk_at dksX0_stacks_3 3 rfl rfl)
theorem dX0_stacks_75 : decode cX0_stacks 75 = .ok (.aload_n 0, 1) := dk_42 (dk_at dksX0_stacks_3 4 rfl rfl)
theorem dX0_stacks_76 : decode cX0_stacks 76 = .ok (.getfield 285, 3) := dk_180 1 29 (dk_at dksX0_stacks_3 5 rfl rfl)
theorem dX0_stacks_79 : decode cX0_stacks 79 = .ok (.if_icmp .ge 8, 3) := dk_162 0 8 (dk_at dksX0_stacks_3 8 rfl rfl)
theorem dX0_stacks_82 : decode cX0_stacks 82 = .ok (.aload_n 0, 1) := dk_42 (dk_at dksX0_stacks_3 11 rfl rfl)
theorem dX0_stacks_83 : decode cX0_stacks 83 = .ok (.iload_n 1, 1) := dk_27 (dk_at dksX0_stacks_3 12 rfl rfl)
theorem dX0_stacks_84 : decode cX0_stacks 84 = .ok (.invokevirtual 519, 3) := dk_182 2 7 (dk_at dksX0_stacks_3 13 rfl rfl)
theorem dX0_stacks_87 : decode cX0_stacks 87 = .ok (.iinc 1 1, 3) := dk_132 1 1 (dk_at dksX0_stacks_3 16 rfl rfl)
theorem dX0_stacks_90 : decode cX0_stacks 90 = .ok (.goto (-71), 3) := dk_167 255 185 (dk_at dksX0_stacks_3 19 rfl rfl)
theorem dX0_stacks_93 : decode cX0_stacks 93 = .ok (.return_, 1) := dk_177 (dk_at dksX0_stacks_3 22 rfl rfl)
abbrev cX0_gathersGoings : ByteArray := prog_1_method_75_code
def yX0_gathersGoings : MethodName := ⟨RX0, "gathersGoings", "()V"⟩
def dkwX0_gathersGoings_6 : List UInt8 := [132, 1, 1, 167, 255, 118, 177]
abbrev dktX0_gathersGoings_6 : List UInt8 := dkwX0_gathersGoings_6 ++ []
def dkwX0_gathersGoings_5 : List UInt8 := [132, 3, 1, 167, 255, 232, 42, 89, 180, 1, 247, 4, 96, 181, 1, 247, 132, 2, 1, 167, 255, 149]
abbrev dktX0_gathersGoings_5 : List UInt8 := dkwX0_gathersGoings_5 ++ dktX0_gathersGoings_6
def dkwX0_gathersGoings_4 : List UInt8 := [79, 3, 62, 29, 16, 13, 162, 0, 24, 42, 180, 0, 79, 16, 13, 42, 180, 1, 247, 104, 29, 96, 3, 79]
abbrev dktX0_gathersGoings_4 : List UInt8 := dkwX0_gathersGoings_4 ++ dktX0_gathersGoings_5
def dkwX0_gathersGoings_3 : List UInt8 := [180, 1, 247, 28, 79, 42, 180, 0, 75, 42, 180, 1, 247, 42, 180, 0, 66, 16, 52, 27, 104, 28, 96, 46]
abbrev dktX0_gathersGoings_3 : List UInt8 := dkwX0_gathersGoings_3 ++ dktX0_gathersGoings_4
def dkwX0_gathersGoings_2 : List UInt8 := [46, 16, 254, 160, 0, 6, 167, 0, 82, 42, 180, 0, 69, 42, 180, 1, 247, 27, 79, 42, 180, 0, 72, 42]
abbrev dktX0_gathersGoings_2 : List UInt8 := dkwX0_gathersGoings_2 ++ dktX0_gathersGoings_3
def dkwX0_gathersGoings_1 : List UInt8 := [4, 167, 0, 4, 3, 79, 3, 61, 28, 16, 52, 162, 0, 107, 42, 180, 0, 66, 16, 52, 27, 104, 28, 96]
abbrev dktX0_gathersGoings_1 : List UInt8 := dkwX0_gathersGoings_1 ++ dktX0_gathersGoings_2
def dkwX0_gathersGoings_0 : List UInt8 := [42, 3, 181, 1, 247, 3, 60, 27, 42, 180, 1, 143, 162, 0, 136, 42, 180, 0, 82, 27, 27, 154, 0, 7]
abbrev dktX0_gathersGoings_0 : List UInt8 := dkwX0_gathersGoings_0 ++ dktX0_gathersGoings_1
theorem dksX0_gathersGoings_0 : cX0_gathersGoings.data.toList.drop 0 = dktX0_gathersGoings_0 := by decide +kernel
theorem dksX0_gathersGoings_1 : cX0_gathersGoings.data.toList.drop 24 = dktX0_gathersGoings_1 := dk_seg dksX0_gathersGoings_0 24 rfl rfl
theorem dksX0_gathersGoings_2 : cX0_gathersGoings.data.toList.drop 48 = dktX0_gathersGoings_2 := dk_seg dksX0_gathersGoings_1 24 rfl rfl
theorem dksX0_gathersGoings_3 : cX0_gathersGoings.data.toList.drop 72 = dktX0_gathersGoings_3 := dk_seg dksX0_gathersGoings_2 24 rfl rfl
theorem dksX0_gathersGoings_4 : cX0_gathersGoings.data.toList.drop 96 = dktX0_gathersGoings_4 := dk_seg dksX0_gathersGoings_3 24 rfl rfl
theorem dksX0_gathersGoings_5 : cX0_gathersGoings.data.toList.drop 120 = dktX0_gathersGoings_5 := dk_seg dksX0_gathersGoings_4 24 rfl rfl
theorem dksX0_gathersGoings_6 : cX0_gathersGoings.data.toList.drop 142 = dktX0_gathersGoings_6 := dk_seg dksX0_gathersGoings_5 22 rfl rfl
theorem dX0_gathersGoings_0 : decode cX0_gathersGoings 0 = .ok (.aload_n 0, 1) := dk_42 (dk_at dksX0_gathersGoings_0 0 rfl rfl)
theorem dX0_gathersGoings_1 : decode cX0_gathersGoings 1 = .ok (.iconst 0, 1) := dk_3 (dk_at dksX0_gathersGoings_0 1 rfl rfl)
theorem dX0_gathersGoings_2 : decode cX0_gathersGoings 2 = .ok (.putfield 503, 3) := dk_181 1 247 (dk_at dksX0_gathersGoings_0 2 rfl rfl)
theorem dX0_gathersGoings_5 : decode cX0_gathersGoings 5 = .ok (.iconst 0, 1) := dk_3 (dk_at dksX0_gathersGoings_0 5 rfl rfl)
theorem dX0_gathersGoings_6 : decode cX0_gathersGoings 6 = .ok (.istore_n 1, 1) := dk_60 (dk_at dksX0_gathersGoings_0 6 rfl rfl)
theorem dX0_gathersGoings_7 : decode cX0_gathersGoings 7 = .ok (.iload_n 1, 1) := dk_27 (dk_at dksX0_gathersGoings_0 7 rfl rfl)
theorem dX0_gathersGoings_8 : decode cX0_gathersGoings 8 = .ok (.aload_n 0, 1) := dk_42 (dk_at dksX0_gathersGoings_0 8 rfl rfl)
theorem dX0_gathersGoings_9 : decode cX0_gathersGoings 9 = .ok (.getfield 399, 3) := dk_180 1 143 (dk_at dksX0_gathersGoings_0 9 rfl rfl)
theorem dX0_gathersGoings_12 : decode cX0_gathersGoings 12 = .ok (.if_icmp .ge 136, 3) := dk_162 0 136 (dk_at dksX0_gathersGoings_0 12 rfl rfl)
theorem dX0_gathersGoings_15 : decode cX0_gathersGoings 15 = .ok (.aload_n 0, 1) := dk_42 (dk_at dksX0_gathersGoings_0 15 rfl rfl)
theorem dX0_gathersGoings_16 : decode cX0_gathersGoings 16 = .ok (.getfield 82, 3) := dk_180 0 82 (dk_at dksX0_gathersGoings_0 16 rfl rfl)
theorem dX0_gathersGoings_19 : decode cX0_gathersGoings 19 = .ok (.iload_n 1, 1) := dk_27 (dk_at dksX0_gathersGoings_0 19 rfl rfl)
theorem dX0_gathersGoings_20 : decode cX0_gathersGoings 20 = .ok (.iload_n 1, 1) := dk_27 (dk_at dksX0_gathersGoings_0 20 rfl rfl)
theorem dX0_gathersGoings_21 : decode cX0_gathersGoings 21 = .ok (.ifCond .ne 7, 3) := dk_154 0 7 (dk_at dksX0_gathersGoings_0 21 rfl rfl)
theorem dX0_gathersGoings_24 : decode cX0_gathersGoings 24 = .ok (.iconst 1, 1) := dk_4 (dk_at dksX0_gathersGoings_1 0 rfl rfl)
theorem dX0_gathersGoings_25 : decode cX0_gathersGoings 25 = .ok (.goto 4, 3) := dk_167 0 4 (dk_at dksX0_gathersGoings_1 1 rfl rfl)
theorem dX0_gathersGoings_28 : decode cX0_gathersGoings 28 = .ok (.iconst 0, 1) := dk_3 (dk_at dksX0_gathersGoings_1 4 rfl rfl)
theorem dX0_gathersGoings_29 : decode cX0_gathersGoings 29 = .ok (.iastore, 1) := dk_79 (dk_at dksX0_gathersGoings_1 5 rfl rfl)
theorem dX0_gathersGoings_30 : decode cX0_gathersGoings 30 = .ok (.iconst 0, 1) := dk_3 (dk_at dksX0_gathersGoings_1 6 rfl rfl)
theorem dX0_gathersGoings_31 : decode cX0_gathersGoings 31 = .ok (.istore_n 2, 1) := dk_61 (dk_at dksX0_gathersGoings_1 7 rfl rfl)
theorem dX0_gathersGoings_32 : decode cX0_gathersGoings 32 = .ok (.iload_n 2, 1) := dk_28 (dk_at dksX0_gathersGoings_1 8 rfl rfl)
theorem dX0_gathersGoings_33 : decode cX0_gathersGoings 33 = .ok (.bipush 52, 2) := dk_16 52 (dk_at dksX0_gathersGoings_1 9 rfl rfl)
theorem dX0_gathersGoings_35 : decode cX0_gathersGoings 35 = .ok (.if_icmp .ge 107, 3) := dk_162 0 107 (dk_at dksX0_gathersGoings_1 11 rfl rfl)
theorem dX0_gathersGoings_38 : decode cX0_gathersGoings 38 = .ok (.aload_n 0, 1) := dk_42 (dk_at dksX0_gathersGoings_1 14 rfl rfl)
theorem dX0_gathersGoings_39 : decode cX0_gathersGoings 39 = .ok (.getfield 66, 3) := dk_180 0 66 (dk_at dksX0_gathersGoings_1 15 rfl rfl)
theorem dX0_gathersGoings_42 : decode cX0_gathersGoings 42 = .ok (.bipush 52, 2) := dk_16 52 (dk_at dksX0_gathersGoings_1 18 rfl rfl)
theorem dX0_gathersGoings_44 : decode cX0_gathersGoings 44 = .ok (.iload_n 1, 1) := dk_27 (dk_at dksX0_gathersGoings_1 20 rfl rfl)
theorem dX0_gathersGoings_45 : decode cX0_gathersGoings 45 = .ok (.imul, 1) := dk_104 (dk_at dksX0_gathersGoings_1 21 rfl rfl)
theorem dX0_gathersGoings_46 : decode cX0_gathersGoings 46 = .ok (.iload_n 2, 1) := dk_28 (dk_at dksX0_gathersGoings_1 22 rfl rfl)
theorem dX0_gathersGoings_47 : decode cX0_gathersGoings 47 = .ok (.iadd, 1) := dk_96 (dk_at dksX0_gathersGoings_1 23 rfl rfl)
theorem dX0_gathersGoings_48 : decode cX0_gathersGoings 48 = .ok (.iaload, 1) := dk_46 (dk_at dksX0_gathersGoings_2 0 rfl rfl)
theorem dX0_gathersGoings_49 : decode cX0_gathersGoings 49 = .ok (.bipush (-2), 2) := dk_16 254 (dk_at dksX0_gathersGoings_2 1 rfl rfl)
theorem dX0_gathersGoings_51 : decode cX0_gathersGoings 51 = .ok (.if_icmp .ne 6, 3) := dk_160 0 6 (dk_at dksX0_gathersGoings_2 3 rfl rfl)
theorem dX0_gathersGoings_54 : decode cX0_gathersGoings 54 = .ok (.goto 82, 3) := dk_167 0 82 (dk_at dksX0_gathersGoings_2 6 rfl rfl)
theorem dX0_gathersGoings_57 : decode cX0_gathersGoings 57 = .ok (.aload_n 0, 1) := dk_42 (dk_at dksX0_gathersGoings_2 9 rfl rfl)
theorem dX0_gathersGoings_58 : decode cX0_gathersGoings 58 = .ok (.getfield 69, 3) := dk_180 0 69 (dk_at dksX0_gathersGoings_2 10 rfl rfl)
theorem dX0_gathersGoings_61 : decode cX0_gathersGoings 61 = .ok (.aload_n 0, 1) := dk_42 (dk_at dksX0_gathersGoings_2 13 rfl rfl)
theorem dX0_gathersGoings_62 : decode cX0_gathersGoings 62 = .ok (.getfield 503, 3) := dk_180 1 247 (dk_at dksX0_gathersGoings_2 14 rfl rfl)
theorem dX0_gathersGoings_65 : decode cX0_gathersGoings 65 = .ok (.iload_n 1, 1) := dk_27 (dk_at dksX0_gathersGoings_2 17 rfl rfl)
theorem dX0_gathersGoings_66 : decode cX0_gathersGoings 66 = .ok (.iastore, 1) := dk_79 (dk_at dksX0_gathersGoings_2 18 rfl rfl)
theorem dX0_gathersGoings_67 : decode cX0_gathersGoings 67 = .ok (.aload_n 0, 1) := dk_42 (dk_at dksX0_gathersGoings_2 19 rfl rfl)
theorem dX0_gathersGoings_68 : decode cX0_gathersGoings 68 = .ok (.getfield 72, 3) := dk_180 0 72 (dk_at dksX0_gathersGoings_2 20 rfl rfl)
theorem dX0_gathersGoings_71 : decode cX0_gathersGoings 71 = .ok (.aload_n 0, 1) := dk_42 (dk_at dksX0_gathersGoings_2 23 rfl rfl)
theorem dX0_gathersGoings_72 : decode cX0_gathersGoings 72 = .ok (.getfield 503, 3) := dk_180 1 247 (dk_at dksX0_gathersGoings_3 0 rfl rfl)
theorem dX0_gathersGoings_75 : decode cX0_gathersGoings 75 = .ok (.iload_n 2, 1) := dk_28 (dk_at dksX0_gathersGoings_3 3 rfl rfl)
theorem dX0_gathersGoings_76 : decode cX0_gathersGoings 76 = .ok (.iastore, 1) := dk_79 (dk_at dksX0_gathersGoings_3 4 rfl rfl)
theorem dX0_gathersGoings_77 : decode cX0_gathersGoings 77 = .ok (.aload_n 0, 1) := dk_42 (dk_at dksX0_gathersGoings_3 5 rfl rfl)
theorem dX0_gathersGoings_78 : decode cX0_gathersGoings 78 = .ok (.getfield 75, 3) := dk_180 0 75 (dk_at dksX0_gathersGoings_3 6 rfl rfl)
theorem dX0_gathersGoings_81 : decode cX0_gathersGoings 81 = .ok (.aload_n 0, 1) := dk_42 (dk_at dksX0_gathersGoings_3 9 rfl rfl)
theorem dX0_gathersGoings_82 : decode cX0_gathersGoings 82 = .ok (.getfield 503, 3) := dk_180 1 247 (dk_at dksX0_gathersGoings_3 10 rfl rfl)
theorem dX0_gathersGoings_85 : decode cX0_gathersGoings 85 = .ok (.aload_n 0, 1) := dk_42 (dk_at dksX0_gathersGoings_3 13 rfl rfl)
theorem dX0_gathersGoings_86 : decode cX0_gathersGoings 86 = .ok (.getfield 66, 3) := dk_180 0 66 (dk_at dksX0_gathersGoings_3 14 rfl rfl)
theorem dX0_gathersGoings_89 : decode cX0_gathersGoings 89 = .ok (.bipush 52, 2) := dk_16 52 (dk_at dksX0_gathersGoings_3 17 rfl rfl)
theorem dX0_gathersGoings_91 : decode cX0_gathersGoings 91 = .ok (.iload_n 1, 1) := dk_27 (dk_at dksX0_gathersGoings_3 19 rfl rfl)
theorem dX0_gathersGoings_92 : decode cX0_gathersGoings 92 = .ok (.imul, 1) := dk_104 (dk_at dksX0_gathersGoings_3 20 rfl rfl)
theorem dX0_gathersGoings_93 : decode cX0_gathersGoings 93 = .ok (.iload_n 2, 1) := dk_28 (dk_at dksX0_gathersGoings_3 21 rfl rfl)
theorem dX0_gathersGoings_94 : decode cX0_gathersGoings 94 = .ok (.iadd, 1) := dk_96 (dk_at dksX0_gathersGoings_3 22 rfl rfl)
theorem dX0_gathersGoings_95 : decode cX0_gathersGoings 95 = .ok (.iaload, 1) := dk_46 (dk_at dksX0_gathersGoings_3 23 rfl rfl)
theorem dX0_gathersGoings_96 : decode cX0_gathersGoings 96 = .ok (.iastore, 1) := dk_79 (dk_at dksX0_gathersGoings_4 0 rfl rfl)
theorem dX0_gathersGoings_97 : decode cX0_gathersGoings 97 = .ok (.iconst 0, 1) := dk_3 (dk_at dksX0_gathersGoings_4 1 rfl rfl)
theorem dX0_gathersGoings_98 : decode cX0_gathersGoings 98 = .ok (.istore_n 3, 1) := dk_62 (dk_at dksX0_gathersGoings_4 2 rfl rfl)
theorem dX0_gathersGoings_99 : decode cX0_gathersGoings 99 = .ok (.iload_n 3, 1) := dk_29 (dk_at dksX0_gathersGoings_4 3 rfl rfl)
theorem dX0_gathersGoings_100 : decode cX0_gathersGoings 100 = .ok (.bipush 13, 2) := dk_16 13 (dk_at dksX0_gathersGoings_4 4 rfl rfl)
theorem dX0_gathersGoings_102 : decode cX0_gathersGoings 102 = .ok (.if_icmp .ge 24, 3) := dk_162 0 24 (dk_at dksX0_gathersGoings_4 6 rfl rfl)
theorem dX0_gathersGoings_105 : decode cX0_gathersGoings 105 = .ok (.aload_n 0, 1) := dk_42 (dk_at dksX0_gathersGoings_4 9 rfl rfl)
theorem dX0_gathersGoings_106 : decode cX0_gathersGoings 106 = .ok (.getfield 79, 3) := dk_180 0 79 (dk_at dksX0_gathersGoings_4 10 rfl rfl)
theorem dX0_gathersGoings_109 : decode cX0_gathersGoings 109 = .ok (.bipush 13, 2) := dk_16 13 (dk_at dksX0_gathersGoings_4 13 rfl rfl)
theorem dX0_gathersGoings_111 : decode cX0_gathersGoings 111 = .ok (.aload_n 0, 1) := dk_42 (dk_at dksX0_gathersGoings_4 15 rfl rfl)
theorem dX0_gathersGoings_112 : decode cX0_gathersGoings 112 = .ok (.getfield 503, 3) := dk_180 1 247 (dk_at dksX0_gathersGoings_4 16 rfl rfl)
theorem dX0_gathersGoings_115 : decode cX0_gathersGoings 115 = .ok (.imul, 1) := dk_104 (dk_at dksX0_gathersGoings_4 19 rfl rfl)
theorem dX0_gathersGoings_116 : decode cX0_gathersGoings 116 = .ok (.iload_n 3, 1) := dk_29 (dk_at dksX0_gathersGoings_4 20 rfl rfl)
theorem dX0_gathersGoings_117 : decode cX0_gathersGoings 117 = .ok (.iadd, 1) := dk_96 (dk_at dksX0_gathersGoings_4 21 rfl rfl)
theorem dX0_gathersGoings_118 : decode cX0_gathersGoings 118 = .ok (.iconst 0, 1) := dk_3 (dk_at dksX0_gathersGoings_4 22 rfl rfl)
theorem dX0_gathersGoings_119 : decode cX0_gathersGoings 119 = .ok (.iastore, 1) := dk_79 (dk_at dksX0_gathersGoings_4 23 rfl rfl)
theorem dX0_gathersGoings_120 : decode cX0_gathersGoings 120 = .ok (.iinc 3 1, 3) := dk_132 3 1 (dk_at dksX0_gathersGoings_5 0 rfl rfl)
theorem dX0_gathersGoings_123 : decode cX0_gathersGoings 123 = .ok (.goto (-24), 3) := dk_167 255 232 (dk_at dksX0_gathersGoings_5 3 rfl rfl)
theorem dX0_gathersGoings_126 : decode cX0_gathersGoings 126 = .ok (.aload_n 0, 1) := dk_42 (dk_at dksX0_gathersGoings_5 6 rfl rfl)
theorem dX0_gathersGoings_127 : decode cX0_gathersGoings 127 = .ok (.dup, 1) := dk_89 (dk_at dksX0_gathersGoings_5 7 rfl rfl)
theorem dX0_gathersGoings_128 : decode cX0_gathersGoings 128 = .ok (.getfield 503, 3) := dk_180 1 247 (dk_at dksX0_gathersGoings_5 8 rfl rfl)
theorem dX0_gathersGoings_131 : decode cX0_gathersGoings 131 = .ok (.iconst 1, 1) := dk_4 (dk_at dksX0_gathersGoings_5 11 rfl rfl)
theorem dX0_gathersGoings_132 : decode cX0_gathersGoings 132 = .ok (.iadd, 1) := dk_96 (dk_at dksX0_gathersGoings_5 12 rfl rfl)
theorem dX0_gathersGoings_133 : decode cX0_gathersGoings 133 = .ok (.putfield 503, 3) := dk_181 1 247 (dk_at dksX0_gathersGoings_5 13 rfl rfl)
theorem dX0_gathersGoings_136 : decode cX0_gathersGoings 136 = .ok (.iinc 2 1, 3) := dk_132 2 1 (dk_at dksX0_gathersGoings_5 16 rfl rfl)
theorem dX0_gathersGoings_139 : decode cX0_gathersGoings 139 = .ok (.goto (-107), 3) := dk_167 255 149 (dk_at dksX0_gathersGoings_5 19 rfl rfl)
theorem dX0_gathersGoings_142 : decode cX0_gathersGoings 142 = .ok (.iinc 1 1, 3) := dk_132 1 1 (dk_at dksX0_gathersGoings_6 0 rfl rfl)
theorem dX0_gathersGoings_145 : decode cX0_gathersGoings 145 = .ok (.goto (-138), 3) := dk_167 255 118 (dk_at dksX0_gathersGoings_6 3 rfl rfl)
theorem dX0_gathersGoings_148 : decode cX0_gathersGoings 148 = .ok (.return_, 1) := dk_177 (dk_at dksX0_gathersGoings_6 6 rfl rfl)
abbrev cX0_reduces : ByteArray := prog_1_method_78_code
def yX0_reduces : MethodName := ⟨RX0, "reduces", "(II)Z"⟩
def dkwX0_reduces_7 : List UInt8 := [132, 5, 1, 167, 255, 216, 132, 4, 1, 167, 255, 176, 29, 172]
abbrev dktX0_reduces_7 : List UInt8 := dkwX0_reduces_7 ++ []
def dkwX0_reduces_6 : List UInt8 := [21, 4, 46, 46, 21, 5, 184, 0, 211, 153, 0, 14, 42, 21, 4, 21, 5, 28, 29, 182, 1, 253, 62]
abbrev dktX0_reduces_6 : List UInt8 := dkwX0_reduces_6 ++ dktX0_reduces_7
def dkwX0_reduces_5 : List UInt8 := [46, 159, 0, 6, 167, 0, 49, 3, 54, 5, 21, 5, 28, 163, 0, 40, 42, 180, 0, 85, 42, 180, 0, 69]
abbrev dktX0_reduces_5 : List UInt8 := dkwX0_reduces_5 ++ dktX0_reduces_6
def dkwX0_reduces_4 : List UInt8 := [21, 4, 42, 180, 1, 247, 162, 0, 77, 42, 180, 0, 72, 21, 4, 46, 42, 180, 0, 199, 180, 1, 49, 27]
abbrev dktX0_reduces_4 : List UInt8 := dkwX0_reduces_4 ++ dktX0_reduces_5
def dkwX0_reduces_3 : List UInt8 := [42, 42, 180, 0, 199, 27, 21, 4, 182, 1, 52, 182, 1, 250, 132, 4, 255, 167, 255, 234, 3, 54, 4]
abbrev dktX0_reduces_3 : List UInt8 := dkwX0_reduces_3 ++ dktX0_reduces_4
def dkwX0_reduces_2 : List UInt8 := [132, 4, 1, 167, 255, 212, 42, 180, 0, 199, 180, 0, 232, 27, 46, 4, 100, 54, 4, 21, 4, 155, 0, 23]
abbrev dktX0_reduces_2 : List UInt8 := dkwX0_reduces_2 ++ dktX0_reduces_3
def dkwX0_reduces_1 : List UInt8 := [182, 1, 165, 153, 0, 17, 42, 180, 0, 82, 21, 4, 46, 4, 28, 120, 126, 167, 0, 4, 3, 79]
abbrev dktX0_reduces_1 : List UInt8 := dkwX0_reduces_1 ++ dktX0_reduces_2
def dkwX0_reduces_0 : List UInt8 := [3, 62, 3, 54, 4, 21, 4, 42, 180, 1, 143, 162, 0, 41, 42, 180, 0, 85, 21, 4, 42, 21, 4, 27]
abbrev dktX0_reduces_0 : List UInt8 := dkwX0_reduces_0 ++ dktX0_reduces_1
theorem dksX0_reduces_0 : cX0_reduces.data.toList.drop 0 = dktX0_reduces_0 := by decide +kernel
theorem dksX0_reduces_1 : cX0_reduces.data.toList.drop 24 = dktX0_reduces_1 := dk_seg dksX0_reduces_0 24 rfl rfl
theorem dksX0_reduces_2 : cX0_reduces.data.toList.drop 46 = dktX0_reduces_2 := dk_seg dksX0_reduces_1 22 rfl rfl
theorem dksX0_reduces_3 : cX0_reduces.data.toList.drop 70 = dktX0_reduces_3 := dk_seg dksX0_reduces_2 24 rfl rfl
theorem dksX0_reduces_4 : cX0_reduces.data.toList.drop 93 = dktX0_reduces_4 := dk_seg dksX0_reduces_3 23 rfl rfl
theorem dksX0_reduces_5 : cX0_reduces.data.toList.drop 117 = dktX0_reduces_5 := dk_seg dksX0_reduces_4 24 rfl rfl
theorem dksX0_reduces_6 : cX0_reduces.data.toList.drop 141 = dktX0_reduces_6 := dk_seg dksX0_reduces_5 24 rfl rfl
theorem dksX0_reduces_7 : cX0_reduces.data.toList.drop 164 = dktX0_reduces_7 := dk_seg dksX0_reduces_6 23 rfl rfl
theorem dX0_reduces_0 : decode cX0_reduces 0 = .ok (.iconst 0, 1) := dk_3 (dk_at dksX0_reduces_0 0 rfl rfl)
theorem dX0_reduces_1 : decode cX0_reduces 1 = .ok (.istore_n 3, 1) := dk_62 (dk_at dksX0_reduces_0 1 rfl rfl)
theorem dX0_reduces_2 : decode cX0_reduces 2 = .ok (.iconst 0, 1) := dk_3 (dk_at dksX0_reduces_0 2 rfl rfl)
theorem dX0_reduces_3 : decode cX0_reduces 3 = .ok (.istore 4, 2) := dk_54 4 (dk_at dksX0_reduces_0 3 rfl rfl)
theorem dX0_reduces_5 : decode cX0_reduces 5 = .ok (.iload 4, 2) := dk_21 4 (dk_at dksX0_reduces_0 5 rfl rfl)
theorem dX0_reduces_7 : decode cX0_reduces 7 = .ok (.aload_n 0, 1) := dk_42 (dk_at dksX0_reduces_0 7 rfl rfl)
theorem dX0_reduces_8 : decode cX0_reduces 8 = .ok (.getfield 399, 3) := dk_180 1 143 (dk_at dksX0_reduces_0 8 rfl rfl)
theorem dX0_reduces_11 : decode cX0_reduces 11 = .ok (.if_icmp .ge 41, 3) := dk_162 0 41 (dk_at dksX0_reduces_0 11 rfl rfl)
theorem dX0_reduces_14 : decode cX0_reduces 14 = .ok (.aload_n 0, 1) := dk_42 (dk_at dksX0_reduces_0 14 rfl rfl)
theorem dX0_reduces_15 : decode cX0_reduces 15 = .ok (.getfield 85, 3) := dk_180 0 85 (dk_at dksX0_reduces_0 15 rfl rfl)
theorem dX0_reduces_18 : decode cX0_reduces 18 = .ok (.iload 4, 2) := dk_21 4 (dk_at dksX0_reduces_0 18 rfl rfl)
theorem dX0_reduces_20 : decode cX0_reduces 20 = .ok (.aload_n 0, 1) := dk_42 (dk_at dksX0_reduces_0 20 rfl rfl)
theorem dX0_reduces_21 : decode cX0_reduces 21 = .ok (.iload 4, 2) := dk_21 4 (dk_at dksX0_reduces_0 21 rfl rfl)
theorem dX0_reduces_23 : decode cX0_reduces 23 = .ok (.iload_n 1, 1) := dk_27 (dk_at dksX0_reduces_0 23 rfl rfl)
theorem dX0_reduces_24 : decode cX0_reduces 24 = .ok (.invokevirtual 421, 3) := dk_182 1 165 (dk_at dksX0_reduces_1 0 rfl rfl)
theorem dX0_reduces_27 : decode cX0_reduces 27 = .ok (.ifCond .eq 17, 3) := dk_153 0 17 (dk_at dksX0_reduces_1 3 rfl rfl)
theorem dX0_reduces_30 : decode cX0_reduces 30 = .ok (.aload_n 0, 1) := dk_42 (dk_at dksX0_reduces_1 6 rfl rfl)
theorem dX0_reduces_31 : decode cX0_reduces 31 = .ok (.getfield 82, 3) := dk_180 0 82 (dk_at dksX0_reduces_1 7 rfl rfl)
theorem dX0_reduces_34 : decode cX0_reduces 34 = .ok (.iload 4, 2) := dk_21 4 (dk_at dksX0_reduces_1 10 rfl rfl)
theorem dX0_reduces_36 : decode cX0_reduces 36 = .ok (.iaload, 1) := dk_46 (dk_at dksX0_reduces_1 12 rfl rfl)
theorem dX0_reduces_37 : decode cX0_reduces 37 = .ok (.iconst 1, 1) := dk_4 (dk_at dksX0_reduces_1 13 rfl rfl)
theorem dX0_reduces_38 : decode cX0_reduces 38 = .ok (.iload_n 2, 1) := dk_28 (dk_at dksX0_reduces_1 14 rfl rfl)
theorem dX0_reduces_39 : decode cX0_reduces 39 = .ok (.ishl, 1) := dk_120 (dk_at dksX0_reduces_1 15 rfl rfl)
theorem dX0_reduces_40 : decode cX0_reduces 40 = .ok (.iand, 1) := dk_126 (dk_at dksX0_reduces_1 16 rfl rfl)
theorem dX0_reduces_41 : decode cX0_reduces 41 = .ok (.goto 4, 3) := dk_167 0 4 (dk_at dksX0_reduces_1 17 rfl rfl)
theorem dX0_reduces_44 : decode cX0_reduces 44 = .ok (.iconst 0, 1) := dk_3 (dk_at dksX0_reduces_1 20 rfl rfl)
theorem dX0_reduces_45 : decode cX0_reduces 45 = .ok (.iastore, 1) := dk_79 (dk_at dksX0_reduces_1 21 rfl rfl)
theorem dX0_reduces_46 : decode cX0_reduces 46 = .ok (.iinc 4 1, 3) := dk_132 4 1 (dk_at dksX0_reduces_2 0 rfl rfl)
theorem dX0_reduces_49 : decode cX0_reduces 49 = .ok (.goto (-44), 3) := dk_167 255 212 (dk_at dksX0_reduces_2 3 rfl rfl)
theorem dX0_reduces_52 : decode cX0_reduces 52 = .ok (.aload_n 0, 1) := dk_42 (dk_at dksX0_reduces_2 6 rfl rfl)
theorem dX0_reduces_53 : decode cX0_reduces 53 = .ok (.getfield 199, 3) := dk_180 0 199 (dk_at dksX0_reduces_2 7 rfl rfl)
theorem dX0_reduces_56 : decode cX0_reduces 56 = .ok (.getfield 232, 3) := dk_180 0 232 (dk_at dksX0_reduces_2 10 rfl rfl)
theorem dX0_reduces_59 : decode cX0_reduces 59 = .ok (.iload_n 1, 1) := dk_27 (dk_at dksX0_reduces_2 13 rfl rfl)
theorem dX0_reduces_60 : decode cX0_reduces 60 = .ok (.iaload, 1) := dk_46 (dk_at dksX0_reduces_2 14 rfl rfl)
theorem dX0_reduces_61 : decode cX0_reduces 61 = .ok (.iconst 1, 1) := dk_4 (dk_at dksX0_reduces_2 15 rfl rfl)
theorem dX0_reduces_62 : decode cX0_reduces 62 = .ok (.isub, 1) := dk_100 (dk_at dksX0_reduces_2 16 rfl rfl)
theorem dX0_reduces_63 : decode cX0_reduces 63 = .ok (.istore 4, 2) := dk_54 4 (dk_at dksX0_reduces_2 17 rfl rfl)
theorem dX0_reduces_65 : decode cX0_reduces 65 = .ok (.iload 4, 2) := dk_21 4 (dk_at dksX0_reduces_2 19 rfl rfl)
theorem dX0_reduces_67 : decode cX0_reduces 67 = .ok (.ifCond .lt 23, 3) := dk_155 0 23 (dk_at dksX0_reduces_2 21 rfl rfl)
theorem dX0_reduces_70 : decode cX0_reduces 70 = .ok (.aload_n 0, 1) := dk_42 (dk_at dksX0_reduces_3 0 rfl rfl)
theorem dX0_reduces_71 : decode cX0_reduces 71 = .ok (.aload_n 0, 1) := dk_42 (dk_at dksX0_reduces_3 1 rfl rfl)
theorem dX0_reduces_72 : decode cX0_reduces 72 = .ok (.getfield 199, 3) := dk_180 0 199 (dk_at dksX0_reduces_3 2 rfl rfl)
theorem dX0_reduces_75 : decode cX0_reduces 75 = .ok (.iload_n 1, 1) := dk_27 (dk_at dksX0_reduces_3 5 rfl rfl)
theorem dX0_reduces_76 : decode cX0_reduces 76 = .ok (.iload 4, 2) := dk_21 4 (dk_at dksX0_reduces_3 6 rfl rfl)
theorem dX0_reduces_78 : decode cX0_reduces 78 = .ok (.invokevirtual 308, 3) := dk_182 1 52 (dk_at dksX0_reduces_3 8 rfl rfl)
theorem dX0_reduces_81 : decode cX0_reduces 81 = .ok (.invokevirtual 506, 3) := dk_182 1 250 (dk_at dksX0_reduces_3 11 rfl rfl)
theorem dX0_reduces_84 : decode cX0_reduces 84 = .ok (.iinc 4 (-1), 3) := dk_132 4 255 (dk_at dksX0_reduces_3 14 rfl rfl)
theorem dX0_reduces_87 : decode cX0_reduces 87 = .ok (.goto (-22), 3) := dk_167 255 234 (dk_at dksX0_reduces_3 17 rfl rfl)
theorem dX0_reduces_90 : decode cX0_reduces 90 = .ok (.iconst 0, 1) := dk_3 (dk_at dksX0_reduces_3 20 rfl rfl)
theorem dX0_reduces_91 : decode cX0_reduces 91 = .ok (.istore 4, 2) := dk_54 4 (dk_at dksX0_reduces_3 21 rfl rfl)
theorem dX0_reduces_93 : decode cX0_reduces 93 = .ok (.iload 4, 2) := dk_21 4 (dk_at dksX0_reduces_4 0 rfl rfl)
theorem dX0_reduces_95 : decode cX0_reduces 95 = .ok (.aload_n 0, 1) := dk_42 (dk_at dksX0_reduces_4 2 rfl rfl)
theorem dX0_reduces_96 : decode cX0_reduces 96 = .ok (.getfield 503, 3) := dk_180 1 247 (dk_at dksX0_reduces_4 3 rfl rfl)
theorem dX0_reduces_99 : decode cX0_reduces 99 = .ok (.if_icmp .ge 77, 3) := dk_162 0 77 (dk_at dksX0_reduces_4 6 rfl rfl)
theorem dX0_reduces_102 : decode cX0_reduces 102 = .ok (.aload_n 0, 1) := dk_42 (dk_at dksX0_reduces_4 9 rfl rfl)
theorem dX0_reduces_103 : decode cX0_reduces 103 = .ok (.getfield 72, 3) := dk_180 0 72 (dk_at dksX0_reduces_4 10 rfl rfl)
theorem dX0_reduces_106 : decode cX0_reduces 106 = .ok (.iload 4, 2) := dk_21 4 (dk_at dksX0_reduces_4 13 rfl rfl)
theorem dX0_reduces_108 : decode cX0_reduces 108 = .ok (.iaload, 1) := dk_46 (dk_at dksX0_reduces_4 15 rfl rfl)
theorem dX0_reduces_109 : decode cX0_reduces 109 = .ok (.aload_n 0, 1) := dk_42 (dk_at dksX0_reduces_4 16 rfl rfl)
theorem dX0_reduces_110 : decode cX0_reduces 110 = .ok (.getfield 199, 3) := dk_180 0 199 (dk_at dksX0_reduces_4 17 rfl rfl)
theorem dX0_reduces_113 : decode cX0_reduces 113 = .ok (.getfield 305, 3) := dk_180 1 49 (dk_at dksX0_reduces_4 20 rfl rfl)
theorem dX0_reduces_116 : decode cX0_reduces 116 = .ok (.iload_n 1, 1) := dk_27 (dk_at dksX0_reduces_4 23 rfl rfl)
theorem dX0_reduces_117 : decode cX0_reduces 117 = .ok (.iaload, 1) := dk_46 (dk_at dksX0_reduces_5 0 rfl rfl)
theorem dX0_reduces_118 : decode cX0_reduces 118 = .ok (.if_icmp .eq 6, 3) := dk_159 0 6 (dk_at dksX0_reduces_5 1 rfl rfl)
theorem dX0_reduces_121 : decode cX0_reduces 121 = .ok (.goto 49, 3) := dk_167 0 49 (dk_at dksX0_reduces_5 4 rfl rfl)
theorem dX0_reduces_124 : decode cX0_reduces 124 = .ok (.iconst 0, 1) := dk_3 (dk_at dksX0_reduces_5 7 rfl rfl)
theorem dX0_reduces_125 : decode cX0_reduces 125 = .ok (.istore 5, 2) := dk_54 5 (dk_at dksX0_reduces_5 8 rfl rfl)
theorem dX0_reduces_127 : decode cX0_reduces 127 = .ok (.iload 5, 2) := dk_21 5 (dk_at dksX0_reduces_5 10 rfl rfl)
theorem dX0_reduces_129 : decode cX0_reduces 129 = .ok (.iload_n 2, 1) := dk_28 (dk_at dksX0_reduces_5 12 rfl rfl)
theorem dX0_reduces_130 : decode cX0_reduces 130 = .ok (.if_icmp .gt 40, 3) := dk_163 0 40 (dk_at dksX0_reduces_5 13 rfl rfl)
theorem dX0_reduces_133 : decode cX0_reduces 133 = .ok (.aload_n 0, 1) := dk_42 (dk_at dksX0_reduces_5 16 rfl rfl)
theorem dX0_reduces_134 : decode cX0_reduces 134 = .ok (.getfield 85, 3) := dk_180 0 85 (dk_at dksX0_reduces_5 17 rfl rfl)
theorem dX0_reduces_137 : decode cX0_reduces 137 = .ok (.aload_n 0, 1) := dk_42 (dk_at dksX0_reduces_5 20 rfl rfl)
theorem dX0_reduces_138 : decode cX0_reduces 138 = .ok (.getfield 69, 3) := dk_180 0 69 (dk_at dksX0_reduces_5 21 rfl rfl)
theorem dX0_reduces_141 : decode cX0_reduces 141 = .ok (.iload 4, 2) := dk_21 4 (dk_at dksX0_reduces_6 0 rfl rfl)
theorem dX0_reduces_143 : decode cX0_reduces 143 = .ok (.iaload, 1) := dk_46 (dk_at dksX0_reduces_6 2 rfl rfl)
theorem dX0_reduces_144 : decode cX0_reduces 144 = .ok (.iaload, 1) := dk_46 (dk_at dksX0_reduces_6 3 rfl rfl)
theorem dX0_reduces_145 : decode cX0_reduces 145 = .ok (.iload 5, 2) := dk_21 5 (dk_at dksX0_reduces_6 4 rfl rfl)
theorem dX0_reduces_147 : decode cX0_reduces 147 = .ok (.invokestatic 211, 3) := dk_184 0 211 (dk_at dksX0_reduces_6 6 rfl rfl)
theorem dX0_reduces_150 : decode cX0_reduces 150 = .ok (.ifCond .eq 14, 3) := dk_153 0 14 (dk_at dksX0_reduces_6 9 rfl rfl)
theorem dX0_reduces_153 : decode cX0_reduces 153 = .ok (.aload_n 0, 1) := dk_42 (dk_at dksX0_reduces_6 12 rfl rfl)
theorem dX0_reduces_154 : decode cX0_reduces 154 = .ok (.iload 4, 2) := dk_21 4 (dk_at dksX0_reduces_6 13 rfl rfl)
theorem dX0_reduces_156 : decode cX0_reduces 156 = .ok (.iload 5, 2) := dk_21 5 (dk_at dksX0_reduces_6 15 rfl rfl)
theorem dX0_reduces_158 : decode cX0_reduces 158 = .ok (.iload_n 2, 1) := dk_28 (dk_at dksX0_reduces_6 17 rfl rfl)
theorem dX0_reduces_159 : decode cX0_reduces 159 = .ok (.iload_n 3, 1) := dk_29 (dk_at dksX0_reduces_6 18 rfl rfl)
theorem dX0_reduces_160 : decode cX0_reduces 160 = .ok (.invokevirtual 509, 3) := dk_182 1 253 (dk_at dksX0_reduces_6 19 rfl rfl)
theorem dX0_reduces_163 : decode cX0_reduces 163 = .ok (.istore_n 3, 1) := dk_62 (dk_at dksX0_reduces_6 22 rfl rfl)
theorem dX0_reduces_164 : decode cX0_reduces 164 = .ok (.iinc 5 1, 3) := dk_132 5 1 (dk_at dksX0_reduces_7 0 rfl rfl)
theorem dX0_reduces_167 : decode cX0_reduces 167 = .ok (.goto (-40), 3) := dk_167 255 216 (dk_at dksX0_reduces_7 3 rfl rfl)
theorem dX0_reduces_170 : decode cX0_reduces 170 = .ok (.iinc 4 1, 3) := dk_132 4 1 (dk_at dksX0_reduces_7 6 rfl rfl)
theorem dX0_reduces_173 : decode cX0_reduces 173 = .ok (.goto (-80), 3) := dk_167 255 176 (dk_at dksX0_reduces_7 9 rfl rfl)
theorem dX0_reduces_176 : decode cX0_reduces 176 = .ok (.iload_n 3, 1) := dk_29 (dk_at dksX0_reduces_7 12 rfl rfl)
theorem dX0_reduces_177 : decode cX0_reduces 177 = .ok (.ireturn, 1) := dk_172 (dk_at dksX0_reduces_7 13 rfl rfl)
abbrev cX0_goesBack : ByteArray := prog_1_method_77_code
def yX0_goesBack : MethodName := ⟨RX0, "goesBack", "(I)V"⟩
def dkwX0_goesBack_6 : List UInt8 := [184, 1, 171, 177]
abbrev dktX0_goesBack_6 : List UInt8 := dkwX0_goesBack_6 ++ []
def dkwX0_goesBack_5 : List UInt8 := [167, 255, 200, 132, 2, 1, 167, 255, 157, 42, 180, 0, 88, 3, 42, 180, 0, 85, 3, 42, 180, 1, 143]
abbrev dktX0_goesBack_5 : List UInt8 := dkwX0_goesBack_5 ++ dktX0_goesBack_6
def dkwX0_goesBack_4 : List UInt8 := [180, 0, 75, 28, 46, 46, 126, 153, 0, 9, 4, 29, 120, 167, 0, 4, 3, 128, 79, 132, 3, 1]
abbrev dktX0_goesBack_4 : List UInt8 := dkwX0_goesBack_4 ++ dktX0_goesBack_5
def dkwX0_goesBack_3 : List UInt8 := [42, 180, 0, 69, 28, 46, 92, 46, 42, 180, 0, 79, 16, 13, 28, 104, 29, 96, 46, 42, 180, 0, 85, 42]
abbrev dktX0_goesBack_3 : List UInt8 := dkwX0_goesBack_3 ++ dktX0_goesBack_4
def dkwX0_goesBack_2 : List UInt8 := [180, 0, 75, 28, 46, 46, 154, 0, 6, 167, 0, 64, 3, 62, 29, 16, 13, 162, 0, 56, 42, 180, 0, 88]
abbrev dktX0_goesBack_2 : List UInt8 := dkwX0_goesBack_2 ++ dktX0_goesBack_3
def dkwX0_goesBack_1 : List UInt8 := [61, 28, 42, 180, 1, 247, 162, 0, 97, 42, 180, 0, 72, 28, 46, 27, 160, 0, 81, 42, 180, 0, 85, 42]
abbrev dktX0_goesBack_1 : List UInt8 := dkwX0_goesBack_1 ++ dktX0_goesBack_2
def dkwX0_goesBack_0 : List UInt8 := [3, 61, 28, 42, 180, 1, 143, 162, 0, 16, 42, 180, 0, 88, 28, 3, 79, 132, 2, 1, 167, 255, 238, 3]
abbrev dktX0_goesBack_0 : List UInt8 := dkwX0_goesBack_0 ++ dktX0_goesBack_1
theorem dksX0_goesBack_0 : cX0_goesBack.data.toList.drop 0 = dktX0_goesBack_0 := by decide +kernel
theorem dksX0_goesBack_1 : cX0_goesBack.data.toList.drop 24 = dktX0_goesBack_1 := dk_seg dksX0_goesBack_0 24 rfl rfl
theorem dksX0_goesBack_2 : cX0_goesBack.data.toList.drop 48 = dktX0_goesBack_2 := dk_seg dksX0_goesBack_1 24 rfl rfl
theorem dksX0_goesBack_3 : cX0_goesBack.data.toList.drop 72 = dktX0_goesBack_3 := dk_seg dksX0_goesBack_2 24 rfl rfl
theorem dksX0_goesBack_4 : cX0_goesBack.data.toList.drop 96 = dktX0_goesBack_4 := dk_seg dksX0_goesBack_3 24 rfl rfl
theorem dksX0_goesBack_5 : cX0_goesBack.data.toList.drop 118 = dktX0_goesBack_5 := dk_seg dksX0_goesBack_4 22 rfl rfl
theorem dksX0_goesBack_6 : cX0_goesBack.data.toList.drop 141 = dktX0_goesBack_6 := dk_seg dksX0_goesBack_5 23 rfl rfl
theorem dX0_goesBack_0 : decode cX0_goesBack 0 = .ok (.iconst 0, 1) := dk_3 (dk_at dksX0_goesBack_0 0 rfl rfl)
theorem dX0_goesBack_1 : decode cX0_goesBack 1 = .ok (.istore_n 2, 1) := dk_61 (dk_at dksX0_goesBack_0 1 rfl rfl)
theorem dX0_goesBack_2 : decode cX0_goesBack 2 = .ok (.iload_n 2, 1) := dk_28 (dk_at dksX0_goesBack_0 2 rfl rfl)
theorem dX0_goesBack_3 : decode cX0_goesBack 3 = .ok (.aload_n 0, 1) := dk_42 (dk_at dksX0_goesBack_0 3 rfl rfl)
theorem dX0_goesBack_4 : decode cX0_goesBack 4 = .ok (.getfield 399, 3) := dk_180 1 143 (dk_at dksX0_goesBack_0 4 rfl rfl)
theorem dX0_goesBack_7 : decode cX0_goesBack 7 = .ok (.if_icmp .ge 16, 3) := dk_162 0 16 (dk_at dksX0_goesBack_0 7 rfl rfl)
theorem dX0_goesBack_10 : decode cX0_goesBack 10 = .ok (.aload_n 0, 1) := dk_42 (dk_at dksX0_goesBack_0 10 rfl rfl)
theorem dX0_goesBack_11 : decode cX0_goesBack 11 = .ok (.getfield 88, 3) := dk_180 0 88 (dk_at dksX0_goesBack_0 11 rfl rfl)
theorem dX0_goesBack_14 : decode cX0_goesBack 14 = .ok (.iload_n 2, 1) := dk_28 (dk_at dksX0_goesBack_0 14 rfl rfl)
theorem dX0_goesBack_15 : decode cX0_goesBack 15 = .ok (.iconst 0, 1) := dk_3 (dk_at dksX0_goesBack_0 15 rfl rfl)
theorem dX0_goesBack_16 : decode cX0_goesBack 16 = .ok (.iastore, 1) := dk_79 (dk_at dksX0_goesBack_0 16 rfl rfl)
theorem dX0_goesBack_17 : decode cX0_goesBack 17 = .ok (.iinc 2 1, 3) := dk_132 2 1 (dk_at dksX0_goesBack_0 17 rfl rfl)
theorem dX0_goesBack_20 : decode cX0_goesBack 20 = .ok (.goto (-18), 3) := dk_167 255 238 (dk_at dksX0_goesBack_0 20 rfl rfl)
theorem dX0_goesBack_23 : decode cX0_goesBack 23 = .ok (.iconst 0, 1) := dk_3 (dk_at dksX0_goesBack_0 23 rfl rfl)
theorem dX0_goesBack_24 : decode cX0_goesBack 24 = .ok (.istore_n 2, 1) := dk_61 (dk_at dksX0_goesBack_1 0 rfl rfl)
theorem dX0_goesBack_25 : decode cX0_goesBack 25 = .ok (.iload_n 2, 1) := dk_28 (dk_at dksX0_goesBack_1 1 rfl rfl)
theorem dX0_goesBack_26 : decode cX0_goesBack 26 = .ok (.aload_n 0, 1) := dk_42 (dk_at dksX0_goesBack_1 2 rfl rfl)
theorem dX0_goesBack_27 : decode cX0_goesBack 27 = .ok (.getfield 503, 3) := dk_180 1 247 (dk_at dksX0_goesBack_1 3 rfl rfl)
theorem dX0_goesBack_30 : decode cX0_goesBack 30 = .ok (.if_icmp .ge 97, 3) := dk_162 0 97 (dk_at dksX0_goesBack_1 6 rfl rfl)
theorem dX0_goesBack_33 : decode cX0_goesBack 33 = .ok (.aload_n 0, 1) := dk_42 (dk_at dksX0_goesBack_1 9 rfl rfl)
theorem dX0_goesBack_34 : decode cX0_goesBack 34 = .ok (.getfield 72, 3) := dk_180 0 72 (dk_at dksX0_goesBack_1 10 rfl rfl)
theorem dX0_goesBack_37 : decode cX0_goesBack 37 = .ok (.iload_n 2, 1) := dk_28 (dk_at dksX0_goesBack_1 13 rfl rfl)
theorem dX0_goesBack_38 : decode cX0_goesBack 38 = .ok (.iaload, 1) := dk_46 (dk_at dksX0_goesBack_1 14 rfl rfl)
theorem dX0_goesBack_39 : decode cX0_goesBack 39 = .ok (.iload_n 1, 1) := dk_27 (dk_at dksX0_goesBack_1 15 rfl rfl)
theorem dX0_goesBack_40 : decode cX0_goesBack 40 = .ok (.if_icmp .ne 81, 3) := dk_160 0 81 (dk_at dksX0_goesBack_1 16 rfl rfl)
theorem dX0_goesBack_43 : decode cX0_goesBack 43 = .ok (.aload_n 0, 1) := dk_42 (dk_at dksX0_goesBack_1 19 rfl rfl)
theorem dX0_goesBack_44 : decode cX0_goesBack 44 = .ok (.getfield 85, 3) := dk_180 0 85 (dk_at dksX0_goesBack_1 20 rfl rfl)
theorem dX0_goesBack_47 : decode cX0_goesBack 47 = .ok (.aload_n 0, 1) := dk_42 (dk_at dksX0_goesBack_1 23 rfl rfl)
theorem dX0_goesBack_48 : decode cX0_goesBack 48 = .ok (.getfield 75, 3) := dk_180 0 75 (dk_at dksX0_goesBack_2 0 rfl rfl)
theorem dX0_goesBack_51 : decode cX0_goesBack 51 = .ok (.iload_n 2, 1) := dk_28 (dk_at dksX0_goesBack_2 3 rfl rfl)
theorem dX0_goesBack_52 : decode cX0_goesBack 52 = .ok (.iaload, 1) := dk_46 (dk_at dksX0_goesBack_2 4 rfl rfl)
theorem dX0_goesBack_53 : decode cX0_goesBack 53 = .ok (.iaload, 1) := dk_46 (dk_at dksX0_goesBack_2 5 rfl rfl)
theorem dX0_goesBack_54 : decode cX0_goesBack 54 = .ok (.ifCond .ne 6, 3) := dk_154 0 6 (dk_at dksX0_goesBack_2 6 rfl rfl)
theorem dX0_goesBack_57 : decode cX0_goesBack 57 = .ok (.goto 64, 3) := dk_167 0 64 (dk_at dksX0_goesBack_2 9 rfl rfl)
theorem dX0_goesBack_60 : decode cX0_goesBack 60 = .ok (.iconst 0, 1) := dk_3 (dk_at dksX0_goesBack_2 12 rfl rfl)
theorem dX0_goesBack_61 : decode cX0_goesBack 61 = .ok (.istore_n 3, 1) := dk_62 (dk_at dksX0_goesBack_2 13 rfl rfl)
theorem dX0_goesBack_62 : decode cX0_goesBack 62 = .ok (.iload_n 3, 1) := dk_29 (dk_at dksX0_goesBack_2 14 rfl rfl)
theorem dX0_goesBack_63 : decode cX0_goesBack 63 = .ok (.bipush 13, 2) := dk_16 13 (dk_at dksX0_goesBack_2 15 rfl rfl)
theorem dX0_goesBack_65 : decode cX0_goesBack 65 = .ok (.if_icmp .ge 56, 3) := dk_162 0 56 (dk_at dksX0_goesBack_2 17 rfl rfl)
theorem dX0_goesBack_68 : decode cX0_goesBack 68 = .ok (.aload_n 0, 1) := dk_42 (dk_at dksX0_goesBack_2 20 rfl rfl)
theorem dX0_goesBack_69 : decode cX0_goesBack 69 = .ok (.getfield 88, 3) := dk_180 0 88 (dk_at dksX0_goesBack_2 21 rfl rfl)
theorem dX0_goesBack_72 : decode cX0_goesBack 72 = .ok (.aload_n 0, 1) := dk_42 (dk_at dksX0_goesBack_3 0 rfl rfl)
theorem dX0_goesBack_73 : decode cX0_goesBack 73 = .ok (.getfield 69, 3) := dk_180 0 69 (dk_at dksX0_goesBack_3 1 rfl rfl)
theorem dX0_goesBack_76 : decode cX0_goesBack 76 = .ok (.iload_n 2, 1) := dk_28 (dk_at dksX0_goesBack_3 4 rfl rfl)
theorem dX0_goesBack_77 : decode cX0_goesBack 77 = .ok (.iaload, 1) := dk_46 (dk_at dksX0_goesBack_3 5 rfl rfl)
theorem dX0_goesBack_78 : decode cX0_goesBack 78 = .ok (.dup2, 1) := dk_92 (dk_at dksX0_goesBack_3 6 rfl rfl)
theorem dX0_goesBack_79 : decode cX0_goesBack 79 = .ok (.iaload, 1) := dk_46 (dk_at dksX0_goesBack_3 7 rfl rfl)
theorem dX0_goesBack_80 : decode cX0_goesBack 80 = .ok (.aload_n 0, 1) := dk_42 (dk_at dksX0_goesBack_3 8 rfl rfl)
theorem dX0_goesBack_81 : decode cX0_goesBack 81 = .ok (.getfield 79, 3) := dk_180 0 79 (dk_at dksX0_goesBack_3 9 rfl rfl)
theorem dX0_goesBack_84 : decode cX0_goesBack 84 = .ok (.bipush 13, 2) := dk_16 13 (dk_at dksX0_goesBack_3 12 rfl rfl)
theorem dX0_goesBack_86 : decode cX0_goesBack 86 = .ok (.iload_n 2, 1) := dk_28 (dk_at dksX0_goesBack_3 14 rfl rfl)
theorem dX0_goesBack_87 : decode cX0_goesBack 87 = .ok (.imul, 1) := dk_104 (dk_at dksX0_goesBack_3 15 rfl rfl)
theorem dX0_goesBack_88 : decode cX0_goesBack 88 = .ok (.iload_n 3, 1) := dk_29 (dk_at dksX0_goesBack_3 16 rfl rfl)
theorem dX0_goesBack_89 : decode cX0_goesBack 89 = .ok (.iadd, 1) := dk_96 (dk_at dksX0_goesBack_3 17 rfl rfl)
theorem dX0_goesBack_90 : decode cX0_goesBack 90 = .ok (.iaload, 1) := dk_46 (dk_at dksX0_goesBack_3 18 rfl rfl)
theorem dX0_goesBack_91 : decode cX0_goesBack 91 = .ok (.aload_n 0, 1) := dk_42 (dk_at dksX0_goesBack_3 19 rfl rfl)
theorem dX0_goesBack_92 : decode cX0_goesBack 92 = .ok (.getfield 85, 3) := dk_180 0 85 (dk_at dksX0_goesBack_3 20 rfl rfl)
theorem dX0_goesBack_95 : decode cX0_goesBack 95 = .ok (.aload_n 0, 1) := dk_42 (dk_at dksX0_goesBack_3 23 rfl rfl)
theorem dX0_goesBack_96 : decode cX0_goesBack 96 = .ok (.getfield 75, 3) := dk_180 0 75 (dk_at dksX0_goesBack_4 0 rfl rfl)
theorem dX0_goesBack_99 : decode cX0_goesBack 99 = .ok (.iload_n 2, 1) := dk_28 (dk_at dksX0_goesBack_4 3 rfl rfl)
theorem dX0_goesBack_100 : decode cX0_goesBack 100 = .ok (.iaload, 1) := dk_46 (dk_at dksX0_goesBack_4 4 rfl rfl)
theorem dX0_goesBack_101 : decode cX0_goesBack 101 = .ok (.iaload, 1) := dk_46 (dk_at dksX0_goesBack_4 5 rfl rfl)
theorem dX0_goesBack_102 : decode cX0_goesBack 102 = .ok (.iand, 1) := dk_126 (dk_at dksX0_goesBack_4 6 rfl rfl)
theorem dX0_goesBack_103 : decode cX0_goesBack 103 = .ok (.ifCond .eq 9, 3) := dk_153 0 9 (dk_at dksX0_goesBack_4 7 rfl rfl)
theorem dX0_goesBack_106 : decode cX0_goesBack 106 = .ok (.iconst 1, 1) := dk_4 (dk_at dksX0_goesBack_4 10 rfl rfl)
theorem dX0_goesBack_107 : decode cX0_goesBack 107 = .ok (.iload_n 3, 1) := dk_29 (dk_at dksX0_goesBack_4 11 rfl rfl)
theorem dX0_goesBack_108 : decode cX0_goesBack 108 = .ok (.ishl, 1) := dk_120 (dk_at dksX0_goesBack_4 12 rfl rfl)
theorem dX0_goesBack_109 : decode cX0_goesBack 109 = .ok (.goto 4, 3) := dk_167 0 4 (dk_at dksX0_goesBack_4 13 rfl rfl)
theorem dX0_goesBack_112 : decode cX0_goesBack 112 = .ok (.iconst 0, 1) := dk_3 (dk_at dksX0_goesBack_4 16 rfl rfl)
theorem dX0_goesBack_113 : decode cX0_goesBack 113 = .ok (.ior, 1) := dk_128 (dk_at dksX0_goesBack_4 17 rfl rfl)
theorem dX0_goesBack_114 : decode cX0_goesBack 114 = .ok (.iastore, 1) := dk_79 (dk_at dksX0_goesBack_4 18 rfl rfl)
theorem dX0_goesBack_115 : decode cX0_goesBack 115 = .ok (.iinc 3 1, 3) := dk_132 3 1 (dk_at dksX0_goesBack_4 19 rfl rfl)
theorem dX0_goesBack_118 : decode cX0_goesBack 118 = .ok (.goto (-56), 3) := dk_167 255 200 (dk_at dksX0_goesBack_5 0 rfl rfl)
theorem dX0_goesBack_121 : decode cX0_goesBack 121 = .ok (.iinc 2 1, 3) := dk_132 2 1 (dk_at dksX0_goesBack_5 3 rfl rfl)
theorem dX0_goesBack_124 : decode cX0_goesBack 124 = .ok (.goto (-99), 3) := dk_167 255 157 (dk_at dksX0_goesBack_5 6 rfl rfl)
theorem dX0_goesBack_127 : decode cX0_goesBack 127 = .ok (.aload_n 0, 1) := dk_42 (dk_at dksX0_goesBack_5 9 rfl rfl)
theorem dX0_goesBack_128 : decode cX0_goesBack 128 = .ok (.getfield 88, 3) := dk_180 0 88 (dk_at dksX0_goesBack_5 10 rfl rfl)
theorem dX0_goesBack_131 : decode cX0_goesBack 131 = .ok (.iconst 0, 1) := dk_3 (dk_at dksX0_goesBack_5 13 rfl rfl)
theorem dX0_goesBack_132 : decode cX0_goesBack 132 = .ok (.aload_n 0, 1) := dk_42 (dk_at dksX0_goesBack_5 14 rfl rfl)
theorem dX0_goesBack_133 : decode cX0_goesBack 133 = .ok (.getfield 85, 3) := dk_180 0 85 (dk_at dksX0_goesBack_5 15 rfl rfl)
theorem dX0_goesBack_136 : decode cX0_goesBack 136 = .ok (.iconst 0, 1) := dk_3 (dk_at dksX0_goesBack_5 18 rfl rfl)
theorem dX0_goesBack_137 : decode cX0_goesBack 137 = .ok (.aload_n 0, 1) := dk_42 (dk_at dksX0_goesBack_5 19 rfl rfl)
theorem dX0_goesBack_138 : decode cX0_goesBack 138 = .ok (.getfield 399, 3) := dk_180 1 143 (dk_at dksX0_goesBack_5 20 rfl rfl)
theorem dX0_goesBack_141 : decode cX0_goesBack 141 = .ok (.invokestatic 427, 3) := dk_184 1 171 (dk_at dksX0_goesBack_6 0 rfl rfl)
theorem dX0_goesBack_144 : decode cX0_goesBack 144 = .ok (.return_, 1) := dk_177 (dk_at dksX0_goesBack_6 3 rfl rfl)
abbrev cX0_joins : ByteArray := prog_1_method_76_code
def yX0_joins : MethodName := ⟨RX0, "joins", "(IIIZ)Z"⟩
def dkwX0_joins_2 : List UInt8 := [27, 46, 92, 46, 4, 29, 120, 128, 79, 4, 172]
abbrev dktX0_joins_2 : List UInt8 := dkwX0_joins_2 ++ []
def dkwX0_joins_1 : List UInt8 := [180, 0, 79, 16, 13, 27, 104, 28, 96, 92, 46, 4, 29, 120, 128, 79, 42, 180, 0, 82, 42, 180, 0, 75]
abbrev dktX0_joins_1 : List UInt8 := dkwX0_joins_1 ++ dktX0_joins_2
def dkwX0_joins_0 : List UInt8 := [42, 180, 0, 79, 16, 13, 27, 104, 28, 96, 46, 29, 184, 0, 211, 153, 0, 6, 21, 4, 172, 42]
abbrev dktX0_joins_0 : List UInt8 := dkwX0_joins_0 ++ dktX0_joins_1
theorem dksX0_joins_0 : cX0_joins.data.toList.drop 0 = dktX0_joins_0 := by decide +kernel
theorem dksX0_joins_1 : cX0_joins.data.toList.drop 22 = dktX0_joins_1 := dk_seg dksX0_joins_0 22 rfl rfl
theorem dksX0_joins_2 : cX0_joins.data.toList.drop 46 = dktX0_joins_2 := dk_seg dksX0_joins_1 24 rfl rfl
theorem dX0_joins_0 : decode cX0_joins 0 = .ok (.aload_n 0, 1) := dk_42 (dk_at dksX0_joins_0 0 rfl rfl)
theorem dX0_joins_1 : decode cX0_joins 1 = .ok (.getfield 79, 3) := dk_180 0 79 (dk_at dksX0_joins_0 1 rfl rfl)
theorem dX0_joins_4 : decode cX0_joins 4 = .ok (.bipush 13, 2) := dk_16 13 (dk_at dksX0_joins_0 4 rfl rfl)
theorem dX0_joins_6 : decode cX0_joins 6 = .ok (.iload_n 1, 1) := dk_27 (dk_at dksX0_joins_0 6 rfl rfl)
theorem dX0_joins_7 : decode cX0_joins 7 = .ok (.imul, 1) := dk_104 (dk_at dksX0_joins_0 7 rfl rfl)
theorem dX0_joins_8 : decode cX0_joins 8 = .ok (.iload_n 2, 1) := dk_28 (dk_at dksX0_joins_0 8 rfl rfl)
theorem dX0_joins_9 : decode cX0_joins 9 = .ok (.iadd, 1) := dk_96 (dk_at dksX0_joins_0 9 rfl rfl)
theorem dX0_joins_10 : decode cX0_joins 10 = .ok (.iaload, 1) := dk_46 (dk_at dksX0_joins_0 10 rfl rfl)
theorem dX0_joins_11 : decode cX0_joins 11 = .ok (.iload_n 3, 1) := dk_29 (dk_at dksX0_joins_0 11 rfl rfl)
theorem dX0_joins_12 : decode cX0_joins 12 = .ok (.invokestatic 211, 3) := dk_184 0 211 (dk_at dksX0_joins_0 12 rfl rfl)
theorem dX0_joins_15 : decode cX0_joins 15 = .ok (.ifCond .eq 6, 3) := dk_153 0 6 (dk_at dksX0_joins_0 15 rfl rfl)
theorem dX0_joins_18 : decode cX0_joins 18 = .ok (.iload 4, 2) := dk_21 4 (dk_at dksX0_joins_0 18 rfl rfl)
theorem dX0_joins_20 : decode cX0_joins 20 = .ok (.ireturn, 1) := dk_172 (dk_at dksX0_joins_0 20 rfl rfl)
theorem dX0_joins_21 : decode cX0_joins 21 = .ok (.aload_n 0, 1) := dk_42 (dk_at dksX0_joins_0 21 rfl rfl)
theorem dX0_joins_22 : decode cX0_joins 22 = .ok (.getfield 79, 3) := dk_180 0 79 (dk_at dksX0_joins_1 0 rfl rfl)
theorem dX0_joins_25 : decode cX0_joins 25 = .ok (.bipush 13, 2) := dk_16 13 (dk_at dksX0_joins_1 3 rfl rfl)
theorem dX0_joins_27 : decode cX0_joins 27 = .ok (.iload_n 1, 1) := dk_27 (dk_at dksX0_joins_1 5 rfl rfl)
theorem dX0_joins_28 : decode cX0_joins 28 = .ok (.imul, 1) := dk_104 (dk_at dksX0_joins_1 6 rfl rfl)
theorem dX0_joins_29 : decode cX0_joins 29 = .ok (.iload_n 2, 1) := dk_28 (dk_at dksX0_joins_1 7 rfl rfl)
theorem dX0_joins_30 : decode cX0_joins 30 = .ok (.iadd, 1) := dk_96 (dk_at dksX0_joins_1 8 rfl rfl)
theorem dX0_joins_31 : decode cX0_joins 31 = .ok (.dup2, 1) := dk_92 (dk_at dksX0_joins_1 9 rfl rfl)
theorem dX0_joins_32 : decode cX0_joins 32 = .ok (.iaload, 1) := dk_46 (dk_at dksX0_joins_1 10 rfl rfl)
theorem dX0_joins_33 : decode cX0_joins 33 = .ok (.iconst 1, 1) := dk_4 (dk_at dksX0_joins_1 11 rfl rfl)
theorem dX0_joins_34 : decode cX0_joins 34 = .ok (.iload_n 3, 1) := dk_29 (dk_at dksX0_joins_1 12 rfl rfl)
theorem dX0_joins_35 : decode cX0_joins 35 = .ok (.ishl, 1) := dk_120 (dk_at dksX0_joins_1 13 rfl rfl)
theorem dX0_joins_36 : decode cX0_joins 36 = .ok (.ior, 1) := dk_128 (dk_at dksX0_joins_1 14 rfl rfl)
theorem dX0_joins_37 : decode cX0_joins 37 = .ok (.iastore, 1) := dk_79 (dk_at dksX0_joins_1 15 rfl rfl)
theorem dX0_joins_38 : decode cX0_joins 38 = .ok (.aload_n 0, 1) := dk_42 (dk_at dksX0_joins_1 16 rfl rfl)
theorem dX0_joins_39 : decode cX0_joins 39 = .ok (.getfield 82, 3) := dk_180 0 82 (dk_at dksX0_joins_1 17 rfl rfl)
theorem dX0_joins_42 : decode cX0_joins 42 = .ok (.aload_n 0, 1) := dk_42 (dk_at dksX0_joins_1 20 rfl rfl)
theorem dX0_joins_43 : decode cX0_joins 43 = .ok (.getfield 75, 3) := dk_180 0 75 (dk_at dksX0_joins_1 21 rfl rfl)
theorem dX0_joins_46 : decode cX0_joins 46 = .ok (.iload_n 1, 1) := dk_27 (dk_at dksX0_joins_2 0 rfl rfl)
theorem dX0_joins_47 : decode cX0_joins 47 = .ok (.iaload, 1) := dk_46 (dk_at dksX0_joins_2 1 rfl rfl)
theorem dX0_joins_48 : decode cX0_joins 48 = .ok (.dup2, 1) := dk_92 (dk_at dksX0_joins_2 2 rfl rfl)
theorem dX0_joins_49 : decode cX0_joins 49 = .ok (.iaload, 1) := dk_46 (dk_at dksX0_joins_2 3 rfl rfl)
theorem dX0_joins_50 : decode cX0_joins 50 = .ok (.iconst 1, 1) := dk_4 (dk_at dksX0_joins_2 4 rfl rfl)
theorem dX0_joins_51 : decode cX0_joins 51 = .ok (.iload_n 3, 1) := dk_29 (dk_at dksX0_joins_2 5 rfl rfl)
theorem dX0_joins_52 : decode cX0_joins 52 = .ok (.ishl, 1) := dk_120 (dk_at dksX0_joins_2 6 rfl rfl)
theorem dX0_joins_53 : decode cX0_joins 53 = .ok (.ior, 1) := dk_128 (dk_at dksX0_joins_2 7 rfl rfl)
theorem dX0_joins_54 : decode cX0_joins 54 = .ok (.iastore, 1) := dk_79 (dk_at dksX0_joins_2 8 rfl rfl)
theorem dX0_joins_55 : decode cX0_joins 55 = .ok (.iconst 1, 1) := dk_4 (dk_at dksX0_joins_2 9 rfl rfl)
theorem dX0_joins_56 : decode cX0_joins 56 = .ok (.ireturn, 1) := dk_172 (dk_at dksX0_joins_2 10 rfl rfl)
abbrev cX0_shifts : ByteArray := prog_1_method_79_code
def yX0_shifts : MethodName := ⟨RX0, "shifts", "(I)V"⟩
def dkwX0_shifts_2 : List UInt8 := [27, 4, 96, 3, 182, 1, 253, 87, 132, 2, 1, 167, 255, 201, 177]
abbrev dktX0_shifts_2 : List UInt8 := dkwX0_shifts_2 ++ []
def dkwX0_shifts_1 : List UInt8 := [160, 0, 32, 42, 180, 0, 82, 42, 180, 0, 69, 28, 46, 46, 27, 184, 0, 211, 153, 0, 14, 42, 28, 27]
abbrev dktX0_shifts_1 : List UInt8 := dkwX0_shifts_1 ++ dktX0_shifts_2
def dkwX0_shifts_0 : List UInt8 := [3, 61, 28, 42, 180, 1, 247, 162, 0, 53, 42, 180, 0, 72, 28, 46, 42, 180, 0, 19, 27, 46]
abbrev dktX0_shifts_0 : List UInt8 := dkwX0_shifts_0 ++ dktX0_shifts_1
theorem dksX0_shifts_0 : cX0_shifts.data.toList.drop 0 = dktX0_shifts_0 := by decide +kernel
theorem dksX0_shifts_1 : cX0_shifts.data.toList.drop 22 = dktX0_shifts_1 := dk_seg dksX0_shifts_0 22 rfl rfl
theorem dksX0_shifts_2 : cX0_shifts.data.toList.drop 46 = dktX0_shifts_2 := dk_seg dksX0_shifts_1 24 rfl rfl
theorem dX0_shifts_0 : decode cX0_shifts 0 = .ok (.iconst 0, 1) := dk_3 (dk_at dksX0_shifts_0 0 rfl rfl)
theorem dX0_shifts_1 : decode cX0_shifts 1 = .ok (.istore_n 2, 1) := dk_61 (dk_at dksX0_shifts_0 1 rfl rfl)
theorem dX0_shifts_2 : decode cX0_shifts 2 = .ok (.iload_n 2, 1) := dk_28 (dk_at dksX0_shifts_0 2 rfl rfl)
theorem dX0_shifts_3 : decode cX0_shifts 3 = .ok (.aload_n 0, 1) := dk_42 (dk_at dksX0_shifts_0 3 rfl rfl)
theorem dX0_shifts_4 : decode cX0_shifts 4 = .ok (.getfield 503, 3) := dk_180 1 247 (dk_at dksX0_shifts_0 4 rfl rfl)
theorem dX0_shifts_7 : decode cX0_shifts 7 = .ok (.if_icmp .ge 53, 3) := dk_162 0 53 (dk_at dksX0_shifts_0 7 rfl rfl)
theorem dX0_shifts_10 : decode cX0_shifts 10 = .ok (.aload_n 0, 1) := dk_42 (dk_at dksX0_shifts_0 10 rfl rfl)
theorem dX0_shifts_11 : decode cX0_shifts 11 = .ok (.getfield 72, 3) := dk_180 0 72 (dk_at dksX0_shifts_0 11 rfl rfl)
theorem dX0_shifts_14 : decode cX0_shifts 14 = .ok (.iload_n 2, 1) := dk_28 (dk_at dksX0_shifts_0 14 rfl rfl)
theorem dX0_shifts_15 : decode cX0_shifts 15 = .ok (.iaload, 1) := dk_46 (dk_at dksX0_shifts_0 15 rfl rfl)
theorem dX0_shifts_16 : decode cX0_shifts 16 = .ok (.aload_n 0, 1) := dk_42 (dk_at dksX0_shifts_0 16 rfl rfl)
theorem dX0_shifts_17 : decode cX0_shifts 17 = .ok (.getfield 19, 3) := dk_180 0 19 (dk_at dksX0_shifts_0 17 rfl rfl)
theorem dX0_shifts_20 : decode cX0_shifts 20 = .ok (.iload_n 1, 1) := dk_27 (dk_at dksX0_shifts_0 20 rfl rfl)
theorem dX0_shifts_21 : decode cX0_shifts 21 = .ok (.iaload, 1) := dk_46 (dk_at dksX0_shifts_0 21 rfl rfl)
theorem dX0_shifts_22 : decode cX0_shifts 22 = .ok (.if_icmp .ne 32, 3) := dk_160 0 32 (dk_at dksX0_shifts_1 0 rfl rfl)
theorem dX0_shifts_25 : decode cX0_shifts 25 = .ok (.aload_n 0, 1) := dk_42 (dk_at dksX0_shifts_1 3 rfl rfl)
theorem dX0_shifts_26 : decode cX0_shifts 26 = .ok (.getfield 82, 3) := dk_180 0 82 (dk_at dksX0_shifts_1 4 rfl rfl)
theorem dX0_shifts_29 : decode cX0_shifts 29 = .ok (.aload_n 0, 1) := dk_42 (dk_at dksX0_shifts_1 7 rfl rfl)
theorem dX0_shifts_30 : decode cX0_shifts 30 = .ok (.getfield 69, 3) := dk_180 0 69 (dk_at dksX0_shifts_1 8 rfl rfl)
theorem dX0_shifts_33 : decode cX0_shifts 33 = .ok (.iload_n 2, 1) := dk_28 (dk_at dksX0_shifts_1 11 rfl rfl)
theorem dX0_shifts_34 : decode cX0_shifts 34 = .ok (.iaload, 1) := dk_46 (dk_at dksX0_shifts_1 12 rfl rfl)
theorem dX0_shifts_35 : decode cX0_shifts 35 = .ok (.iaload, 1) := dk_46 (dk_at dksX0_shifts_1 13 rfl rfl)
theorem dX0_shifts_36 : decode cX0_shifts 36 = .ok (.iload_n 1, 1) := dk_27 (dk_at dksX0_shifts_1 14 rfl rfl)
theorem dX0_shifts_37 : decode cX0_shifts 37 = .ok (.invokestatic 211, 3) := dk_184 0 211 (dk_at dksX0_shifts_1 15 rfl rfl)
theorem dX0_shifts_40 : decode cX0_shifts 40 = .ok (.ifCond .eq 14, 3) := dk_153 0 14 (dk_at dksX0_shifts_1 18 rfl rfl)
theorem dX0_shifts_43 : decode cX0_shifts 43 = .ok (.aload_n 0, 1) := dk_42 (dk_at dksX0_shifts_1 21 rfl rfl)
theorem dX0_shifts_44 : decode cX0_shifts 44 = .ok (.iload_n 2, 1) := dk_28 (dk_at dksX0_shifts_1 22 rfl rfl)
theorem dX0_shifts_45 : decode cX0_shifts 45 = .ok (.iload_n 1, 1) := dk_27 (dk_at dksX0_shifts_1 23 rfl rfl)
theorem dX0_shifts_46 : decode cX0_shifts 46 = .ok (.iload_n 1, 1) := dk_27 (dk_at dksX0_shifts_2 0 rfl rfl)
theorem dX0_shifts_47 : decode cX0_shifts 47 = .ok (.iconst 1, 1) := dk_4 (dk_at dksX0_shifts_2 1 rfl rfl)
theorem dX0_shifts_48 : decode cX0_shifts 48 = .ok (.iadd, 1) := dk_96 (dk_at dksX0_shifts_2 2 rfl rfl)
theorem dX0_shifts_49 : decode cX0_shifts 49 = .ok (.iconst 0, 1) := dk_3 (dk_at dksX0_shifts_2 3 rfl rfl)
theorem dX0_shifts_50 : decode cX0_shifts 50 = .ok (.invokevirtual 509, 3) := dk_182 1 253 (dk_at dksX0_shifts_2 4 rfl rfl)
theorem dX0_shifts_53 : decode cX0_shifts 53 = .ok (.pop, 1) := dk_87 (dk_at dksX0_shifts_2 7 rfl rfl)
theorem dX0_shifts_54 : decode cX0_shifts 54 = .ok (.iinc 2 1, 3) := dk_132 2 1 (dk_at dksX0_shifts_2 8 rfl rfl)
theorem dX0_shifts_57 : decode cX0_shifts 57 = .ok (.goto (-55), 3) := dk_167 255 201 (dk_at dksX0_shifts_2 11 rfl rfl)
theorem dX0_shifts_60 : decode cX0_shifts 60 = .ok (.return_, 1) := dk_177 (dk_at dksX0_shifts_2 14 rfl rfl)
abbrev cX0_links : ByteArray := prog_1_method_83_code
def yX0_links : MethodName := ⟨RX0, "links", "(II)I"⟩
def dkwX0_links_4 : List UInt8 := [132, 4, 1, 167, 255, 190, 29, 172]
abbrev dktX0_links_4 : List UInt8 := dkwX0_links_4 ++ []
def dkwX0_links_3 : List UInt8 := [180, 0, 79, 16, 13, 21, 4, 104, 21, 5, 96, 46, 27, 122, 4, 126, 96, 62, 132, 5, 1, 167, 255, 227]
abbrev dktX0_links_3 : List UInt8 := dkwX0_links_3 ++ dktX0_links_4
def dkwX0_links_2 : List UInt8 := [180, 0, 75, 21, 4, 46, 28, 159, 0, 6, 167, 0, 38, 3, 54, 5, 21, 5, 27, 163, 0, 29, 29, 42]
abbrev dktX0_links_2 : List UInt8 := dkwX0_links_2 ++ dktX0_links_3
def dkwX0_links_1 : List UInt8 := [182, 2, 13, 3, 62, 3, 54, 4, 21, 4, 42, 180, 1, 247, 162, 0, 63, 28, 2, 159, 0, 17, 42]
abbrev dktX0_links_1 : List UInt8 := dkwX0_links_1 ++ dktX0_links_2
def dkwX0_links_0 : List UInt8 := [42, 27, 182, 2, 10, 153, 0, 16, 28, 2, 159, 0, 13, 42, 28, 182, 1, 157, 154, 0, 5, 2, 172, 42]
abbrev dktX0_links_0 : List UInt8 := dkwX0_links_0 ++ dktX0_links_1
theorem dksX0_links_0 : cX0_links.data.toList.drop 0 = dktX0_links_0 := by decide +kernel
theorem dksX0_links_1 : cX0_links.data.toList.drop 24 = dktX0_links_1 := dk_seg dksX0_links_0 24 rfl rfl
theorem dksX0_links_2 : cX0_links.data.toList.drop 47 = dktX0_links_2 := dk_seg dksX0_links_1 23 rfl rfl
theorem dksX0_links_3 : cX0_links.data.toList.drop 71 = dktX0_links_3 := dk_seg dksX0_links_2 24 rfl rfl
theorem dksX0_links_4 : cX0_links.data.toList.drop 95 = dktX0_links_4 := dk_seg dksX0_links_3 24 rfl rfl
theorem dX0_links_0 : decode cX0_links 0 = .ok (.aload_n 0, 1) := dk_42 (dk_at dksX0_links_0 0 rfl rfl)
theorem dX0_links_1 : decode cX0_links 1 = .ok (.iload_n 1, 1) := dk_27 (dk_at dksX0_links_0 1 rfl rfl)
theorem dX0_links_2 : decode cX0_links 2 = .ok (.invokevirtual 522, 3) := dk_182 2 10 (dk_at dksX0_links_0 2 rfl rfl)
theorem dX0_links_5 : decode cX0_links 5 = .ok (.ifCond .eq 16, 3) := dk_153 0 16 (dk_at dksX0_links_0 5 rfl rfl)
theorem dX0_links_8 : decode cX0_links 8 = .ok (.iload_n 2, 1) := dk_28 (dk_at dksX0_links_0 8 rfl rfl)
theorem dX0_links_9 : decode cX0_links 9 = .ok (.iconst (-1), 1) := dk_2 (dk_at dksX0_links_0 9 rfl rfl)
theorem dX0_links_10 : decode cX0_links 10 = .ok (.if_icmp .eq 13, 3) := dk_159 0 13 (dk_at dksX0_links_0 10 rfl rfl)
theorem dX0_links_13 : decode cX0_links 13 = .ok (.aload_n 0, 1) := dk_42 (dk_at dksX0_links_0 13 rfl rfl)
theorem dX0_links_14 : decode cX0_links 14 = .ok (.iload_n 2, 1) := dk_28 (dk_at dksX0_links_0 14 rfl rfl)
theorem dX0_links_15 : decode cX0_links 15 = .ok (.invokevirtual 413, 3) := dk_182 1 157 (dk_at dksX0_links_0 15 rfl rfl)
theorem dX0_links_18 : decode cX0_links 18 = .ok (.ifCond .ne 5, 3) := dk_154 0 5 (dk_at dksX0_links_0 18 rfl rfl)
theorem dX0_links_21 : decode cX0_links 21 = .ok (.iconst (-1), 1) := dk_2 (dk_at dksX0_links_0 21 rfl rfl)
theorem dX0_links_22 : decode cX0_links 22 = .ok (.ireturn, 1) := dk_172 (dk_at dksX0_links_0 22 rfl rfl)
theorem dX0_links_23 : decode cX0_links 23 = .ok (.aload_n 0, 1) := dk_42 (dk_at dksX0_links_0 23 rfl rfl)
theorem dX0_links_24 : decode cX0_links 24 = .ok (.invokevirtual 525, 3) := dk_182 2 13 (dk_at dksX0_links_1 0 rfl rfl)
theorem dX0_links_27 : decode cX0_links 27 = .ok (.iconst 0, 1) := dk_3 (dk_at dksX0_links_1 3 rfl rfl)
theorem dX0_links_28 : decode cX0_links 28 = .ok (.istore_n 3, 1) := dk_62 (dk_at dksX0_links_1 4 rfl rfl)
theorem dX0_links_29 : decode cX0_links 29 = .ok (.iconst 0, 1) := dk_3 (dk_at dksX0_links_1 5 rfl rfl)
theorem dX0_links_30 : decode cX0_links 30 = .ok (.istore 4, 2) := dk_54 4 (dk_at dksX0_links_1 6 rfl rfl)
theorem dX0_links_32 : decode cX0_links 32 = .ok (.iload 4, 2) := dk_21 4 (dk_at dksX0_links_1 8 rfl rfl)
theorem dX0_links_34 : decode cX0_links 34 = .ok (.aload_n 0, 1) := dk_42 (dk_at dksX0_links_1 10 rfl rfl)
theorem dX0_links_35 : decode cX0_links 35 = .ok (.getfield 503, 3) := dk_180 1 247 (dk_at dksX0_links_1 11 rfl rfl)
theorem dX0_links_38 : decode cX0_links 38 = .ok (.if_icmp .ge 63, 3) := dk_162 0 63 (dk_at dksX0_links_1 14 rfl rfl)
theorem dX0_links_41 : decode cX0_links 41 = .ok (.iload_n 2, 1) := dk_28 (dk_at dksX0_links_1 17 rfl rfl)
theorem dX0_links_42 : decode cX0_links 42 = .ok (.iconst (-1), 1) := dk_2 (dk_at dksX0_links_1 18 rfl rfl)
theorem dX0_links_43 : decode cX0_links 43 = .ok (.if_icmp .eq 17, 3) := dk_159 0 17 (dk_at dksX0_links_1 19 rfl rfl)
theorem dX0_links_46 : decode cX0_links 46 = .ok (.aload_n 0, 1) := dk_42 (dk_at dksX0_links_1 22 rfl rfl)
theorem dX0_links_47 : decode cX0_links 47 = .ok (.getfield 75, 3) := dk_180 0 75 (dk_at dksX0_links_2 0 rfl rfl)
theorem dX0_links_50 : decode cX0_links 50 = .ok (.iload 4, 2) := dk_21 4 (dk_at dksX0_links_2 3 rfl rfl)
theorem dX0_links_52 : decode cX0_links 52 = .ok (.iaload, 1) := dk_46 (dk_at dksX0_links_2 5 rfl rfl)
theorem dX0_links_53 : decode cX0_links 53 = .ok (.iload_n 2, 1) := dk_28 (dk_at dksX0_links_2 6 rfl rfl)
theorem dX0_links_54 : decode cX0_links 54 = .ok (.if_icmp .eq 6, 3) := dk_159 0 6 (dk_at dksX0_links_2 7 rfl rfl)
theorem dX0_links_57 : decode cX0_links 57 = .ok (.goto 38, 3) := dk_167 0 38 (dk_at dksX0_links_2 10 rfl rfl)
theorem dX0_links_60 : decode cX0_links 60 = .ok (.iconst 0, 1) := dk_3 (dk_at dksX0_links_2 13 rfl rfl)
theorem dX0_links_61 : decode cX0_links 61 = .ok (.istore 5, 2) := dk_54 5 (dk_at dksX0_links_2 14 rfl rfl)
theorem dX0_links_63 : decode cX0_links 63 = .ok (.iload 5, 2) := dk_21 5 (dk_at dksX0_links_2 16 rfl rfl)
theorem dX0_links_65 : decode cX0_links 65 = .ok (.iload_n 1, 1) := dk_27 (dk_at dksX0_links_2 18 rfl rfl)
theorem dX0_links_66 : decode cX0_links 66 = .ok (.if_icmp .gt 29, 3) := dk_163 0 29 (dk_at dksX0_links_2 19 rfl rfl)
theorem dX0_links_69 : decode cX0_links 69 = .ok (.iload_n 3, 1) := dk_29 (dk_at dksX0_links_2 22 rfl rfl)
theorem dX0_links_70 : decode cX0_links 70 = .ok (.aload_n 0, 1) := dk_42 (dk_at dksX0_links_2 23 rfl rfl)
theorem dX0_links_71 : decode cX0_links 71 = .ok (.getfield 79, 3) := dk_180 0 79 (dk_at dksX0_links_3 0 rfl rfl)
theorem dX0_links_74 : decode cX0_links 74 = .ok (.bipush 13, 2) := dk_16 13 (dk_at dksX0_links_3 3 rfl rfl)
theorem dX0_links_76 : decode cX0_links 76 = .ok (.iload 4, 2) := dk_21 4 (dk_at dksX0_links_3 5 rfl rfl)
theorem dX0_links_78 : decode cX0_links 78 = .ok (.imul, 1) := dk_104 (dk_at dksX0_links_3 7 rfl rfl)
theorem dX0_links_79 : decode cX0_links 79 = .ok (.iload 5, 2) := dk_21 5 (dk_at dksX0_links_3 8 rfl rfl)
theorem dX0_links_81 : decode cX0_links 81 = .ok (.iadd, 1) := dk_96 (dk_at dksX0_links_3 10 rfl rfl)
theorem dX0_links_82 : decode cX0_links 82 = .ok (.iaload, 1) := dk_46 (dk_at dksX0_links_3 11 rfl rfl)
theorem dX0_links_83 : decode cX0_links 83 = .ok (.iload_n 1, 1) := dk_27 (dk_at dksX0_links_3 12 rfl rfl)
theorem dX0_links_84 : decode cX0_links 84 = .ok (.ishr, 1) := dk_122 (dk_at dksX0_links_3 13 rfl rfl)
theorem dX0_links_85 : decode cX0_links 85 = .ok (.iconst 1, 1) := dk_4 (dk_at dksX0_links_3 14 rfl rfl)
theorem dX0_links_86 : decode cX0_links 86 = .ok (.iand, 1) := dk_126 (dk_at dksX0_links_3 15 rfl rfl)
theorem dX0_links_87 : decode cX0_links 87 = .ok (.iadd, 1) := dk_96 (dk_at dksX0_links_3 16 rfl rfl)
theorem dX0_links_88 : decode cX0_links 88 = .ok (.istore_n 3, 1) := dk_62 (dk_at dksX0_links_3 17 rfl rfl)
theorem dX0_links_89 : decode cX0_links 89 = .ok (.iinc 5 1, 3) := dk_132 5 1 (dk_at dksX0_links_3 18 rfl rfl)
theorem dX0_links_92 : decode cX0_links 92 = .ok (.goto (-29), 3) := dk_167 255 227 (dk_at dksX0_links_3 21 rfl rfl)
theorem dX0_links_95 : decode cX0_links 95 = .ok (.iinc 4 1, 3) := dk_132 4 1 (dk_at dksX0_links_4 0 rfl rfl)
theorem dX0_links_98 : decode cX0_links 98 = .ok (.goto (-66), 3) := dk_167 255 190 (dk_at dksX0_links_4 3 rfl rfl)
theorem dX0_links_101 : decode cX0_links 101 = .ok (.iload_n 3, 1) := dk_29 (dk_at dksX0_links_4 6 rfl rfl)
theorem dX0_links_102 : decode cX0_links 102 = .ok (.ireturn, 1) := dk_172 (dk_at dksX0_links_4 7 rfl rfl)
abbrev cX0_expects : ByteArray := prog_1_method_84_code
def yX0_expects : MethodName := ⟨RX0, "expects", "(I)I"⟩
def dkwX0_expects_3 : List UInt8 := [132, 3, 1, 167, 255, 200, 28, 172]
abbrev dktX0_expects_3 : List UInt8 := dkwX0_expects_3 ++ []
def dkwX0_expects_2 : List UInt8 := [29, 46, 46, 27, 184, 0, 211, 153, 0, 14, 4, 42, 180, 0, 72, 29, 46, 120, 167, 0, 4, 3, 128, 61]
abbrev dktX0_expects_2 : List UInt8 := dkwX0_expects_2 ++ dktX0_expects_3
def dkwX0_expects_1 : List UInt8 := [162, 0, 54, 28, 42, 180, 0, 72, 29, 46, 184, 1, 198, 153, 0, 32, 42, 180, 0, 82, 42, 180, 0, 69]
abbrev dktX0_expects_1 : List UInt8 := dkwX0_expects_1 ++ dktX0_expects_2
def dkwX0_expects_0 : List UInt8 := [42, 27, 182, 2, 10, 154, 0, 5, 2, 172, 42, 182, 2, 13, 3, 61, 3, 62, 29, 42, 180, 1, 247]
abbrev dktX0_expects_0 : List UInt8 := dkwX0_expects_0 ++ dktX0_expects_1
theorem dksX0_expects_0 : cX0_expects.data.toList.drop 0 = dktX0_expects_0 := by decide +kernel
theorem dksX0_expects_1 : cX0_expects.data.toList.drop 23 = dktX0_expects_1 := dk_seg dksX0_expects_0 23 rfl rfl
theorem dksX0_expects_2 : cX0_expects.data.toList.drop 47 = dktX0_expects_2 := dk_seg dksX0_expects_1 24 rfl rfl
theorem dksX0_expects_3 : cX0_expects.data.toList.drop 71 = dktX0_expects_3 := dk_seg dksX0_expects_2 24 rfl rfl
theorem dX0_expects_0 : decode cX0_expects 0 = .ok (.aload_n 0, 1) := dk_42 (dk_at dksX0_expects_0 0 rfl rfl)
theorem dX0_expects_1 : decode cX0_expects 1 = .ok (.iload_n 1, 1) := dk_27 (dk_at dksX0_expects_0 1 rfl rfl)
theorem dX0_expects_2 : decode cX0_expects 2 = .ok (.invokevirtual 522, 3) := dk_182 2 10 (dk_at dksX0_expects_0 2 rfl rfl)
theorem dX0_expects_5 : decode cX0_expects 5 = .ok (.ifCond .ne 5, 3) := dk_154 0 5 (dk_at dksX0_expects_0 5 rfl rfl)
theorem dX0_expects_8 : decode cX0_expects 8 = .ok (.iconst (-1), 1) := dk_2 (dk_at dksX0_expects_0 8 rfl rfl)
theorem dX0_expects_9 : decode cX0_expects 9 = .ok (.ireturn, 1) := dk_172 (dk_at dksX0_expects_0 9 rfl rfl)
theorem dX0_expects_10 : decode cX0_expects 10 = .ok (.aload_n 0, 1) := dk_42 (dk_at dksX0_expects_0 10 rfl rfl)
theorem dX0_expects_11 : decode cX0_expects 11 = .ok (.invokevirtual 525, 3) := dk_182 2 13 (dk_at dksX0_expects_0 11 rfl rfl)
theorem dX0_expects_14 : decode cX0_expects 14 = .ok (.iconst 0, 1) := dk_3 (dk_at dksX0_expects_0 14 rfl rfl)
theorem dX0_expects_15 : decode cX0_expects 15 = .ok (.istore_n 2, 1) := dk_61 (dk_at dksX0_expects_0 15 rfl rfl)
theorem dX0_expects_16 : decode cX0_expects 16 = .ok (.iconst 0, 1) := dk_3 (dk_at dksX0_expects_0 16 rfl rfl)
theorem dX0_expects_17 : decode cX0_expects 17 = .ok (.istore_n 3, 1) := dk_62 (dk_at dksX0_expects_0 17 rfl rfl)
theorem dX0_expects_18 : decode cX0_expects 18 = .ok (.iload_n 3, 1) := dk_29 (dk_at dksX0_expects_0 18 rfl rfl)
theorem dX0_expects_19 : decode cX0_expects 19 = .ok (.aload_n 0, 1) := dk_42 (dk_at dksX0_expects_0 19 rfl rfl)
theorem dX0_expects_20 : decode cX0_expects 20 = .ok (.getfield 503, 3) := dk_180 1 247 (dk_at dksX0_expects_0 20 rfl rfl)
theorem dX0_expects_23 : decode cX0_expects 23 = .ok (.if_icmp .ge 54, 3) := dk_162 0 54 (dk_at dksX0_expects_1 0 rfl rfl)
theorem dX0_expects_26 : decode cX0_expects 26 = .ok (.iload_n 2, 1) := dk_28 (dk_at dksX0_expects_1 3 rfl rfl)
theorem dX0_expects_27 : decode cX0_expects 27 = .ok (.aload_n 0, 1) := dk_42 (dk_at dksX0_expects_1 4 rfl rfl)
theorem dX0_expects_28 : decode cX0_expects 28 = .ok (.getfield 72, 3) := dk_180 0 72 (dk_at dksX0_expects_1 5 rfl rfl)
theorem dX0_expects_31 : decode cX0_expects 31 = .ok (.iload_n 3, 1) := dk_29 (dk_at dksX0_expects_1 8 rfl rfl)
theorem dX0_expects_32 : decode cX0_expects 32 = .ok (.iaload, 1) := dk_46 (dk_at dksX0_expects_1 9 rfl rfl)
theorem dX0_expects_33 : decode cX0_expects 33 = .ok (.invokestatic 454, 3) := dk_184 1 198 (dk_at dksX0_expects_1 10 rfl rfl)
theorem dX0_expects_36 : decode cX0_expects 36 = .ok (.ifCond .eq 32, 3) := dk_153 0 32 (dk_at dksX0_expects_1 13 rfl rfl)
theorem dX0_expects_39 : decode cX0_expects 39 = .ok (.aload_n 0, 1) := dk_42 (dk_at dksX0_expects_1 16 rfl rfl)
theorem dX0_expects_40 : decode cX0_expects 40 = .ok (.getfield 82, 3) := dk_180 0 82 (dk_at dksX0_expects_1 17 rfl rfl)
theorem dX0_expects_43 : decode cX0_expects 43 = .ok (.aload_n 0, 1) := dk_42 (dk_at dksX0_expects_1 20 rfl rfl)
theorem dX0_expects_44 : decode cX0_expects 44 = .ok (.getfield 69, 3) := dk_180 0 69 (dk_at dksX0_expects_1 21 rfl rfl)
theorem dX0_expects_47 : decode cX0_expects 47 = .ok (.iload_n 3, 1) := dk_29 (dk_at dksX0_expects_2 0 rfl rfl)
theorem dX0_expects_48 : decode cX0_expects 48 = .ok (.iaload, 1) := dk_46 (dk_at dksX0_expects_2 1 rfl rfl)
theorem dX0_expects_49 : decode cX0_expects 49 = .ok (.iaload, 1) := dk_46 (dk_at dksX0_expects_2 2 rfl rfl)
theorem dX0_expects_50 : decode cX0_expects 50 = .ok (.iload_n 1, 1) := dk_27 (dk_at dksX0_expects_2 3 rfl rfl)
theorem dX0_expects_51 : decode cX0_expects 51 = .ok (.invokestatic 211, 3) := dk_184 0 211 (dk_at dksX0_expects_2 4 rfl rfl)
theorem dX0_expects_54 : decode cX0_expects 54 = .ok (.ifCond .eq 14, 3) := dk_153 0 14 (dk_at dksX0_expects_2 7 rfl rfl)
theorem dX0_expects_57 : decode cX0_expects 57 = .ok (.iconst 1, 1) := dk_4 (dk_at dksX0_expects_2 10 rfl rfl)
theorem dX0_expects_58 : decode cX0_expects 58 = .ok (.aload_n 0, 1) := dk_42 (dk_at dksX0_expects_2 11 rfl rfl)
theorem dX0_expects_59 : decode cX0_expects 59 = .ok (.getfield 72, 3) := dk_180 0 72 (dk_at dksX0_expects_2 12 rfl rfl)
theorem dX0_expects_62 : decode cX0_expects 62 = .ok (.iload_n 3, 1) := dk_29 (dk_at dksX0_expects_2 15 rfl rfl)
theorem dX0_expects_63 : decode cX0_expects 63 = .ok (.iaload, 1) := dk_46 (dk_at dksX0_expects_2 16 rfl rfl)
theorem dX0_expects_64 : decode cX0_expects 64 = .ok (.ishl, 1) := dk_120 (dk_at dksX0_expects_2 17 rfl rfl)
theorem dX0_expects_65 : decode cX0_expects 65 = .ok (.goto 4, 3) := dk_167 0 4 (dk_at dksX0_expects_2 18 rfl rfl)
theorem dX0_expects_68 : decode cX0_expects 68 = .ok (.iconst 0, 1) := dk_3 (dk_at dksX0_expects_2 21 rfl rfl)
theorem dX0_expects_69 : decode cX0_expects 69 = .ok (.ior, 1) := dk_128 (dk_at dksX0_expects_2 22 rfl rfl)
theorem dX0_expects_70 : decode cX0_expects 70 = .ok (.istore_n 2, 1) := dk_61 (dk_at dksX0_expects_2 23 rfl rfl)
theorem dX0_expects_71 : decode cX0_expects 71 = .ok (.iinc 3 1, 3) := dk_132 3 1 (dk_at dksX0_expects_3 0 rfl rfl)
theorem dX0_expects_74 : decode cX0_expects 74 = .ok (.goto (-56), 3) := dk_167 255 200 (dk_at dksX0_expects_3 3 rfl rfl)
theorem dX0_expects_77 : decode cX0_expects 77 = .ok (.iload_n 2, 1) := dk_28 (dk_at dksX0_expects_3 6 rfl rfl)
theorem dX0_expects_78 : decode cX0_expects 78 = .ok (.ireturn, 1) := dk_172 (dk_at dksX0_expects_3 7 rfl rfl)
abbrev cX0_derives : ByteArray := prog_1_method_111_code
def yX0_derives : MethodName := ⟨RX0, "derives", "(III)I"⟩
def dkwX0_derives_1 : List UInt8 := [180, 0, 170, 28, 29, 184, 2, 25, 46, 27, 16, 26, 100, 122, 4, 126, 172]
abbrev dktX0_derives_1 : List UInt8 := dkwX0_derives_1 ++ []
def dkwX0_derives_0 : List UInt8 := [42, 27, 182, 1, 122, 153, 0, 12, 42, 28, 29, 182, 2, 95, 154, 0, 5, 2, 172, 42, 182, 2, 98, 42]
abbrev dktX0_derives_0 : List UInt8 := dkwX0_derives_0 ++ dktX0_derives_1
theorem dksX0_derives_0 : cX0_derives.data.toList.drop 0 = dktX0_derives_0 := by decide +kernel
theorem dksX0_derives_1 : cX0_derives.data.toList.drop 24 = dktX0_derives_1 := dk_seg dksX0_derives_0 24 rfl rfl
theorem dX0_derives_0 : decode cX0_derives 0 = .ok (.aload_n 0, 1) := dk_42 (dk_at dksX0_derives_0 0 rfl rfl)
theorem dX0_derives_1 : decode cX0_derives 1 = .ok (.iload_n 1, 1) := dk_27 (dk_at dksX0_derives_0 1 rfl rfl)
theorem dX0_derives_2 : decode cX0_derives 2 = .ok (.invokevirtual 378, 3) := dk_182 1 122 (dk_at dksX0_derives_0 2 rfl rfl)
theorem dX0_derives_5 : decode cX0_derives 5 = .ok (.ifCond .eq 12, 3) := dk_153 0 12 (dk_at dksX0_derives_0 5 rfl rfl)
theorem dX0_derives_8 : decode cX0_derives 8 = .ok (.aload_n 0, 1) := dk_42 (dk_at dksX0_derives_0 8 rfl rfl)
theorem dX0_derives_9 : decode cX0_derives 9 = .ok (.iload_n 2, 1) := dk_28 (dk_at dksX0_derives_0 9 rfl rfl)
theorem dX0_derives_10 : decode cX0_derives 10 = .ok (.iload_n 3, 1) := dk_29 (dk_at dksX0_derives_0 10 rfl rfl)
theorem dX0_derives_11 : decode cX0_derives 11 = .ok (.invokevirtual 607, 3) := dk_182 2 95 (dk_at dksX0_derives_0 11 rfl rfl)
theorem dX0_derives_14 : decode cX0_derives 14 = .ok (.ifCond .ne 5, 3) := dk_154 0 5 (dk_at dksX0_derives_0 14 rfl rfl)
theorem dX0_derives_17 : decode cX0_derives 17 = .ok (.iconst (-1), 1) := dk_2 (dk_at dksX0_derives_0 17 rfl rfl)
theorem dX0_derives_18 : decode cX0_derives 18 = .ok (.ireturn, 1) := dk_172 (dk_at dksX0_derives_0 18 rfl rfl)
theorem dX0_derives_19 : decode cX0_derives 19 = .ok (.aload_n 0, 1) := dk_42 (dk_at dksX0_derives_0 19 rfl rfl)
theorem dX0_derives_20 : decode cX0_derives 20 = .ok (.invokevirtual 610, 3) := dk_182 2 98 (dk_at dksX0_derives_0 20 rfl rfl)
theorem dX0_derives_23 : decode cX0_derives 23 = .ok (.aload_n 0, 1) := dk_42 (dk_at dksX0_derives_0 23 rfl rfl)
theorem dX0_derives_24 : decode cX0_derives 24 = .ok (.getfield 170, 3) := dk_180 0 170 (dk_at dksX0_derives_1 0 rfl rfl)
theorem dX0_derives_27 : decode cX0_derives 27 = .ok (.iload_n 2, 1) := dk_28 (dk_at dksX0_derives_1 3 rfl rfl)
theorem dX0_derives_28 : decode cX0_derives 28 = .ok (.iload_n 3, 1) := dk_29 (dk_at dksX0_derives_1 4 rfl rfl)
theorem dX0_derives_29 : decode cX0_derives 29 = .ok (.invokestatic 537, 3) := dk_184 2 25 (dk_at dksX0_derives_1 5 rfl rfl)
theorem dX0_derives_32 : decode cX0_derives 32 = .ok (.iaload, 1) := dk_46 (dk_at dksX0_derives_1 8 rfl rfl)
theorem dX0_derives_33 : decode cX0_derives 33 = .ok (.iload_n 1, 1) := dk_27 (dk_at dksX0_derives_1 9 rfl rfl)
theorem dX0_derives_34 : decode cX0_derives 34 = .ok (.bipush 26, 2) := dk_16 26 (dk_at dksX0_derives_1 10 rfl rfl)
theorem dX0_derives_36 : decode cX0_derives 36 = .ok (.isub, 1) := dk_100 (dk_at dksX0_derives_1 12 rfl rfl)
theorem dX0_derives_37 : decode cX0_derives 37 = .ok (.ishr, 1) := dk_122 (dk_at dksX0_derives_1 13 rfl rfl)
theorem dX0_derives_38 : decode cX0_derives 38 = .ok (.iconst 1, 1) := dk_4 (dk_at dksX0_derives_1 14 rfl rfl)
theorem dX0_derives_39 : decode cX0_derives 39 = .ok (.iand, 1) := dk_126 (dk_at dksX0_derives_1 15 rfl rfl)
theorem dX0_derives_40 : decode cX0_derives 40 = .ok (.ireturn, 1) := dk_172 (dk_at dksX0_derives_1 16 rfl rfl)
abbrev cX0_isSpan : ByteArray := prog_1_method_110_code
def yX0_isSpan : MethodName := ⟨RX0, "isSpan", "(II)Z"⟩
def dkwX0_isSpan_0 : List UInt8 := [42, 28, 182, 2, 10, 153, 0, 16, 27, 155, 0, 12, 27, 28, 163, 0, 7, 4, 167, 0, 4, 3, 172]
abbrev dktX0_isSpan_0 : List UInt8 := dkwX0_isSpan_0 ++ []
theorem dksX0_isSpan_0 : cX0_isSpan.data.toList.drop 0 = dktX0_isSpan_0 := by decide +kernel
theorem dX0_isSpan_0 : decode cX0_isSpan 0 = .ok (.aload_n 0, 1) := dk_42 (dk_at dksX0_isSpan_0 0 rfl rfl)
theorem dX0_isSpan_1 : decode cX0_isSpan 1 = .ok (.iload_n 2, 1) := dk_28 (dk_at dksX0_isSpan_0 1 rfl rfl)
theorem dX0_isSpan_2 : decode cX0_isSpan 2 = .ok (.invokevirtual 522, 3) := dk_182 2 10 (dk_at dksX0_isSpan_0 2 rfl rfl)
theorem dX0_isSpan_5 : decode cX0_isSpan 5 = .ok (.ifCond .eq 16, 3) := dk_153 0 16 (dk_at dksX0_isSpan_0 5 rfl rfl)
theorem dX0_isSpan_8 : decode cX0_isSpan 8 = .ok (.iload_n 1, 1) := dk_27 (dk_at dksX0_isSpan_0 8 rfl rfl)
theorem dX0_isSpan_9 : decode cX0_isSpan 9 = .ok (.ifCond .lt 12, 3) := dk_155 0 12 (dk_at dksX0_isSpan_0 9 rfl rfl)
theorem dX0_isSpan_12 : decode cX0_isSpan 12 = .ok (.iload_n 1, 1) := dk_27 (dk_at dksX0_isSpan_0 12 rfl rfl)
theorem dX0_isSpan_13 : decode cX0_isSpan 13 = .ok (.iload_n 2, 1) := dk_28 (dk_at dksX0_isSpan_0 13 rfl rfl)
theorem dX0_isSpan_14 : decode cX0_isSpan 14 = .ok (.if_icmp .gt 7, 3) := dk_163 0 7 (dk_at dksX0_isSpan_0 14 rfl rfl)
theorem dX0_isSpan_17 : decode cX0_isSpan 17 = .ok (.iconst 1, 1) := dk_4 (dk_at dksX0_isSpan_0 17 rfl rfl)
theorem dX0_isSpan_18 : decode cX0_isSpan 18 = .ok (.goto 4, 3) := dk_167 0 4 (dk_at dksX0_isSpan_0 18 rfl rfl)
theorem dX0_isSpan_21 : decode cX0_isSpan 21 = .ok (.iconst 0, 1) := dk_3 (dk_at dksX0_isSpan_0 21 rfl rfl)
theorem dX0_isSpan_22 : decode cX0_isSpan 22 = .ok (.ireturn, 1) := dk_172 (dk_at dksX0_isSpan_0 22 rfl rfl)
abbrev cX0_charts : ByteArray := prog_1_method_105_code
def yX0_charts : MethodName := ⟨RX0, "charts", "()V"⟩
def dkwX0_charts_2 : List UInt8 := [167, 255, 235, 132, 1, 1, 167, 255, 219, 42, 182, 2, 78, 177]
abbrev dktX0_charts_2 : List UInt8 := dkwX0_charts_2 ++ []
def dkwX0_charts_1 : List UInt8 := [61, 28, 27, 96, 42, 180, 1, 29, 163, 0, 17, 42, 28, 28, 27, 96, 182, 2, 75, 132, 2, 1]
abbrev dktX0_charts_1 : List UInt8 := dkwX0_charts_1 ++ dktX0_charts_2
def dkwX0_charts_0 : List UInt8 := [42, 180, 1, 6, 153, 0, 4, 177, 42, 4, 181, 1, 6, 3, 60, 27, 42, 180, 1, 29, 163, 0, 35, 3]
abbrev dktX0_charts_0 : List UInt8 := dkwX0_charts_0 ++ dktX0_charts_1
theorem dksX0_charts_0 : cX0_charts.data.toList.drop 0 = dktX0_charts_0 := by decide +kernel
theorem dksX0_charts_1 : cX0_charts.data.toList.drop 24 = dktX0_charts_1 := dk_seg dksX0_charts_0 24 rfl rfl
theorem dksX0_charts_2 : cX0_charts.data.toList.drop 46 = dktX0_charts_2 := dk_seg dksX0_charts_1 22 rfl rfl
theorem dX0_charts_0 : decode cX0_charts 0 = .ok (.aload_n 0, 1) := dk_42 (dk_at dksX0_charts_0 0 rfl rfl)
theorem dX0_charts_1 : decode cX0_charts 1 = .ok (.getfield 262, 3) := dk_180 1 6 (dk_at dksX0_charts_0 1 rfl rfl)
theorem dX0_charts_4 : decode cX0_charts 4 = .ok (.ifCond .eq 4, 3) := dk_153 0 4 (dk_at dksX0_charts_0 4 rfl rfl)
theorem dX0_charts_7 : decode cX0_charts 7 = .ok (.return_, 1) := dk_177 (dk_at dksX0_charts_0 7 rfl rfl)
theorem dX0_charts_8 : decode cX0_charts 8 = .ok (.aload_n 0, 1) := dk_42 (dk_at dksX0_charts_0 8 rfl rfl)
theorem dX0_charts_9 : decode cX0_charts 9 = .ok (.iconst 1, 1) := dk_4 (dk_at dksX0_charts_0 9 rfl rfl)
theorem dX0_charts_10 : decode cX0_charts 10 = .ok (.putfield 262, 3) := dk_181 1 6 (dk_at dksX0_charts_0 10 rfl rfl)
theorem dX0_charts_13 : decode cX0_charts 13 = .ok (.iconst 0, 1) := dk_3 (dk_at dksX0_charts_0 13 rfl rfl)
theorem dX0_charts_14 : decode cX0_charts 14 = .ok (.istore_n 1, 1) := dk_60 (dk_at dksX0_charts_0 14 rfl rfl)
theorem dX0_charts_15 : decode cX0_charts 15 = .ok (.iload_n 1, 1) := dk_27 (dk_at dksX0_charts_0 15 rfl rfl)
theorem dX0_charts_16 : decode cX0_charts 16 = .ok (.aload_n 0, 1) := dk_42 (dk_at dksX0_charts_0 16 rfl rfl)
theorem dX0_charts_17 : decode cX0_charts 17 = .ok (.getfield 285, 3) := dk_180 1 29 (dk_at dksX0_charts_0 17 rfl rfl)
theorem dX0_charts_20 : decode cX0_charts 20 = .ok (.if_icmp .gt 35, 3) := dk_163 0 35 (dk_at dksX0_charts_0 20 rfl rfl)
theorem dX0_charts_23 : decode cX0_charts 23 = .ok (.iconst 0, 1) := dk_3 (dk_at dksX0_charts_0 23 rfl rfl)
theorem dX0_charts_24 : decode cX0_charts 24 = .ok (.istore_n 2, 1) := dk_61 (dk_at dksX0_charts_1 0 rfl rfl)
theorem dX0_charts_25 : decode cX0_charts 25 = .ok (.iload_n 2, 1) := dk_28 (dk_at dksX0_charts_1 1 rfl rfl)
theorem dX0_charts_26 : decode cX0_charts 26 = .ok (.iload_n 1, 1) := dk_27 (dk_at dksX0_charts_1 2 rfl rfl)
theorem dX0_charts_27 : decode cX0_charts 27 = .ok (.iadd, 1) := dk_96 (dk_at dksX0_charts_1 3 rfl rfl)
theorem dX0_charts_28 : decode cX0_charts 28 = .ok (.aload_n 0, 1) := dk_42 (dk_at dksX0_charts_1 4 rfl rfl)
theorem dX0_charts_29 : decode cX0_charts 29 = .ok (.getfield 285, 3) := dk_180 1 29 (dk_at dksX0_charts_1 5 rfl rfl)
theorem dX0_charts_32 : decode cX0_charts 32 = .ok (.if_icmp .gt 17, 3) := dk_163 0 17 (dk_at dksX0_charts_1 8 rfl rfl)
theorem dX0_charts_35 : decode cX0_charts 35 = .ok (.aload_n 0, 1) := dk_42 (dk_at dksX0_charts_1 11 rfl rfl)
theorem dX0_charts_36 : decode cX0_charts 36 = .ok (.iload_n 2, 1) := dk_28 (dk_at dksX0_charts_1 12 rfl rfl)
theorem dX0_charts_37 : decode cX0_charts 37 = .ok (.iload_n 2, 1) := dk_28 (dk_at dksX0_charts_1 13 rfl rfl)
theorem dX0_charts_38 : decode cX0_charts 38 = .ok (.iload_n 1, 1) := dk_27 (dk_at dksX0_charts_1 14 rfl rfl)
theorem dX0_charts_39 : decode cX0_charts 39 = .ok (.iadd, 1) := dk_96 (dk_at dksX0_charts_1 15 rfl rfl)
theorem dX0_charts_40 : decode cX0_charts 40 = .ok (.invokevirtual 587, 3) := dk_182 2 75 (dk_at dksX0_charts_1 16 rfl rfl)
theorem dX0_charts_43 : decode cX0_charts 43 = .ok (.iinc 2 1, 3) := dk_132 2 1 (dk_at dksX0_charts_1 19 rfl rfl)
theorem dX0_charts_46 : decode cX0_charts 46 = .ok (.goto (-21), 3) := dk_167 255 235 (dk_at dksX0_charts_2 0 rfl rfl)
theorem dX0_charts_49 : decode cX0_charts 49 = .ok (.iinc 1 1, 3) := dk_132 1 1 (dk_at dksX0_charts_2 3 rfl rfl)
theorem dX0_charts_52 : decode cX0_charts 52 = .ok (.goto (-37), 3) := dk_167 255 219 (dk_at dksX0_charts_2 6 rfl rfl)
theorem dX0_charts_55 : decode cX0_charts 55 = .ok (.aload_n 0, 1) := dk_42 (dk_at dksX0_charts_2 9 rfl rfl)
theorem dX0_charts_56 : decode cX0_charts 56 = .ok (.invokevirtual 590, 3) := dk_182 2 78 (dk_at dksX0_charts_2 10 rfl rfl)
theorem dX0_charts_59 : decode cX0_charts 59 = .ok (.return_, 1) := dk_177 (dk_at dksX0_charts_2 13 rfl rfl)
abbrev cX0_chartsSpan : ByteArray := prog_1_method_104_code
def yX0_chartsSpan : MethodName := ⟨RX0, "chartsSpan", "(II)V"⟩
def dkwX0_chartsSpan_8 : List UInt8 := [153, 0, 13, 42, 27, 28, 182, 2, 72, 62, 167, 255, 245, 177]
abbrev dktX0_chartsSpan_8 : List UInt8 := dkwX0_chartsSpan_8 ++ []
def dkwX0_chartsSpan_7 : List UInt8 := [42, 21, 4, 27, 28, 182, 2, 69, 167, 0, 4, 3, 79, 132, 4, 1, 167, 255, 207, 4, 62, 29]
abbrev dktX0_chartsSpan_7 : List UInt8 := dkwX0_chartsSpan_7 ++ dktX0_chartsSpan_8
def dkwX0_chartsSpan_6 : List UInt8 := [162, 0, 43, 42, 180, 0, 176, 21, 4, 42, 180, 0, 157, 21, 4, 27, 28, 184, 2, 34, 51, 153, 0, 14]
abbrev dktX0_chartsSpan_6 : List UInt8 := dkwX0_chartsSpan_6 ++ dktX0_chartsSpan_7
def dkwX0_chartsSpan_5 : List UInt8 := [128, 42, 27, 28, 182, 2, 66, 128, 62, 167, 255, 231, 3, 54, 4, 21, 4, 42, 180, 0, 199, 180, 0, 203]
abbrev dktX0_chartsSpan_5 : List UInt8 := dkwX0_chartsSpan_5 ++ dktX0_chartsSpan_6
def dkwX0_chartsSpan_4 : List UInt8 := [132, 3, 1, 167, 255, 229, 4, 62, 29, 153, 0, 27, 42, 27, 28, 182, 2, 60, 42, 27, 28, 182, 2, 63]
abbrev dktX0_chartsSpan_4 : List UInt8 := dkwX0_chartsSpan_4 ++ dktX0_chartsSpan_5
def dkwX0_chartsSpan_3 : List UInt8 := [29, 16, 26, 162, 0, 27, 42, 180, 0, 173, 17, 0, 169, 29, 104, 27, 28, 184, 2, 25, 96, 18, 12, 79]
abbrev dktX0_chartsSpan_3 : List UInt8 := dkwX0_chartsSpan_3 ++ dktX0_chartsSpan_4
def dkwX0_chartsSpan_2 : List UInt8 := [180, 0, 161, 21, 4, 3, 79, 42, 180, 0, 164, 21, 4, 18, 12, 79, 132, 3, 1, 167, 255, 206, 3, 62]
abbrev dktX0_chartsSpan_2 : List UInt8 := dkwX0_chartsSpan_2 ++ dktX0_chartsSpan_3
def dkwX0_chartsSpan_1 : List UInt8 := [184, 2, 34, 54, 4, 42, 180, 0, 157, 21, 4, 3, 84, 42, 180, 0, 167, 21, 4, 3, 84, 42]
abbrev dktX0_chartsSpan_1 : List UInt8 := dkwX0_chartsSpan_1 ++ dktX0_chartsSpan_2
def dkwX0_chartsSpan_0 : List UInt8 := [42, 180, 0, 170, 27, 28, 184, 2, 25, 3, 79, 3, 62, 29, 16, 12, 162, 0, 50, 29, 27, 28]
abbrev dktX0_chartsSpan_0 : List UInt8 := dkwX0_chartsSpan_0 ++ dktX0_chartsSpan_1
theorem dksX0_chartsSpan_0 : cX0_chartsSpan.data.toList.drop 0 = dktX0_chartsSpan_0 := by decide +kernel
theorem dksX0_chartsSpan_1 : cX0_chartsSpan.data.toList.drop 22 = dktX0_chartsSpan_1 := dk_seg dksX0_chartsSpan_0 22 rfl rfl
theorem dksX0_chartsSpan_2 : cX0_chartsSpan.data.toList.drop 44 = dktX0_chartsSpan_2 := dk_seg dksX0_chartsSpan_1 22 rfl rfl
theorem dksX0_chartsSpan_3 : cX0_chartsSpan.data.toList.drop 68 = dktX0_chartsSpan_3 := dk_seg dksX0_chartsSpan_2 24 rfl rfl
theorem dksX0_chartsSpan_4 : cX0_chartsSpan.data.toList.drop 92 = dktX0_chartsSpan_4 := dk_seg dksX0_chartsSpan_3 24 rfl rfl
theorem dksX0_chartsSpan_5 : cX0_chartsSpan.data.toList.drop 116 = dktX0_chartsSpan_5 := dk_seg dksX0_chartsSpan_4 24 rfl rfl
theorem dksX0_chartsSpan_6 : cX0_chartsSpan.data.toList.drop 140 = dktX0_chartsSpan_6 := dk_seg dksX0_chartsSpan_5 24 rfl rfl
theorem dksX0_chartsSpan_7 : cX0_chartsSpan.data.toList.drop 164 = dktX0_chartsSpan_7 := dk_seg dksX0_chartsSpan_6 24 rfl rfl
theorem dksX0_chartsSpan_8 : cX0_chartsSpan.data.toList.drop 186 = dktX0_chartsSpan_8 := dk_seg dksX0_chartsSpan_7 22 rfl rfl
theorem dX0_chartsSpan_0 : decode cX0_chartsSpan 0 = .ok (.aload_n 0, 1) := dk_42 (dk_at dksX0_chartsSpan_0 0 rfl rfl)
theorem dX0_chartsSpan_1 : decode cX0_chartsSpan 1 = .ok (.getfield 170, 3) := dk_180 0 170 (dk_at dksX0_chartsSpan_0 1 rfl rfl)
theorem dX0_chartsSpan_4 : decode cX0_chartsSpan 4 = .ok (.iload_n 1, 1) := dk_27 (dk_at dksX0_chartsSpan_0 4 rfl rfl)
theorem dX0_chartsSpan_5 : decode cX0_chartsSpan 5 = .ok (.iload_n 2, 1) := dk_28 (dk_at dksX0_chartsSpan_0 5 rfl rfl)
theorem dX0_chartsSpan_6 : decode cX0_chartsSpan 6 = .ok (.invokestatic 537, 3) := dk_184 2 25 (dk_at dksX0_chartsSpan_0 6 rfl rfl)
theorem dX0_chartsSpan_9 : decode cX0_chartsSpan 9 = .ok (.iconst 0, 1) := dk_3 (dk_at dksX0_chartsSpan_0 9 rfl rfl)
theorem dX0_chartsSpan_10 : decode cX0_chartsSpan 10 = .ok (.iastore, 1) := dk_79 (dk_at dksX0_chartsSpan_0 10 rfl rfl)
theorem dX0_chartsSpan_11 : decode cX0_chartsSpan 11 = .ok (.iconst 0, 1) := dk_3 (dk_at dksX0_chartsSpan_0 11 rfl rfl)
theorem dX0_chartsSpan_12 : decode cX0_chartsSpan 12 = .ok (.istore_n 3, 1) := dk_62 (dk_at dksX0_chartsSpan_0 12 rfl rfl)
theorem dX0_chartsSpan_13 : decode cX0_chartsSpan 13 = .ok (.iload_n 3, 1) := dk_29 (dk_at dksX0_chartsSpan_0 13 rfl rfl)
theorem dX0_chartsSpan_14 : decode cX0_chartsSpan 14 = .ok (.bipush 12, 2) := dk_16 12 (dk_at dksX0_chartsSpan_0 14 rfl rfl)
theorem dX0_chartsSpan_16 : decode cX0_chartsSpan 16 = .ok (.if_icmp .ge 50, 3) := dk_162 0 50 (dk_at dksX0_chartsSpan_0 16 rfl rfl)
theorem dX0_chartsSpan_19 : decode cX0_chartsSpan 19 = .ok (.iload_n 3, 1) := dk_29 (dk_at dksX0_chartsSpan_0 19 rfl rfl)
theorem dX0_chartsSpan_20 : decode cX0_chartsSpan 20 = .ok (.iload_n 1, 1) := dk_27 (dk_at dksX0_chartsSpan_0 20 rfl rfl)
theorem dX0_chartsSpan_21 : decode cX0_chartsSpan 21 = .ok (.iload_n 2, 1) := dk_28 (dk_at dksX0_chartsSpan_0 21 rfl rfl)
theorem dX0_chartsSpan_22 : decode cX0_chartsSpan 22 = .ok (.invokestatic 546, 3) := dk_184 2 34 (dk_at dksX0_chartsSpan_1 0 rfl rfl)
theorem dX0_chartsSpan_25 : decode cX0_chartsSpan 25 = .ok (.istore 4, 2) := dk_54 4 (dk_at dksX0_chartsSpan_1 3 rfl rfl)
theorem dX0_chartsSpan_27 : decode cX0_chartsSpan 27 = .ok (.aload_n 0, 1) := dk_42 (dk_at dksX0_chartsSpan_1 5 rfl rfl)
theorem dX0_chartsSpan_28 : decode cX0_chartsSpan 28 = .ok (.getfield 157, 3) := dk_180 0 157 (dk_at dksX0_chartsSpan_1 6 rfl rfl)
theorem dX0_chartsSpan_31 : decode cX0_chartsSpan 31 = .ok (.iload 4, 2) := dk_21 4 (dk_at dksX0_chartsSpan_1 9 rfl rfl)
theorem dX0_chartsSpan_33 : decode cX0_chartsSpan 33 = .ok (.iconst 0, 1) := dk_3 (dk_at dksX0_chartsSpan_1 11 rfl rfl)
theorem dX0_chartsSpan_34 : decode cX0_chartsSpan 34 = .ok (.bastore, 1) := dk_84 (dk_at dksX0_chartsSpan_1 12 rfl rfl)
theorem dX0_chartsSpan_35 : decode cX0_chartsSpan 35 = .ok (.aload_n 0, 1) := dk_42 (dk_at dksX0_chartsSpan_1 13 rfl rfl)
theorem dX0_chartsSpan_36 : decode cX0_chartsSpan 36 = .ok (.getfield 167, 3) := dk_180 0 167 (dk_at dksX0_chartsSpan_1 14 rfl rfl)
theorem dX0_chartsSpan_39 : decode cX0_chartsSpan 39 = .ok (.iload 4, 2) := dk_21 4 (dk_at dksX0_chartsSpan_1 17 rfl rfl)
theorem dX0_chartsSpan_41 : decode cX0_chartsSpan 41 = .ok (.iconst 0, 1) := dk_3 (dk_at dksX0_chartsSpan_1 19 rfl rfl)
theorem dX0_chartsSpan_42 : decode cX0_chartsSpan 42 = .ok (.bastore, 1) := dk_84 (dk_at dksX0_chartsSpan_1 20 rfl rfl)
theorem dX0_chartsSpan_43 : decode cX0_chartsSpan 43 = .ok (.aload_n 0, 1) := dk_42 (dk_at dksX0_chartsSpan_1 21 rfl rfl)
theorem dX0_chartsSpan_44 : decode cX0_chartsSpan 44 = .ok (.getfield 161, 3) := dk_180 0 161 (dk_at dksX0_chartsSpan_2 0 rfl rfl)
theorem dX0_chartsSpan_47 : decode cX0_chartsSpan 47 = .ok (.iload 4, 2) := dk_21 4 (dk_at dksX0_chartsSpan_2 3 rfl rfl)
theorem dX0_chartsSpan_49 : decode cX0_chartsSpan 49 = .ok (.iconst 0, 1) := dk_3 (dk_at dksX0_chartsSpan_2 5 rfl rfl)
theorem dX0_chartsSpan_50 : decode cX0_chartsSpan 50 = .ok (.iastore, 1) := dk_79 (dk_at dksX0_chartsSpan_2 6 rfl rfl)
theorem dX0_chartsSpan_51 : decode cX0_chartsSpan 51 = .ok (.aload_n 0, 1) := dk_42 (dk_at dksX0_chartsSpan_2 7 rfl rfl)
theorem dX0_chartsSpan_52 : decode cX0_chartsSpan 52 = .ok (.getfield 164, 3) := dk_180 0 164 (dk_at dksX0_chartsSpan_2 8 rfl rfl)
theorem dX0_chartsSpan_55 : decode cX0_chartsSpan 55 = .ok (.iload 4, 2) := dk_21 4 (dk_at dksX0_chartsSpan_2 11 rfl rfl)
theorem dX0_chartsSpan_57 : decode cX0_chartsSpan 57 = .ok (.ldc 12, 2) := dk_18 12 (dk_at dksX0_chartsSpan_2 13 rfl rfl)
theorem dX0_chartsSpan_59 : decode cX0_chartsSpan 59 = .ok (.iastore, 1) := dk_79 (dk_at dksX0_chartsSpan_2 15 rfl rfl)
theorem dX0_chartsSpan_60 : decode cX0_chartsSpan 60 = .ok (.iinc 3 1, 3) := dk_132 3 1 (dk_at dksX0_chartsSpan_2 16 rfl rfl)
theorem dX0_chartsSpan_63 : decode cX0_chartsSpan 63 = .ok (.goto (-50), 3) := dk_167 255 206 (dk_at dksX0_chartsSpan_2 19 rfl rfl)
theorem dX0_chartsSpan_66 : decode cX0_chartsSpan 66 = .ok (.iconst 0, 1) := dk_3 (dk_at dksX0_chartsSpan_2 22 rfl rfl)
theorem dX0_chartsSpan_67 : decode cX0_chartsSpan 67 = .ok (.istore_n 3, 1) := dk_62 (dk_at dksX0_chartsSpan_2 23 rfl rfl)
theorem dX0_chartsSpan_68 : decode cX0_chartsSpan 68 = .ok (.iload_n 3, 1) := dk_29 (dk_at dksX0_chartsSpan_3 0 rfl rfl)
theorem dX0_chartsSpan_69 : decode cX0_chartsSpan 69 = .ok (.bipush 26, 2) := dk_16 26 (dk_at dksX0_chartsSpan_3 1 rfl rfl)
theorem dX0_chartsSpan_71 : decode cX0_chartsSpan 71 = .ok (.if_icmp .ge 27, 3) := dk_162 0 27 (dk_at dksX0_chartsSpan_3 3 rfl rfl)
theorem dX0_chartsSpan_74 : decode cX0_chartsSpan 74 = .ok (.aload_n 0, 1) := dk_42 (dk_at dksX0_chartsSpan_3 6 rfl rfl)
theorem dX0_chartsSpan_75 : decode cX0_chartsSpan 75 = .ok (.getfield 173, 3) := dk_180 0 173 (dk_at dksX0_chartsSpan_3 7 rfl rfl)
theorem dX0_chartsSpan_78 : decode cX0_chartsSpan 78 = .ok (.sipush 169, 3) := dk_17 0 169 (dk_at dksX0_chartsSpan_3 10 rfl rfl)
theorem dX0_chartsSpan_81 : decode cX0_chartsSpan 81 = .ok (.iload_n 3, 1) := dk_29 (dk_at dksX0_chartsSpan_3 13 rfl rfl)
theorem dX0_chartsSpan_82 : decode cX0_chartsSpan 82 = .ok (.imul, 1) := dk_104 (dk_at dksX0_chartsSpan_3 14 rfl rfl)
theorem dX0_chartsSpan_83 : decode cX0_chartsSpan 83 = .ok (.iload_n 1, 1) := dk_27 (dk_at dksX0_chartsSpan_3 15 rfl rfl)
theorem dX0_chartsSpan_84 : decode cX0_chartsSpan 84 = .ok (.iload_n 2, 1) := dk_28 (dk_at dksX0_chartsSpan_3 16 rfl rfl)
theorem dX0_chartsSpan_85 : decode cX0_chartsSpan 85 = .ok (.invokestatic 537, 3) := dk_184 2 25 (dk_at dksX0_chartsSpan_3 17 rfl rfl)
theorem dX0_chartsSpan_88 : decode cX0_chartsSpan 88 = .ok (.iadd, 1) := dk_96 (dk_at dksX0_chartsSpan_3 20 rfl rfl)
theorem dX0_chartsSpan_89 : decode cX0_chartsSpan 89 = .ok (.ldc 12, 2) := dk_18 12 (dk_at dksX0_chartsSpan_3 21 rfl rfl)
theorem dX0_chartsSpan_91 : decode cX0_chartsSpan 91 = .ok (.iastore, 1) := dk_79 (dk_at dksX0_chartsSpan_3 23 rfl rfl)
theorem dX0_chartsSpan_92 : decode cX0_chartsSpan 92 = .ok (.iinc 3 1, 3) := dk_132 3 1 (dk_at dksX0_chartsSpan_4 0 rfl rfl)
theorem dX0_chartsSpan_95 : decode cX0_chartsSpan 95 = .ok (.goto (-27), 3) := dk_167 255 229 (dk_at dksX0_chartsSpan_4 3 rfl rfl)
theorem dX0_chartsSpan_98 : decode cX0_chartsSpan 98 = .ok (.iconst 1, 1) := dk_4 (dk_at dksX0_chartsSpan_4 6 rfl rfl)
theorem dX0_chartsSpan_99 : decode cX0_chartsSpan 99 = .ok (.istore_n 3, 1) := dk_62 (dk_at dksX0_chartsSpan_4 7 rfl rfl)
theorem dX0_chartsSpan_100 : decode cX0_chartsSpan 100 = .ok (.iload_n 3, 1) := dk_29 (dk_at dksX0_chartsSpan_4 8 rfl rfl)
theorem dX0_chartsSpan_101 : decode cX0_chartsSpan 101 = .ok (.ifCond .eq 27, 3) := dk_153 0 27 (dk_at dksX0_chartsSpan_4 9 rfl rfl)
theorem dX0_chartsSpan_104 : decode cX0_chartsSpan 104 = .ok (.aload_n 0, 1) := dk_42 (dk_at dksX0_chartsSpan_4 12 rfl rfl)
theorem dX0_chartsSpan_105 : decode cX0_chartsSpan 105 = .ok (.iload_n 1, 1) := dk_27 (dk_at dksX0_chartsSpan_4 13 rfl rfl)
theorem dX0_chartsSpan_106 : decode cX0_chartsSpan 106 = .ok (.iload_n 2, 1) := dk_28 (dk_at dksX0_chartsSpan_4 14 rfl rfl)
theorem dX0_chartsSpan_107 : decode cX0_chartsSpan 107 = .ok (.invokevirtual 572, 3) := dk_182 2 60 (dk_at dksX0_chartsSpan_4 15 rfl rfl)
theorem dX0_chartsSpan_110 : decode cX0_chartsSpan 110 = .ok (.aload_n 0, 1) := dk_42 (dk_at dksX0_chartsSpan_4 18 rfl rfl)
theorem dX0_chartsSpan_111 : decode cX0_chartsSpan 111 = .ok (.iload_n 1, 1) := dk_27 (dk_at dksX0_chartsSpan_4 19 rfl rfl)
theorem dX0_chartsSpan_112 : decode cX0_chartsSpan 112 = .ok (.iload_n 2, 1) := dk_28 (dk_at dksX0_chartsSpan_4 20 rfl rfl)
theorem dX0_chartsSpan_113 : decode cX0_chartsSpan 113 = .ok (.invokevirtual 575, 3) := dk_182 2 63 (dk_at dksX0_chartsSpan_4 21 rfl rfl)
theorem dX0_chartsSpan_116 : decode cX0_chartsSpan 116 = .ok (.ior, 1) := dk_128 (dk_at dksX0_chartsSpan_5 0 rfl rfl)
theorem dX0_chartsSpan_117 : decode cX0_chartsSpan 117 = .ok (.aload_n 0, 1) := dk_42 (dk_at dksX0_chartsSpan_5 1 rfl rfl)
theorem dX0_chartsSpan_118 : decode cX0_chartsSpan 118 = .ok (.iload_n 1, 1) := dk_27 (dk_at dksX0_chartsSpan_5 2 rfl rfl)
theorem dX0_chartsSpan_119 : decode cX0_chartsSpan 119 = .ok (.iload_n 2, 1) := dk_28 (dk_at dksX0_chartsSpan_5 3 rfl rfl)
theorem dX0_chartsSpan_120 : decode cX0_chartsSpan 120 = .ok (.invokevirtual 578, 3) := dk_182 2 66 (dk_at dksX0_chartsSpan_5 4 rfl rfl)
theorem dX0_chartsSpan_123 : decode cX0_chartsSpan 123 = .ok (.ior, 1) := dk_128 (dk_at dksX0_chartsSpan_5 7 rfl rfl)
theorem dX0_chartsSpan_124 : decode cX0_chartsSpan 124 = .ok (.istore_n 3, 1) := dk_62 (dk_at dksX0_chartsSpan_5 8 rfl rfl)
theorem dX0_chartsSpan_125 : decode cX0_chartsSpan 125 = .ok (.goto (-25), 3) := dk_167 255 231 (dk_at dksX0_chartsSpan_5 9 rfl rfl)
theorem dX0_chartsSpan_128 : decode cX0_chartsSpan 128 = .ok (.iconst 0, 1) := dk_3 (dk_at dksX0_chartsSpan_5 12 rfl rfl)
theorem dX0_chartsSpan_129 : decode cX0_chartsSpan 129 = .ok (.istore 4, 2) := dk_54 4 (dk_at dksX0_chartsSpan_5 13 rfl rfl)
theorem dX0_chartsSpan_131 : decode cX0_chartsSpan 131 = .ok (.iload 4, 2) := dk_21 4 (dk_at dksX0_chartsSpan_5 15 rfl rfl)
theorem dX0_chartsSpan_133 : decode cX0_chartsSpan 133 = .ok (.aload_n 0, 1) := dk_42 (dk_at dksX0_chartsSpan_5 17 rfl rfl)
theorem dX0_chartsSpan_134 : decode cX0_chartsSpan 134 = .ok (.getfield 199, 3) := dk_180 0 199 (dk_at dksX0_chartsSpan_5 18 rfl rfl)
theorem dX0_chartsSpan_137 : decode cX0_chartsSpan 137 = .ok (.getfield 203, 3) := dk_180 0 203 (dk_at dksX0_chartsSpan_5 21 rfl rfl)
theorem dX0_chartsSpan_140 : decode cX0_chartsSpan 140 = .ok (.if_icmp .ge 43, 3) := dk_162 0 43 (dk_at dksX0_chartsSpan_6 0 rfl rfl)
theorem dX0_chartsSpan_143 : decode cX0_chartsSpan 143 = .ok (.aload_n 0, 1) := dk_42 (dk_at dksX0_chartsSpan_6 3 rfl rfl)
theorem dX0_chartsSpan_144 : decode cX0_chartsSpan 144 = .ok (.getfield 176, 3) := dk_180 0 176 (dk_at dksX0_chartsSpan_6 4 rfl rfl)
theorem dX0_chartsSpan_147 : decode cX0_chartsSpan 147 = .ok (.iload 4, 2) := dk_21 4 (dk_at dksX0_chartsSpan_6 7 rfl rfl)
theorem dX0_chartsSpan_149 : decode cX0_chartsSpan 149 = .ok (.aload_n 0, 1) := dk_42 (dk_at dksX0_chartsSpan_6 9 rfl rfl)
theorem dX0_chartsSpan_150 : decode cX0_chartsSpan 150 = .ok (.getfield 157, 3) := dk_180 0 157 (dk_at dksX0_chartsSpan_6 10 rfl rfl)
theorem dX0_chartsSpan_153 : decode cX0_chartsSpan 153 = .ok (.iload 4, 2) := dk_21 4 (dk_at dksX0_chartsSpan_6 13 rfl rfl)
theorem dX0_chartsSpan_155 : decode cX0_chartsSpan 155 = .ok (.iload_n 1, 1) := dk_27 (dk_at dksX0_chartsSpan_6 15 rfl rfl)
theorem dX0_chartsSpan_156 : decode cX0_chartsSpan 156 = .ok (.iload_n 2, 1) := dk_28 (dk_at dksX0_chartsSpan_6 16 rfl rfl)
theorem dX0_chartsSpan_157 : decode cX0_chartsSpan 157 = .ok (.invokestatic 546, 3) := dk_184 2 34 (dk_at dksX0_chartsSpan_6 17 rfl rfl)
theorem dX0_chartsSpan_160 : decode cX0_chartsSpan 160 = .ok (.baload, 1) := dk_51 (dk_at dksX0_chartsSpan_6 20 rfl rfl)
theorem dX0_chartsSpan_161 : decode cX0_chartsSpan 161 = .ok (.ifCond .eq 14, 3) := dk_153 0 14 (dk_at dksX0_chartsSpan_6 21 rfl rfl)
theorem dX0_chartsSpan_164 : decode cX0_chartsSpan 164 = .ok (.aload_n 0, 1) := dk_42 (dk_at dksX0_chartsSpan_7 0 rfl rfl)
theorem dX0_chartsSpan_165 : decode cX0_chartsSpan 165 = .ok (.iload 4, 2) := dk_21 4 (dk_at dksX0_chartsSpan_7 1 rfl rfl)
theorem dX0_chartsSpan_167 : decode cX0_chartsSpan 167 = .ok (.iload_n 1, 1) := dk_27 (dk_at dksX0_chartsSpan_7 3 rfl rfl)
theorem dX0_chartsSpan_168 : decode cX0_chartsSpan 168 = .ok (.iload_n 2, 1) := dk_28 (dk_at dksX0_chartsSpan_7 4 rfl rfl)
theorem dX0_chartsSpan_169 : decode cX0_chartsSpan 169 = .ok (.invokevirtual 581, 3) := dk_182 2 69 (dk_at dksX0_chartsSpan_7 5 rfl rfl)
theorem dX0_chartsSpan_172 : decode cX0_chartsSpan 172 = .ok (.goto 4, 3) := dk_167 0 4 (dk_at dksX0_chartsSpan_7 8 rfl rfl)
theorem dX0_chartsSpan_175 : decode cX0_chartsSpan 175 = .ok (.iconst 0, 1) := dk_3 (dk_at dksX0_chartsSpan_7 11 rfl rfl)
theorem dX0_chartsSpan_176 : decode cX0_chartsSpan 176 = .ok (.iastore, 1) := dk_79 (dk_at dksX0_chartsSpan_7 12 rfl rfl)
theorem dX0_chartsSpan_177 : decode cX0_chartsSpan 177 = .ok (.iinc 4 1, 3) := dk_132 4 1 (dk_at dksX0_chartsSpan_7 13 rfl rfl)
theorem dX0_chartsSpan_180 : decode cX0_chartsSpan 180 = .ok (.goto (-49), 3) := dk_167 255 207 (dk_at dksX0_chartsSpan_7 16 rfl rfl)
theorem dX0_chartsSpan_183 : decode cX0_chartsSpan 183 = .ok (.iconst 1, 1) := dk_4 (dk_at dksX0_chartsSpan_7 19 rfl rfl)
theorem dX0_chartsSpan_184 : decode cX0_chartsSpan 184 = .ok (.istore_n 3, 1) := dk_62 (dk_at dksX0_chartsSpan_7 20 rfl rfl)
theorem dX0_chartsSpan_185 : decode cX0_chartsSpan 185 = .ok (.iload_n 3, 1) := dk_29 (dk_at dksX0_chartsSpan_7 21 rfl rfl)
theorem dX0_chartsSpan_186 : decode cX0_chartsSpan 186 = .ok (.ifCond .eq 13, 3) := dk_153 0 13 (dk_at dksX0_chartsSpan_8 0 rfl rfl)
theorem dX0_chartsSpan_189 : decode cX0_chartsSpan 189 = .ok (.aload_n 0, 1) := dk_42 (dk_at dksX0_chartsSpan_8 3 rfl rfl)
theorem dX0_chartsSpan_190 : decode cX0_chartsSpan 190 = .ok (.iload_n 1, 1) := dk_27 (dk_at dksX0_chartsSpan_8 4 rfl rfl)
theorem dX0_chartsSpan_191 : decode cX0_chartsSpan 191 = .ok (.iload_n 2, 1) := dk_28 (dk_at dksX0_chartsSpan_8 5 rfl rfl)
theorem dX0_chartsSpan_192 : decode cX0_chartsSpan 192 = .ok (.invokevirtual 584, 3) := dk_182 2 72 (dk_at dksX0_chartsSpan_8 6 rfl rfl)
theorem dX0_chartsSpan_195 : decode cX0_chartsSpan 195 = .ok (.istore_n 3, 1) := dk_62 (dk_at dksX0_chartsSpan_8 9 rfl rfl)
theorem dX0_chartsSpan_196 : decode cX0_chartsSpan 196 = .ok (.goto (-11), 3) := dk_167 255 245 (dk_at dksX0_chartsSpan_8 10 rfl rfl)
theorem dX0_chartsSpan_199 : decode cX0_chartsSpan 199 = .ok (.return_, 1) := dk_177 (dk_at dksX0_chartsSpan_8 13 rfl rfl)
abbrev cX0_derivesMore : ByteArray := prog_1_method_97_code
def yX0_derivesMore : MethodName := ⟨RX0, "derivesMore", "(II)Z"⟩
def dkwX0_derivesMore_4 : List UInt8 := [184, 2, 25, 92, 46, 4, 21, 5, 120, 128, 79, 4, 62, 132, 4, 1, 167, 255, 152, 29, 172]
abbrev dktX0_derivesMore_4 : List UInt8 := dkwX0_derivesMore_4 ++ []
def dkwX0_derivesMore_3 : List UInt8 := [180, 0, 125, 42, 180, 0, 130, 3, 4, 182, 2, 46, 154, 0, 6, 167, 0, 22, 42, 180, 0, 170, 27, 28]
abbrev dktX0_derivesMore_3 : List UInt8 := dkwX0_derivesMore_3 ++ dktX0_derivesMore_4
def dkwX0_derivesMore_2 : List UInt8 := [184, 2, 25, 46, 21, 5, 184, 0, 211, 154, 0, 50, 42, 21, 4, 27, 28, 42, 180, 0, 101, 42]
abbrev dktX0_derivesMore_2 : List UInt8 := dkwX0_derivesMore_2 ++ dktX0_derivesMore_3
def dkwX0_derivesMore_1 : List UInt8 := [21, 4, 46, 16, 26, 100, 54, 5, 42, 21, 4, 182, 1, 95, 153, 0, 68, 42, 180, 0, 170, 27, 28]
abbrev dktX0_derivesMore_1 : List UInt8 := dkwX0_derivesMore_1 ++ dktX0_derivesMore_2
def dkwX0_derivesMore_0 : List UInt8 := [3, 62, 3, 54, 4, 21, 4, 42, 180, 0, 199, 180, 0, 203, 162, 0, 98, 42, 180, 0, 199, 180, 1, 49]
abbrev dktX0_derivesMore_0 : List UInt8 := dkwX0_derivesMore_0 ++ dktX0_derivesMore_1
theorem dksX0_derivesMore_0 : cX0_derivesMore.data.toList.drop 0 = dktX0_derivesMore_0 := by decide +kernel
theorem dksX0_derivesMore_1 : cX0_derivesMore.data.toList.drop 24 = dktX0_derivesMore_1 := dk_seg dksX0_derivesMore_0 24 rfl rfl
theorem dksX0_derivesMore_2 : cX0_derivesMore.data.toList.drop 47 = dktX0_derivesMore_2 := dk_seg dksX0_derivesMore_1 23 rfl rfl
theorem dksX0_derivesMore_3 : cX0_derivesMore.data.toList.drop 69 = dktX0_derivesMore_3 := dk_seg dksX0_derivesMore_2 22 rfl rfl
theorem dksX0_derivesMore_4 : cX0_derivesMore.data.toList.drop 93 = dktX0_derivesMore_4 := dk_seg dksX0_derivesMore_3 24 rfl rfl
theorem dX0_derivesMore_0 : decode cX0_derivesMore 0 = .ok (.iconst 0, 1) := dk_3 (dk_at dksX0_derivesMore_0 0 rfl rfl)
theorem dX0_derivesMore_1 : decode cX0_derivesMore 1 = .ok (.istore_n 3, 1) := dk_62 (dk_at dksX0_derivesMore_0 1 rfl rfl)
theorem dX0_derivesMore_2 : decode cX0_derivesMore 2 = .ok (.iconst 0, 1) := dk_3 (dk_at dksX0_derivesMore_0 2 rfl rfl)
theorem dX0_derivesMore_3 : decode cX0_derivesMore 3 = .ok (.istore 4, 2) := dk_54 4 (dk_at dksX0_derivesMore_0 3 rfl rfl)
theorem dX0_derivesMore_5 : decode cX0_derivesMore 5 = .ok (.iload 4, 2) := dk_21 4 (dk_at dksX0_derivesMore_0 5 rfl rfl)
theorem dX0_derivesMore_7 : decode cX0_derivesMore 7 = .ok (.aload_n 0, 1) := dk_42 (dk_at dksX0_derivesMore_0 7 rfl rfl)
theorem dX0_derivesMore_8 : decode cX0_derivesMore 8 = .ok (.getfield 199, 3) := dk_180 0 199 (dk_at dksX0_derivesMore_0 8 rfl rfl)
theorem dX0_derivesMore_11 : decode cX0_derivesMore 11 = .ok (.getfield 203, 3) := dk_180 0 203 (dk_at dksX0_derivesMore_0 11 rfl rfl)
theorem dX0_derivesMore_14 : decode cX0_derivesMore 14 = .ok (.if_icmp .ge 98, 3) := dk_162 0 98 (dk_at dksX0_derivesMore_0 14 rfl rfl)
theorem dX0_derivesMore_17 : decode cX0_derivesMore 17 = .ok (.aload_n 0, 1) := dk_42 (dk_at dksX0_derivesMore_0 17 rfl rfl)
theorem dX0_derivesMore_18 : decode cX0_derivesMore 18 = .ok (.getfield 199, 3) := dk_180 0 199 (dk_at dksX0_derivesMore_0 18 rfl rfl)
theorem dX0_derivesMore_21 : decode cX0_derivesMore 21 = .ok (.getfield 305, 3) := dk_180 1 49 (dk_at dksX0_derivesMore_0 21 rfl rfl)
theorem dX0_derivesMore_24 : decode cX0_derivesMore 24 = .ok (.iload 4, 2) := dk_21 4 (dk_at dksX0_derivesMore_1 0 rfl rfl)
theorem dX0_derivesMore_26 : decode cX0_derivesMore 26 = .ok (.iaload, 1) := dk_46 (dk_at dksX0_derivesMore_1 2 rfl rfl)
theorem dX0_derivesMore_27 : decode cX0_derivesMore 27 = .ok (.bipush 26, 2) := dk_16 26 (dk_at dksX0_derivesMore_1 3 rfl rfl)
theorem dX0_derivesMore_29 : decode cX0_derivesMore 29 = .ok (.isub, 1) := dk_100 (dk_at dksX0_derivesMore_1 5 rfl rfl)
theorem dX0_derivesMore_30 : decode cX0_derivesMore 30 = .ok (.istore 5, 2) := dk_54 5 (dk_at dksX0_derivesMore_1 6 rfl rfl)
theorem dX0_derivesMore_32 : decode cX0_derivesMore 32 = .ok (.aload_n 0, 1) := dk_42 (dk_at dksX0_derivesMore_1 8 rfl rfl)
theorem dX0_derivesMore_33 : decode cX0_derivesMore 33 = .ok (.iload 4, 2) := dk_21 4 (dk_at dksX0_derivesMore_1 9 rfl rfl)
theorem dX0_derivesMore_35 : decode cX0_derivesMore 35 = .ok (.invokevirtual 351, 3) := dk_182 1 95 (dk_at dksX0_derivesMore_1 11 rfl rfl)
theorem dX0_derivesMore_38 : decode cX0_derivesMore 38 = .ok (.ifCond .eq 68, 3) := dk_153 0 68 (dk_at dksX0_derivesMore_1 14 rfl rfl)
theorem dX0_derivesMore_41 : decode cX0_derivesMore 41 = .ok (.aload_n 0, 1) := dk_42 (dk_at dksX0_derivesMore_1 17 rfl rfl)
theorem dX0_derivesMore_42 : decode cX0_derivesMore 42 = .ok (.getfield 170, 3) := dk_180 0 170 (dk_at dksX0_derivesMore_1 18 rfl rfl)
theorem dX0_derivesMore_45 : decode cX0_derivesMore 45 = .ok (.iload_n 1, 1) := dk_27 (dk_at dksX0_derivesMore_1 21 rfl rfl)
theorem dX0_derivesMore_46 : decode cX0_derivesMore 46 = .ok (.iload_n 2, 1) := dk_28 (dk_at dksX0_derivesMore_1 22 rfl rfl)
theorem dX0_derivesMore_47 : decode cX0_derivesMore 47 = .ok (.invokestatic 537, 3) := dk_184 2 25 (dk_at dksX0_derivesMore_2 0 rfl rfl)
theorem dX0_derivesMore_50 : decode cX0_derivesMore 50 = .ok (.iaload, 1) := dk_46 (dk_at dksX0_derivesMore_2 3 rfl rfl)
theorem dX0_derivesMore_51 : decode cX0_derivesMore 51 = .ok (.iload 5, 2) := dk_21 5 (dk_at dksX0_derivesMore_2 4 rfl rfl)
theorem dX0_derivesMore_53 : decode cX0_derivesMore 53 = .ok (.invokestatic 211, 3) := dk_184 0 211 (dk_at dksX0_derivesMore_2 6 rfl rfl)
theorem dX0_derivesMore_56 : decode cX0_derivesMore 56 = .ok (.ifCond .ne 50, 3) := dk_154 0 50 (dk_at dksX0_derivesMore_2 9 rfl rfl)
theorem dX0_derivesMore_59 : decode cX0_derivesMore 59 = .ok (.aload_n 0, 1) := dk_42 (dk_at dksX0_derivesMore_2 12 rfl rfl)
theorem dX0_derivesMore_60 : decode cX0_derivesMore 60 = .ok (.iload 4, 2) := dk_21 4 (dk_at dksX0_derivesMore_2 13 rfl rfl)
theorem dX0_derivesMore_62 : decode cX0_derivesMore 62 = .ok (.iload_n 1, 1) := dk_27 (dk_at dksX0_derivesMore_2 15 rfl rfl)
theorem dX0_derivesMore_63 : decode cX0_derivesMore 63 = .ok (.iload_n 2, 1) := dk_28 (dk_at dksX0_derivesMore_2 16 rfl rfl)
theorem dX0_derivesMore_64 : decode cX0_derivesMore 64 = .ok (.aload_n 0, 1) := dk_42 (dk_at dksX0_derivesMore_2 17 rfl rfl)
theorem dX0_derivesMore_65 : decode cX0_derivesMore 65 = .ok (.getfield 101, 3) := dk_180 0 101 (dk_at dksX0_derivesMore_2 18 rfl rfl)
theorem dX0_derivesMore_68 : decode cX0_derivesMore 68 = .ok (.aload_n 0, 1) := dk_42 (dk_at dksX0_derivesMore_2 21 rfl rfl)
theorem dX0_derivesMore_69 : decode cX0_derivesMore 69 = .ok (.getfield 125, 3) := dk_180 0 125 (dk_at dksX0_derivesMore_3 0 rfl rfl)
theorem dX0_derivesMore_72 : decode cX0_derivesMore 72 = .ok (.aload_n 0, 1) := dk_42 (dk_at dksX0_derivesMore_3 3 rfl rfl)
theorem dX0_derivesMore_73 : decode cX0_derivesMore 73 = .ok (.getfield 130, 3) := dk_180 0 130 (dk_at dksX0_derivesMore_3 4 rfl rfl)
theorem dX0_derivesMore_76 : decode cX0_derivesMore 76 = .ok (.iconst 0, 1) := dk_3 (dk_at dksX0_derivesMore_3 7 rfl rfl)
theorem dX0_derivesMore_77 : decode cX0_derivesMore 77 = .ok (.iconst 1, 1) := dk_4 (dk_at dksX0_derivesMore_3 8 rfl rfl)
theorem dX0_derivesMore_78 : decode cX0_derivesMore 78 = .ok (.invokevirtual 558, 3) := dk_182 2 46 (dk_at dksX0_derivesMore_3 9 rfl rfl)
theorem dX0_derivesMore_81 : decode cX0_derivesMore 81 = .ok (.ifCond .ne 6, 3) := dk_154 0 6 (dk_at dksX0_derivesMore_3 12 rfl rfl)
theorem dX0_derivesMore_84 : decode cX0_derivesMore 84 = .ok (.goto 22, 3) := dk_167 0 22 (dk_at dksX0_derivesMore_3 15 rfl rfl)
theorem dX0_derivesMore_87 : decode cX0_derivesMore 87 = .ok (.aload_n 0, 1) := dk_42 (dk_at dksX0_derivesMore_3 18 rfl rfl)
theorem dX0_derivesMore_88 : decode cX0_derivesMore 88 = .ok (.getfield 170, 3) := dk_180 0 170 (dk_at dksX0_derivesMore_3 19 rfl rfl)
theorem dX0_derivesMore_91 : decode cX0_derivesMore 91 = .ok (.iload_n 1, 1) := dk_27 (dk_at dksX0_derivesMore_3 22 rfl rfl)
theorem dX0_derivesMore_92 : decode cX0_derivesMore 92 = .ok (.iload_n 2, 1) := dk_28 (dk_at dksX0_derivesMore_3 23 rfl rfl)
theorem dX0_derivesMore_93 : decode cX0_derivesMore 93 = .ok (.invokestatic 537, 3) := dk_184 2 25 (dk_at dksX0_derivesMore_4 0 rfl rfl)
theorem dX0_derivesMore_96 : decode cX0_derivesMore 96 = .ok (.dup2, 1) := dk_92 (dk_at dksX0_derivesMore_4 3 rfl rfl)
theorem dX0_derivesMore_97 : decode cX0_derivesMore 97 = .ok (.iaload, 1) := dk_46 (dk_at dksX0_derivesMore_4 4 rfl rfl)
theorem dX0_derivesMore_98 : decode cX0_derivesMore 98 = .ok (.iconst 1, 1) := dk_4 (dk_at dksX0_derivesMore_4 5 rfl rfl)
theorem dX0_derivesMore_99 : decode cX0_derivesMore 99 = .ok (.iload 5, 2) := dk_21 5 (dk_at dksX0_derivesMore_4 6 rfl rfl)
theorem dX0_derivesMore_101 : decode cX0_derivesMore 101 = .ok (.ishl, 1) := dk_120 (dk_at dksX0_derivesMore_4 8 rfl rfl)
theorem dX0_derivesMore_102 : decode cX0_derivesMore 102 = .ok (.ior, 1) := dk_128 (dk_at dksX0_derivesMore_4 9 rfl rfl)
theorem dX0_derivesMore_103 : decode cX0_derivesMore 103 = .ok (.iastore, 1) := dk_79 (dk_at dksX0_derivesMore_4 10 rfl rfl)
theorem dX0_derivesMore_104 : decode cX0_derivesMore 104 = .ok (.iconst 1, 1) := dk_4 (dk_at dksX0_derivesMore_4 11 rfl rfl)
theorem dX0_derivesMore_105 : decode cX0_derivesMore 105 = .ok (.istore_n 3, 1) := dk_62 (dk_at dksX0_derivesMore_4 12 rfl rfl)
theorem dX0_derivesMore_106 : decode cX0_derivesMore 106 = .ok (.iinc 4 1, 3) := dk_132 4 1 (dk_at dksX0_derivesMore_4 13 rfl rfl)
theorem dX0_derivesMore_109 : decode cX0_derivesMore 109 = .ok (.goto (-104), 3) := dk_167 255 152 (dk_at dksX0_derivesMore_4 16 rfl rfl)
theorem dX0_derivesMore_112 : decode cX0_derivesMore 112 = .ok (.iload_n 3, 1) := dk_29 (dk_at dksX0_derivesMore_4 19 rfl rfl)
theorem dX0_derivesMore_113 : decode cX0_derivesMore 113 = .ok (.ireturn, 1) := dk_172 (dk_at dksX0_derivesMore_4 20 rfl rfl)
abbrev cX0_folds : ByteArray := prog_1_method_85_code
def yX0_folds : MethodName := ⟨RX0, "folds", "(IIILPackedForest$Part;LPackedForest$Fold;LPackedForest$Fold;II)I"⟩
def dkwX0_folds_7 : List UInt8 := [181, 0, 91, 42, 25, 10, 181, 0, 94, 132, 9, 1, 167, 255, 118, 42, 180, 0, 91, 29, 46, 172]
abbrev dktX0_folds_7 : List UInt8 := dkwX0_folds_7 ++ []
def dkwX0_folds_6 : List UInt8 := [79, 132, 11, 1, 167, 255, 185, 132, 10, 1, 167, 255, 161, 42, 180, 0, 91, 58, 10, 42, 42, 180, 0, 94]
abbrev dktX0_folds_6 : List UInt8 := dkwX0_folds_6 ++ dktX0_folds_7
def dkwX0_folds_5 : List UInt8 := [25, 4, 27, 21, 9, 21, 11, 21, 10, 185, 2, 16, 5, 0, 185, 2, 21, 3, 0, 185, 2, 21, 3, 0]
abbrev dktX0_folds_5 : List UInt8 := dkwX0_folds_5 ++ dktX0_folds_6
def dkwX0_folds_4 : List UInt8 := [180, 0, 94, 21, 10, 25, 5, 42, 180, 0, 94, 21, 10, 46, 25, 6, 42, 180, 0, 91, 21, 11, 46]
abbrev dktX0_folds_4 : List UInt8 := dkwX0_folds_4 ++ dktX0_folds_5
def dkwX0_folds_3 : List UInt8 := [54, 11, 21, 11, 21, 10, 163, 0, 70, 42, 180, 0, 91, 21, 11, 46, 21, 7, 159, 0, 52, 42]
abbrev dktX0_folds_3 : List UInt8 := dkwX0_folds_3 ++ dktX0_folds_4
def dkwX0_folds_2 : List UInt8 := [27, 46, 162, 0, 130, 28, 54, 10, 21, 10, 29, 163, 0, 95, 42, 180, 0, 94, 21, 10, 21, 7, 79, 28]
abbrev dktX0_folds_2 : List UInt8 := dkwX0_folds_2 ++ dktX0_folds_3
def dkwX0_folds_1 : List UInt8 := [167, 0, 5, 21, 7, 79, 132, 9, 1, 167, 255, 227, 3, 54, 9, 21, 9, 42, 180, 0, 199, 180, 0, 232]
abbrev dktX0_folds_1 : List UInt8 := dkwX0_folds_1 ++ dktX0_folds_2
def dkwX0_folds_0 : List UInt8 := [28, 54, 9, 21, 9, 29, 163, 0, 29, 42, 180, 0, 91, 21, 9, 21, 9, 28, 160, 0, 8, 21, 8]
abbrev dktX0_folds_0 : List UInt8 := dkwX0_folds_0 ++ dktX0_folds_1
theorem dksX0_folds_0 : cX0_folds.data.toList.drop 0 = dktX0_folds_0 := by decide +kernel
theorem dksX0_folds_1 : cX0_folds.data.toList.drop 23 = dktX0_folds_1 := dk_seg dksX0_folds_0 23 rfl rfl
theorem dksX0_folds_2 : cX0_folds.data.toList.drop 47 = dktX0_folds_2 := dk_seg dksX0_folds_1 24 rfl rfl
theorem dksX0_folds_3 : cX0_folds.data.toList.drop 71 = dktX0_folds_3 := dk_seg dksX0_folds_2 24 rfl rfl
theorem dksX0_folds_4 : cX0_folds.data.toList.drop 93 = dktX0_folds_4 := dk_seg dksX0_folds_3 22 rfl rfl
theorem dksX0_folds_5 : cX0_folds.data.toList.drop 116 = dktX0_folds_5 := dk_seg dksX0_folds_4 23 rfl rfl
theorem dksX0_folds_6 : cX0_folds.data.toList.drop 140 = dktX0_folds_6 := dk_seg dksX0_folds_5 24 rfl rfl
theorem dksX0_folds_7 : cX0_folds.data.toList.drop 164 = dktX0_folds_7 := dk_seg dksX0_folds_6 24 rfl rfl
theorem dX0_folds_0 : decode cX0_folds 0 = .ok (.iload_n 2, 1) := dk_28 (dk_at dksX0_folds_0 0 rfl rfl)
theorem dX0_folds_1 : decode cX0_folds 1 = .ok (.istore 9, 2) := dk_54 9 (dk_at dksX0_folds_0 1 rfl rfl)
theorem dX0_folds_3 : decode cX0_folds 3 = .ok (.iload 9, 2) := dk_21 9 (dk_at dksX0_folds_0 3 rfl rfl)
theorem dX0_folds_5 : decode cX0_folds 5 = .ok (.iload_n 3, 1) := dk_29 (dk_at dksX0_folds_0 5 rfl rfl)
theorem dX0_folds_6 : decode cX0_folds 6 = .ok (.if_icmp .gt 29, 3) := dk_163 0 29 (dk_at dksX0_folds_0 6 rfl rfl)
theorem dX0_folds_9 : decode cX0_folds 9 = .ok (.aload_n 0, 1) := dk_42 (dk_at dksX0_folds_0 9 rfl rfl)
theorem dX0_folds_10 : decode cX0_folds 10 = .ok (.getfield 91, 3) := dk_180 0 91 (dk_at dksX0_folds_0 10 rfl rfl)
theorem dX0_folds_13 : decode cX0_folds 13 = .ok (.iload 9, 2) := dk_21 9 (dk_at dksX0_folds_0 13 rfl rfl)
theorem dX0_folds_15 : decode cX0_folds 15 = .ok (.iload 9, 2) := dk_21 9 (dk_at dksX0_folds_0 15 rfl rfl)
theorem dX0_folds_17 : decode cX0_folds 17 = .ok (.iload_n 2, 1) := dk_28 (dk_at dksX0_folds_0 17 rfl rfl)
theorem dX0_folds_18 : decode cX0_folds 18 = .ok (.if_icmp .ne 8, 3) := dk_160 0 8 (dk_at dksX0_folds_0 18 rfl rfl)
theorem dX0_folds_21 : decode cX0_folds 21 = .ok (.iload 8, 2) := dk_21 8 (dk_at dksX0_folds_0 21 rfl rfl)
theorem dX0_folds_23 : decode cX0_folds 23 = .ok (.goto 5, 3) := dk_167 0 5 (dk_at dksX0_folds_1 0 rfl rfl)
theorem dX0_folds_26 : decode cX0_folds 26 = .ok (.iload 7, 2) := dk_21 7 (dk_at dksX0_folds_1 3 rfl rfl)
theorem dX0_folds_28 : decode cX0_folds 28 = .ok (.iastore, 1) := dk_79 (dk_at dksX0_folds_1 5 rfl rfl)
theorem dX0_folds_29 : decode cX0_folds 29 = .ok (.iinc 9 1, 3) := dk_132 9 1 (dk_at dksX0_folds_1 6 rfl rfl)
theorem dX0_folds_32 : decode cX0_folds 32 = .ok (.goto (-29), 3) := dk_167 255 227 (dk_at dksX0_folds_1 9 rfl rfl)
theorem dX0_folds_35 : decode cX0_folds 35 = .ok (.iconst 0, 1) := dk_3 (dk_at dksX0_folds_1 12 rfl rfl)
theorem dX0_folds_36 : decode cX0_folds 36 = .ok (.istore 9, 2) := dk_54 9 (dk_at dksX0_folds_1 13 rfl rfl)
theorem dX0_folds_38 : decode cX0_folds 38 = .ok (.iload 9, 2) := dk_21 9 (dk_at dksX0_folds_1 15 rfl rfl)
theorem dX0_folds_40 : decode cX0_folds 40 = .ok (.aload_n 0, 1) := dk_42 (dk_at dksX0_folds_1 17 rfl rfl)
theorem dX0_folds_41 : decode cX0_folds 41 = .ok (.getfield 199, 3) := dk_180 0 199 (dk_at dksX0_folds_1 18 rfl rfl)
theorem dX0_folds_44 : decode cX0_folds 44 = .ok (.getfield 232, 3) := dk_180 0 232 (dk_at dksX0_folds_1 21 rfl rfl)
theorem dX0_folds_47 : decode cX0_folds 47 = .ok (.iload_n 1, 1) := dk_27 (dk_at dksX0_folds_2 0 rfl rfl)
theorem dX0_folds_48 : decode cX0_folds 48 = .ok (.iaload, 1) := dk_46 (dk_at dksX0_folds_2 1 rfl rfl)
theorem dX0_folds_49 : decode cX0_folds 49 = .ok (.if_icmp .ge 130, 3) := dk_162 0 130 (dk_at dksX0_folds_2 2 rfl rfl)
theorem dX0_folds_52 : decode cX0_folds 52 = .ok (.iload_n 2, 1) := dk_28 (dk_at dksX0_folds_2 5 rfl rfl)
theorem dX0_folds_53 : decode cX0_folds 53 = .ok (.istore 10, 2) := dk_54 10 (dk_at dksX0_folds_2 6 rfl rfl)
theorem dX0_folds_55 : decode cX0_folds 55 = .ok (.iload 10, 2) := dk_21 10 (dk_at dksX0_folds_2 8 rfl rfl)
theorem dX0_folds_57 : decode cX0_folds 57 = .ok (.iload_n 3, 1) := dk_29 (dk_at dksX0_folds_2 10 rfl rfl)
theorem dX0_folds_58 : decode cX0_folds 58 = .ok (.if_icmp .gt 95, 3) := dk_163 0 95 (dk_at dksX0_folds_2 11 rfl rfl)
theorem dX0_folds_61 : decode cX0_folds 61 = .ok (.aload_n 0, 1) := dk_42 (dk_at dksX0_folds_2 14 rfl rfl)
theorem dX0_folds_62 : decode cX0_folds 62 = .ok (.getfield 94, 3) := dk_180 0 94 (dk_at dksX0_folds_2 15 rfl rfl)
theorem dX0_folds_65 : decode cX0_folds 65 = .ok (.iload 10, 2) := dk_21 10 (dk_at dksX0_folds_2 18 rfl rfl)
theorem dX0_folds_67 : decode cX0_folds 67 = .ok (.iload 7, 2) := dk_21 7 (dk_at dksX0_folds_2 20 rfl rfl)
theorem dX0_folds_69 : decode cX0_folds 69 = .ok (.iastore, 1) := dk_79 (dk_at dksX0_folds_2 22 rfl rfl)
theorem dX0_folds_70 : decode cX0_folds 70 = .ok (.iload_n 2, 1) := dk_28 (dk_at dksX0_folds_2 23 rfl rfl)
theorem dX0_folds_71 : decode cX0_folds 71 = .ok (.istore 11, 2) := dk_54 11 (dk_at dksX0_folds_3 0 rfl rfl)
theorem dX0_folds_73 : decode cX0_folds 73 = .ok (.iload 11, 2) := dk_21 11 (dk_at dksX0_folds_3 2 rfl rfl)
theorem dX0_folds_75 : decode cX0_folds 75 = .ok (.iload 10, 2) := dk_21 10 (dk_at dksX0_folds_3 4 rfl rfl)
theorem dX0_folds_77 : decode cX0_folds 77 = .ok (.if_icmp .gt 70, 3) := dk_163 0 70 (dk_at dksX0_folds_3 6 rfl rfl)
theorem dX0_folds_80 : decode cX0_folds 80 = .ok (.aload_n 0, 1) := dk_42 (dk_at dksX0_folds_3 9 rfl rfl)
theorem dX0_folds_81 : decode cX0_folds 81 = .ok (.getfield 91, 3) := dk_180 0 91 (dk_at dksX0_folds_3 10 rfl rfl)
theorem dX0_folds_84 : decode cX0_folds 84 = .ok (.iload 11, 2) := dk_21 11 (dk_at dksX0_folds_3 13 rfl rfl)
theorem dX0_folds_86 : decode cX0_folds 86 = .ok (.iaload, 1) := dk_46 (dk_at dksX0_folds_3 15 rfl rfl)
theorem dX0_folds_87 : decode cX0_folds 87 = .ok (.iload 7, 2) := dk_21 7 (dk_at dksX0_folds_3 16 rfl rfl)
theorem dX0_folds_89 : decode cX0_folds 89 = .ok (.if_icmp .eq 52, 3) := dk_159 0 52 (dk_at dksX0_folds_3 18 rfl rfl)
theorem dX0_folds_92 : decode cX0_folds 92 = .ok (.aload_n 0, 1) := dk_42 (dk_at dksX0_folds_3 21 rfl rfl)
theorem dX0_folds_93 : decode cX0_folds 93 = .ok (.getfield 94, 3) := dk_180 0 94 (dk_at dksX0_folds_4 0 rfl rfl)
theorem dX0_folds_96 : decode cX0_folds 96 = .ok (.iload 10, 2) := dk_21 10 (dk_at dksX0_folds_4 3 rfl rfl)
theorem dX0_folds_98 : decode cX0_folds 98 = .ok (.aload 5, 2) := dk_25 5 (dk_at dksX0_folds_4 5 rfl rfl)
theorem dX0_folds_100 : decode cX0_folds 100 = .ok (.aload_n 0, 1) := dk_42 (dk_at dksX0_folds_4 7 rfl rfl)
theorem dX0_folds_101 : decode cX0_folds 101 = .ok (.getfield 94, 3) := dk_180 0 94 (dk_at dksX0_folds_4 8 rfl rfl)
theorem dX0_folds_104 : decode cX0_folds 104 = .ok (.iload 10, 2) := dk_21 10 (dk_at dksX0_folds_4 11 rfl rfl)
theorem dX0_folds_106 : decode cX0_folds 106 = .ok (.iaload, 1) := dk_46 (dk_at dksX0_folds_4 13 rfl rfl)
theorem dX0_folds_107 : decode cX0_folds 107 = .ok (.aload 6, 2) := dk_25 6 (dk_at dksX0_folds_4 14 rfl rfl)
theorem dX0_folds_109 : decode cX0_folds 109 = .ok (.aload_n 0, 1) := dk_42 (dk_at dksX0_folds_4 16 rfl rfl)
theorem dX0_folds_110 : decode cX0_folds 110 = .ok (.getfield 91, 3) := dk_180 0 91 (dk_at dksX0_folds_4 17 rfl rfl)
theorem dX0_folds_113 : decode cX0_folds 113 = .ok (.iload 11, 2) := dk_21 11 (dk_at dksX0_folds_4 20 rfl rfl)
theorem dX0_folds_115 : decode cX0_folds 115 = .ok (.iaload, 1) := dk_46 (dk_at dksX0_folds_4 22 rfl rfl)
theorem dX0_folds_116 : decode cX0_folds 116 = .ok (.aload 4, 2) := dk_25 4 (dk_at dksX0_folds_5 0 rfl rfl)
theorem dX0_folds_118 : decode cX0_folds 118 = .ok (.iload_n 1, 1) := dk_27 (dk_at dksX0_folds_5 2 rfl rfl)
theorem dX0_folds_119 : decode cX0_folds 119 = .ok (.iload 9, 2) := dk_21 9 (dk_at dksX0_folds_5 3 rfl rfl)
theorem dX0_folds_121 : decode cX0_folds 121 = .ok (.iload 11, 2) := dk_21 11 (dk_at dksX0_folds_5 5 rfl rfl)
theorem dX0_folds_123 : decode cX0_folds 123 = .ok (.iload 10, 2) := dk_21 10 (dk_at dksX0_folds_5 7 rfl rfl)
theorem dX0_folds_125 : decode cX0_folds 125 = .ok (.invokeinterface 528 5, 5) := by decide +kernel
theorem dX0_folds_130 : decode cX0_folds 130 = .ok (.invokeinterface 533 3, 5) := by decide +kernel
theorem dX0_folds_135 : decode cX0_folds 135 = .ok (.invokeinterface 533 3, 5) := by decide +kernel
theorem dX0_folds_140 : decode cX0_folds 140 = .ok (.iastore, 1) := dk_79 (dk_at dksX0_folds_6 0 rfl rfl)
theorem dX0_folds_141 : decode cX0_folds 141 = .ok (.iinc 11 1, 3) := dk_132 11 1 (dk_at dksX0_folds_6 1 rfl rfl)
theorem dX0_folds_144 : decode cX0_folds 144 = .ok (.goto (-71), 3) := dk_167 255 185 (dk_at dksX0_folds_6 4 rfl rfl)
theorem dX0_folds_147 : decode cX0_folds 147 = .ok (.iinc 10 1, 3) := dk_132 10 1 (dk_at dksX0_folds_6 7 rfl rfl)
theorem dX0_folds_150 : decode cX0_folds 150 = .ok (.goto (-95), 3) := dk_167 255 161 (dk_at dksX0_folds_6 10 rfl rfl)
theorem dX0_folds_153 : decode cX0_folds 153 = .ok (.aload_n 0, 1) := dk_42 (dk_at dksX0_folds_6 13 rfl rfl)
theorem dX0_folds_154 : decode cX0_folds 154 = .ok (.getfield 91, 3) := dk_180 0 91 (dk_at dksX0_folds_6 14 rfl rfl)
theorem dX0_folds_157 : decode cX0_folds 157 = .ok (.astore 10, 2) := dk_58 10 (dk_at dksX0_folds_6 17 rfl rfl)
theorem dX0_folds_159 : decode cX0_folds 159 = .ok (.aload_n 0, 1) := dk_42 (dk_at dksX0_folds_6 19 rfl rfl)
theorem dX0_folds_160 : decode cX0_folds 160 = .ok (.aload_n 0, 1) := dk_42 (dk_at dksX0_folds_6 20 rfl rfl)
theorem dX0_folds_161 : decode cX0_folds 161 = .ok (.getfield 94, 3) := dk_180 0 94 (dk_at dksX0_folds_6 21 rfl rfl)
theorem dX0_folds_164 : decode cX0_folds 164 = .ok (.putfield 91, 3) := dk_181 0 91 (dk_at dksX0_folds_7 0 rfl rfl)
theorem dX0_folds_167 : decode cX0_folds 167 = .ok (.aload_n 0, 1) := dk_42 (dk_at dksX0_folds_7 3 rfl rfl)
theorem dX0_folds_168 : decode cX0_folds 168 = .ok (.aload 10, 2) := dk_25 10 (dk_at dksX0_folds_7 4 rfl rfl)
theorem dX0_folds_170 : decode cX0_folds 170 = .ok (.putfield 94, 3) := dk_181 0 94 (dk_at dksX0_folds_7 6 rfl rfl)
theorem dX0_folds_173 : decode cX0_folds 173 = .ok (.iinc 9 1, 3) := dk_132 9 1 (dk_at dksX0_folds_7 9 rfl rfl)
theorem dX0_folds_176 : decode cX0_folds 176 = .ok (.goto (-138), 3) := dk_167 255 118 (dk_at dksX0_folds_7 12 rfl rfl)
theorem dX0_folds_179 : decode cX0_folds 179 = .ok (.aload_n 0, 1) := dk_42 (dk_at dksX0_folds_7 15 rfl rfl)
theorem dX0_folds_180 : decode cX0_folds 180 = .ok (.getfield 91, 3) := dk_180 0 91 (dk_at dksX0_folds_7 16 rfl rfl)
theorem dX0_folds_183 : decode cX0_folds 183 = .ok (.iload_n 3, 1) := dk_29 (dk_at dksX0_folds_7 19 rfl rfl)
theorem dX0_folds_184 : decode cX0_folds 184 = .ok (.iaload, 1) := dk_46 (dk_at dksX0_folds_7 20 rfl rfl)
theorem dX0_folds_185 : decode cX0_folds 185 = .ok (.ireturn, 1) := dk_172 (dk_at dksX0_folds_7 21 rfl rfl)
abbrev cX0_livesMore : ByteArray := prog_1_method_98_code
def yX0_livesMore : MethodName := ⟨RX0, "livesMore", "(II)Z"⟩
def dkwX0_livesMore_3 : List UInt8 := [180, 0, 157, 21, 4, 27, 28, 184, 2, 34, 4, 84, 4, 62, 132, 4, 1, 167, 255, 174, 29, 172]
abbrev dktX0_livesMore_3 : List UInt8 := dkwX0_livesMore_3 ++ []
def dkwX0_livesMore_2 : List UInt8 := [180, 0, 106, 42, 180, 0, 125, 42, 180, 0, 130, 3, 4, 182, 2, 46, 154, 0, 6, 167, 0, 18, 42]
abbrev dktX0_livesMore_2 : List UInt8 := dkwX0_livesMore_2 ++ dktX0_livesMore_3
def dkwX0_livesMore_1 : List UInt8 := [153, 0, 61, 42, 180, 0, 157, 21, 4, 27, 28, 184, 2, 34, 51, 154, 0, 46, 42, 21, 4, 27, 28, 42]
abbrev dktX0_livesMore_1 : List UInt8 := dkwX0_livesMore_1 ++ dktX0_livesMore_2
def dkwX0_livesMore_0 : List UInt8 := [3, 62, 3, 54, 4, 21, 4, 42, 180, 0, 199, 180, 0, 203, 162, 0, 76, 42, 21, 4, 182, 1, 95]
abbrev dktX0_livesMore_0 : List UInt8 := dkwX0_livesMore_0 ++ dktX0_livesMore_1
theorem dksX0_livesMore_0 : cX0_livesMore.data.toList.drop 0 = dktX0_livesMore_0 := by decide +kernel
theorem dksX0_livesMore_1 : cX0_livesMore.data.toList.drop 23 = dktX0_livesMore_1 := dk_seg dksX0_livesMore_0 23 rfl rfl
theorem dksX0_livesMore_2 : cX0_livesMore.data.toList.drop 47 = dktX0_livesMore_2 := dk_seg dksX0_livesMore_1 24 rfl rfl
theorem dksX0_livesMore_3 : cX0_livesMore.data.toList.drop 70 = dktX0_livesMore_3 := dk_seg dksX0_livesMore_2 23 rfl rfl
theorem dX0_livesMore_0 : decode cX0_livesMore 0 = .ok (.iconst 0, 1) := dk_3 (dk_at dksX0_livesMore_0 0 rfl rfl)
theorem dX0_livesMore_1 : decode cX0_livesMore 1 = .ok (.istore_n 3, 1) := dk_62 (dk_at dksX0_livesMore_0 1 rfl rfl)
theorem dX0_livesMore_2 : decode cX0_livesMore 2 = .ok (.iconst 0, 1) := dk_3 (dk_at dksX0_livesMore_0 2 rfl rfl)
theorem dX0_livesMore_3 : decode cX0_livesMore 3 = .ok (.istore 4, 2) := dk_54 4 (dk_at dksX0_livesMore_0 3 rfl rfl)
theorem dX0_livesMore_5 : decode cX0_livesMore 5 = .ok (.iload 4, 2) := dk_21 4 (dk_at dksX0_livesMore_0 5 rfl rfl)
theorem dX0_livesMore_7 : decode cX0_livesMore 7 = .ok (.aload_n 0, 1) := dk_42 (dk_at dksX0_livesMore_0 7 rfl rfl)
theorem dX0_livesMore_8 : decode cX0_livesMore 8 = .ok (.getfield 199, 3) := dk_180 0 199 (dk_at dksX0_livesMore_0 8 rfl rfl)
theorem dX0_livesMore_11 : decode cX0_livesMore 11 = .ok (.getfield 203, 3) := dk_180 0 203 (dk_at dksX0_livesMore_0 11 rfl rfl)
theorem dX0_livesMore_14 : decode cX0_livesMore 14 = .ok (.if_icmp .ge 76, 3) := dk_162 0 76 (dk_at dksX0_livesMore_0 14 rfl rfl)
theorem dX0_livesMore_17 : decode cX0_livesMore 17 = .ok (.aload_n 0, 1) := dk_42 (dk_at dksX0_livesMore_0 17 rfl rfl)
theorem dX0_livesMore_18 : decode cX0_livesMore 18 = .ok (.iload 4, 2) := dk_21 4 (dk_at dksX0_livesMore_0 18 rfl rfl)
theorem dX0_livesMore_20 : decode cX0_livesMore 20 = .ok (.invokevirtual 351, 3) := dk_182 1 95 (dk_at dksX0_livesMore_0 20 rfl rfl)
theorem dX0_livesMore_23 : decode cX0_livesMore 23 = .ok (.ifCond .eq 61, 3) := dk_153 0 61 (dk_at dksX0_livesMore_1 0 rfl rfl)
theorem dX0_livesMore_26 : decode cX0_livesMore 26 = .ok (.aload_n 0, 1) := dk_42 (dk_at dksX0_livesMore_1 3 rfl rfl)
theorem dX0_livesMore_27 : decode cX0_livesMore 27 = .ok (.getfield 157, 3) := dk_180 0 157 (dk_at dksX0_livesMore_1 4 rfl rfl)
theorem dX0_livesMore_30 : decode cX0_livesMore 30 = .ok (.iload 4, 2) := dk_21 4 (dk_at dksX0_livesMore_1 7 rfl rfl)
theorem dX0_livesMore_32 : decode cX0_livesMore 32 = .ok (.iload_n 1, 1) := dk_27 (dk_at dksX0_livesMore_1 9 rfl rfl)
theorem dX0_livesMore_33 : decode cX0_livesMore 33 = .ok (.iload_n 2, 1) := dk_28 (dk_at dksX0_livesMore_1 10 rfl rfl)
theorem dX0_livesMore_34 : decode cX0_livesMore 34 = .ok (.invokestatic 546, 3) := dk_184 2 34 (dk_at dksX0_livesMore_1 11 rfl rfl)
theorem dX0_livesMore_37 : decode cX0_livesMore 37 = .ok (.baload, 1) := dk_51 (dk_at dksX0_livesMore_1 14 rfl rfl)
theorem dX0_livesMore_38 : decode cX0_livesMore 38 = .ok (.ifCond .ne 46, 3) := dk_154 0 46 (dk_at dksX0_livesMore_1 15 rfl rfl)
theorem dX0_livesMore_41 : decode cX0_livesMore 41 = .ok (.aload_n 0, 1) := dk_42 (dk_at dksX0_livesMore_1 18 rfl rfl)
theorem dX0_livesMore_42 : decode cX0_livesMore 42 = .ok (.iload 4, 2) := dk_21 4 (dk_at dksX0_livesMore_1 19 rfl rfl)
theorem dX0_livesMore_44 : decode cX0_livesMore 44 = .ok (.iload_n 1, 1) := dk_27 (dk_at dksX0_livesMore_1 21 rfl rfl)
theorem dX0_livesMore_45 : decode cX0_livesMore 45 = .ok (.iload_n 2, 1) := dk_28 (dk_at dksX0_livesMore_1 22 rfl rfl)
theorem dX0_livesMore_46 : decode cX0_livesMore 46 = .ok (.aload_n 0, 1) := dk_42 (dk_at dksX0_livesMore_1 23 rfl rfl)
theorem dX0_livesMore_47 : decode cX0_livesMore 47 = .ok (.getfield 106, 3) := dk_180 0 106 (dk_at dksX0_livesMore_2 0 rfl rfl)
theorem dX0_livesMore_50 : decode cX0_livesMore 50 = .ok (.aload_n 0, 1) := dk_42 (dk_at dksX0_livesMore_2 3 rfl rfl)
theorem dX0_livesMore_51 : decode cX0_livesMore 51 = .ok (.getfield 125, 3) := dk_180 0 125 (dk_at dksX0_livesMore_2 4 rfl rfl)
theorem dX0_livesMore_54 : decode cX0_livesMore 54 = .ok (.aload_n 0, 1) := dk_42 (dk_at dksX0_livesMore_2 7 rfl rfl)
theorem dX0_livesMore_55 : decode cX0_livesMore 55 = .ok (.getfield 130, 3) := dk_180 0 130 (dk_at dksX0_livesMore_2 8 rfl rfl)
theorem dX0_livesMore_58 : decode cX0_livesMore 58 = .ok (.iconst 0, 1) := dk_3 (dk_at dksX0_livesMore_2 11 rfl rfl)
theorem dX0_livesMore_59 : decode cX0_livesMore 59 = .ok (.iconst 1, 1) := dk_4 (dk_at dksX0_livesMore_2 12 rfl rfl)
theorem dX0_livesMore_60 : decode cX0_livesMore 60 = .ok (.invokevirtual 558, 3) := dk_182 2 46 (dk_at dksX0_livesMore_2 13 rfl rfl)
theorem dX0_livesMore_63 : decode cX0_livesMore 63 = .ok (.ifCond .ne 6, 3) := dk_154 0 6 (dk_at dksX0_livesMore_2 16 rfl rfl)
theorem dX0_livesMore_66 : decode cX0_livesMore 66 = .ok (.goto 18, 3) := dk_167 0 18 (dk_at dksX0_livesMore_2 19 rfl rfl)
theorem dX0_livesMore_69 : decode cX0_livesMore 69 = .ok (.aload_n 0, 1) := dk_42 (dk_at dksX0_livesMore_2 22 rfl rfl)
theorem dX0_livesMore_70 : decode cX0_livesMore 70 = .ok (.getfield 157, 3) := dk_180 0 157 (dk_at dksX0_livesMore_3 0 rfl rfl)
theorem dX0_livesMore_73 : decode cX0_livesMore 73 = .ok (.iload 4, 2) := dk_21 4 (dk_at dksX0_livesMore_3 3 rfl rfl)
theorem dX0_livesMore_75 : decode cX0_livesMore 75 = .ok (.iload_n 1, 1) := dk_27 (dk_at dksX0_livesMore_3 5 rfl rfl)
theorem dX0_livesMore_76 : decode cX0_livesMore 76 = .ok (.iload_n 2, 1) := dk_28 (dk_at dksX0_livesMore_3 6 rfl rfl)
theorem dX0_livesMore_77 : decode cX0_livesMore 77 = .ok (.invokestatic 546, 3) := dk_184 2 34 (dk_at dksX0_livesMore_3 7 rfl rfl)
theorem dX0_livesMore_80 : decode cX0_livesMore 80 = .ok (.iconst 1, 1) := dk_4 (dk_at dksX0_livesMore_3 10 rfl rfl)
theorem dX0_livesMore_81 : decode cX0_livesMore 81 = .ok (.bastore, 1) := dk_84 (dk_at dksX0_livesMore_3 11 rfl rfl)
theorem dX0_livesMore_82 : decode cX0_livesMore 82 = .ok (.iconst 1, 1) := dk_4 (dk_at dksX0_livesMore_3 12 rfl rfl)
theorem dX0_livesMore_83 : decode cX0_livesMore 83 = .ok (.istore_n 3, 1) := dk_62 (dk_at dksX0_livesMore_3 13 rfl rfl)
theorem dX0_livesMore_84 : decode cX0_livesMore 84 = .ok (.iinc 4 1, 3) := dk_132 4 1 (dk_at dksX0_livesMore_3 14 rfl rfl)
theorem dX0_livesMore_87 : decode cX0_livesMore 87 = .ok (.goto (-82), 3) := dk_167 255 174 (dk_at dksX0_livesMore_3 17 rfl rfl)
theorem dX0_livesMore_90 : decode cX0_livesMore 90 = .ok (.iload_n 3, 1) := dk_29 (dk_at dksX0_livesMore_3 20 rfl rfl)
theorem dX0_livesMore_91 : decode cX0_livesMore 91 = .ok (.ireturn, 1) := dk_172 (dk_at dksX0_livesMore_3 21 rfl rfl)
abbrev cX0_costsMore : ByteArray := prog_1_method_103_code
def yX0_costsMore : MethodName := ⟨RX0, "costsMore", "(II)Z"⟩
def dkwX0_costsMore_6 : List UInt8 := [167, 255, 121, 29, 172]
abbrev dktX0_costsMore_6 : List UInt8 := dkwX0_costsMore_6 ++ []
def dkwX0_costsMore_5 : List UInt8 := [62, 42, 180, 0, 173, 21, 5, 42, 180, 0, 173, 21, 5, 46, 21, 6, 184, 1, 92, 79, 132, 4, 1]
abbrev dktX0_costsMore_5 : List UInt8 := dkwX0_costsMore_5 ++ dktX0_costsMore_6
def dkwX0_costsMore_4 : List UInt8 := [182, 2, 46, 54, 6, 29, 21, 6, 42, 180, 0, 173, 21, 5, 46, 162, 0, 7, 4, 167, 0, 4, 3, 128]
abbrev dktX0_costsMore_4 : List UInt8 := dkwX0_costsMore_4 ++ dktX0_costsMore_5
def dkwX0_costsMore_3 : List UInt8 := [167, 0, 26, 42, 21, 4, 27, 28, 42, 180, 0, 118, 42, 180, 0, 134, 42, 180, 0, 138, 18, 12, 3]
abbrev dktX0_costsMore_3 : List UInt8 := dkwX0_costsMore_3 ++ dktX0_costsMore_4
def dkwX0_costsMore_2 : List UInt8 := [28, 184, 2, 25, 96, 54, 5, 42, 180, 0, 199, 180, 0, 232, 21, 4, 46, 154, 0, 9, 28, 27, 100]
abbrev dktX0_costsMore_2 : List UInt8 := dkwX0_costsMore_2 ++ dktX0_costsMore_3
def dkwX0_costsMore_1 : List UInt8 := [154, 0, 6, 167, 0, 111, 17, 0, 169, 42, 180, 0, 199, 180, 1, 49, 21, 4, 46, 16, 26, 100, 104, 27]
abbrev dktX0_costsMore_1 : List UInt8 := dkwX0_costsMore_1 ++ dktX0_costsMore_2
def dkwX0_costsMore_0 : List UInt8 := [3, 62, 3, 54, 4, 21, 4, 42, 180, 0, 199, 180, 0, 203, 162, 0, 129, 42, 21, 4, 182, 1, 95]
abbrev dktX0_costsMore_0 : List UInt8 := dkwX0_costsMore_0 ++ dktX0_costsMore_1
theorem dksX0_costsMore_0 : cX0_costsMore.data.toList.drop 0 = dktX0_costsMore_0 := by decide +kernel
theorem dksX0_costsMore_1 : cX0_costsMore.data.toList.drop 23 = dktX0_costsMore_1 := dk_seg dksX0_costsMore_0 23 rfl rfl
theorem dksX0_costsMore_2 : cX0_costsMore.data.toList.drop 47 = dktX0_costsMore_2 := dk_seg dksX0_costsMore_1 24 rfl rfl
theorem dksX0_costsMore_3 : cX0_costsMore.data.toList.drop 70 = dktX0_costsMore_3 := dk_seg dksX0_costsMore_2 23 rfl rfl
theorem dksX0_costsMore_4 : cX0_costsMore.data.toList.drop 93 = dktX0_costsMore_4 := dk_seg dksX0_costsMore_3 23 rfl rfl
theorem dksX0_costsMore_5 : cX0_costsMore.data.toList.drop 117 = dktX0_costsMore_5 := dk_seg dksX0_costsMore_4 24 rfl rfl
theorem dksX0_costsMore_6 : cX0_costsMore.data.toList.drop 140 = dktX0_costsMore_6 := dk_seg dksX0_costsMore_5 23 rfl rfl
theorem dX0_costsMore_0 : decode cX0_costsMore 0 = .ok (.iconst 0, 1) := dk_3 (dk_at dksX0_costsMore_0 0 rfl rfl)
theorem dX0_costsMore_1 : decode cX0_costsMore 1 = .ok (.istore_n 3, 1) := dk_62 (dk_at dksX0_costsMore_0 1 rfl rfl)
theorem dX0_costsMore_2 : decode cX0_costsMore 2 = .ok (.iconst 0, 1) := dk_3 (dk_at dksX0_costsMore_0 2 rfl rfl)
theorem dX0_costsMore_3 : decode cX0_costsMore 3 = .ok (.istore 4, 2) := dk_54 4 (dk_at dksX0_costsMore_0 3 rfl rfl)
theorem dX0_costsMore_5 : decode cX0_costsMore 5 = .ok (.iload 4, 2) := dk_21 4 (dk_at dksX0_costsMore_0 5 rfl rfl)
theorem dX0_costsMore_7 : decode cX0_costsMore 7 = .ok (.aload_n 0, 1) := dk_42 (dk_at dksX0_costsMore_0 7 rfl rfl)
theorem dX0_costsMore_8 : decode cX0_costsMore 8 = .ok (.getfield 199, 3) := dk_180 0 199 (dk_at dksX0_costsMore_0 8 rfl rfl)
theorem dX0_costsMore_11 : decode cX0_costsMore 11 = .ok (.getfield 203, 3) := dk_180 0 203 (dk_at dksX0_costsMore_0 11 rfl rfl)
theorem dX0_costsMore_14 : decode cX0_costsMore 14 = .ok (.if_icmp .ge 129, 3) := dk_162 0 129 (dk_at dksX0_costsMore_0 14 rfl rfl)
theorem dX0_costsMore_17 : decode cX0_costsMore 17 = .ok (.aload_n 0, 1) := dk_42 (dk_at dksX0_costsMore_0 17 rfl rfl)
theorem dX0_costsMore_18 : decode cX0_costsMore 18 = .ok (.iload 4, 2) := dk_21 4 (dk_at dksX0_costsMore_0 18 rfl rfl)
theorem dX0_costsMore_20 : decode cX0_costsMore 20 = .ok (.invokevirtual 351, 3) := dk_182 1 95 (dk_at dksX0_costsMore_0 20 rfl rfl)
theorem dX0_costsMore_23 : decode cX0_costsMore 23 = .ok (.ifCond .ne 6, 3) := dk_154 0 6 (dk_at dksX0_costsMore_1 0 rfl rfl)
theorem dX0_costsMore_26 : decode cX0_costsMore 26 = .ok (.goto 111, 3) := dk_167 0 111 (dk_at dksX0_costsMore_1 3 rfl rfl)
theorem dX0_costsMore_29 : decode cX0_costsMore 29 = .ok (.sipush 169, 3) := dk_17 0 169 (dk_at dksX0_costsMore_1 6 rfl rfl)
theorem dX0_costsMore_32 : decode cX0_costsMore 32 = .ok (.aload_n 0, 1) := dk_42 (dk_at dksX0_costsMore_1 9 rfl rfl)
theorem dX0_costsMore_33 : decode cX0_costsMore 33 = .ok (.getfield 199, 3) := dk_180 0 199 (dk_at dksX0_costsMore_1 10 rfl rfl)
theorem dX0_costsMore_36 : decode cX0_costsMore 36 = .ok (.getfield 305, 3) := dk_180 1 49 (dk_at dksX0_costsMore_1 13 rfl rfl)
theorem dX0_costsMore_39 : decode cX0_costsMore 39 = .ok (.iload 4, 2) := dk_21 4 (dk_at dksX0_costsMore_1 16 rfl rfl)
theorem dX0_costsMore_41 : decode cX0_costsMore 41 = .ok (.iaload, 1) := dk_46 (dk_at dksX0_costsMore_1 18 rfl rfl)
theorem dX0_costsMore_42 : decode cX0_costsMore 42 = .ok (.bipush 26, 2) := dk_16 26 (dk_at dksX0_costsMore_1 19 rfl rfl)
theorem dX0_costsMore_44 : decode cX0_costsMore 44 = .ok (.isub, 1) := dk_100 (dk_at dksX0_costsMore_1 21 rfl rfl)
theorem dX0_costsMore_45 : decode cX0_costsMore 45 = .ok (.imul, 1) := dk_104 (dk_at dksX0_costsMore_1 22 rfl rfl)
theorem dX0_costsMore_46 : decode cX0_costsMore 46 = .ok (.iload_n 1, 1) := dk_27 (dk_at dksX0_costsMore_1 23 rfl rfl)
theorem dX0_costsMore_47 : decode cX0_costsMore 47 = .ok (.iload_n 2, 1) := dk_28 (dk_at dksX0_costsMore_2 0 rfl rfl)
theorem dX0_costsMore_48 : decode cX0_costsMore 48 = .ok (.invokestatic 537, 3) := dk_184 2 25 (dk_at dksX0_costsMore_2 1 rfl rfl)
theorem dX0_costsMore_51 : decode cX0_costsMore 51 = .ok (.iadd, 1) := dk_96 (dk_at dksX0_costsMore_2 4 rfl rfl)
theorem dX0_costsMore_52 : decode cX0_costsMore 52 = .ok (.istore 5, 2) := dk_54 5 (dk_at dksX0_costsMore_2 5 rfl rfl)
theorem dX0_costsMore_54 : decode cX0_costsMore 54 = .ok (.aload_n 0, 1) := dk_42 (dk_at dksX0_costsMore_2 7 rfl rfl)
theorem dX0_costsMore_55 : decode cX0_costsMore 55 = .ok (.getfield 199, 3) := dk_180 0 199 (dk_at dksX0_costsMore_2 8 rfl rfl)
theorem dX0_costsMore_58 : decode cX0_costsMore 58 = .ok (.getfield 232, 3) := dk_180 0 232 (dk_at dksX0_costsMore_2 11 rfl rfl)
theorem dX0_costsMore_61 : decode cX0_costsMore 61 = .ok (.iload 4, 2) := dk_21 4 (dk_at dksX0_costsMore_2 14 rfl rfl)
theorem dX0_costsMore_63 : decode cX0_costsMore 63 = .ok (.iaload, 1) := dk_46 (dk_at dksX0_costsMore_2 16 rfl rfl)
theorem dX0_costsMore_64 : decode cX0_costsMore 64 = .ok (.ifCond .ne 9, 3) := dk_154 0 9 (dk_at dksX0_costsMore_2 17 rfl rfl)
theorem dX0_costsMore_67 : decode cX0_costsMore 67 = .ok (.iload_n 2, 1) := dk_28 (dk_at dksX0_costsMore_2 20 rfl rfl)
theorem dX0_costsMore_68 : decode cX0_costsMore 68 = .ok (.iload_n 1, 1) := dk_27 (dk_at dksX0_costsMore_2 21 rfl rfl)
theorem dX0_costsMore_69 : decode cX0_costsMore 69 = .ok (.isub, 1) := dk_100 (dk_at dksX0_costsMore_2 22 rfl rfl)
theorem dX0_costsMore_70 : decode cX0_costsMore 70 = .ok (.goto 26, 3) := dk_167 0 26 (dk_at dksX0_costsMore_3 0 rfl rfl)
theorem dX0_costsMore_73 : decode cX0_costsMore 73 = .ok (.aload_n 0, 1) := dk_42 (dk_at dksX0_costsMore_3 3 rfl rfl)
theorem dX0_costsMore_74 : decode cX0_costsMore 74 = .ok (.iload 4, 2) := dk_21 4 (dk_at dksX0_costsMore_3 4 rfl rfl)
theorem dX0_costsMore_76 : decode cX0_costsMore 76 = .ok (.iload_n 1, 1) := dk_27 (dk_at dksX0_costsMore_3 6 rfl rfl)
theorem dX0_costsMore_77 : decode cX0_costsMore 77 = .ok (.iload_n 2, 1) := dk_28 (dk_at dksX0_costsMore_3 7 rfl rfl)
theorem dX0_costsMore_78 : decode cX0_costsMore 78 = .ok (.aload_n 0, 1) := dk_42 (dk_at dksX0_costsMore_3 8 rfl rfl)
theorem dX0_costsMore_79 : decode cX0_costsMore 79 = .ok (.getfield 118, 3) := dk_180 0 118 (dk_at dksX0_costsMore_3 9 rfl rfl)
theorem dX0_costsMore_82 : decode cX0_costsMore 82 = .ok (.aload_n 0, 1) := dk_42 (dk_at dksX0_costsMore_3 12 rfl rfl)
theorem dX0_costsMore_83 : decode cX0_costsMore 83 = .ok (.getfield 134, 3) := dk_180 0 134 (dk_at dksX0_costsMore_3 13 rfl rfl)
theorem dX0_costsMore_86 : decode cX0_costsMore 86 = .ok (.aload_n 0, 1) := dk_42 (dk_at dksX0_costsMore_3 16 rfl rfl)
theorem dX0_costsMore_87 : decode cX0_costsMore 87 = .ok (.getfield 138, 3) := dk_180 0 138 (dk_at dksX0_costsMore_3 17 rfl rfl)
theorem dX0_costsMore_90 : decode cX0_costsMore 90 = .ok (.ldc 12, 2) := dk_18 12 (dk_at dksX0_costsMore_3 20 rfl rfl)
theorem dX0_costsMore_92 : decode cX0_costsMore 92 = .ok (.iconst 0, 1) := dk_3 (dk_at dksX0_costsMore_3 22 rfl rfl)
theorem dX0_costsMore_93 : decode cX0_costsMore 93 = .ok (.invokevirtual 558, 3) := dk_182 2 46 (dk_at dksX0_costsMore_4 0 rfl rfl)
theorem dX0_costsMore_96 : decode cX0_costsMore 96 = .ok (.istore 6, 2) := dk_54 6 (dk_at dksX0_costsMore_4 3 rfl rfl)
theorem dX0_costsMore_98 : decode cX0_costsMore 98 = .ok (.iload_n 3, 1) := dk_29 (dk_at dksX0_costsMore_4 5 rfl rfl)
theorem dX0_costsMore_99 : decode cX0_costsMore 99 = .ok (.iload 6, 2) := dk_21 6 (dk_at dksX0_costsMore_4 6 rfl rfl)
theorem dX0_costsMore_101 : decode cX0_costsMore 101 = .ok (.aload_n 0, 1) := dk_42 (dk_at dksX0_costsMore_4 8 rfl rfl)
theorem dX0_costsMore_102 : decode cX0_costsMore 102 = .ok (.getfield 173, 3) := dk_180 0 173 (dk_at dksX0_costsMore_4 9 rfl rfl)
theorem dX0_costsMore_105 : decode cX0_costsMore 105 = .ok (.iload 5, 2) := dk_21 5 (dk_at dksX0_costsMore_4 12 rfl rfl)
theorem dX0_costsMore_107 : decode cX0_costsMore 107 = .ok (.iaload, 1) := dk_46 (dk_at dksX0_costsMore_4 14 rfl rfl)
theorem dX0_costsMore_108 : decode cX0_costsMore 108 = .ok (.if_icmp .ge 7, 3) := dk_162 0 7 (dk_at dksX0_costsMore_4 15 rfl rfl)
theorem dX0_costsMore_111 : decode cX0_costsMore 111 = .ok (.iconst 1, 1) := dk_4 (dk_at dksX0_costsMore_4 18 rfl rfl)
theorem dX0_costsMore_112 : decode cX0_costsMore 112 = .ok (.goto 4, 3) := dk_167 0 4 (dk_at dksX0_costsMore_4 19 rfl rfl)
theorem dX0_costsMore_115 : decode cX0_costsMore 115 = .ok (.iconst 0, 1) := dk_3 (dk_at dksX0_costsMore_4 22 rfl rfl)
theorem dX0_costsMore_116 : decode cX0_costsMore 116 = .ok (.ior, 1) := dk_128 (dk_at dksX0_costsMore_4 23 rfl rfl)
theorem dX0_costsMore_117 : decode cX0_costsMore 117 = .ok (.istore_n 3, 1) := dk_62 (dk_at dksX0_costsMore_5 0 rfl rfl)
theorem dX0_costsMore_118 : decode cX0_costsMore 118 = .ok (.aload_n 0, 1) := dk_42 (dk_at dksX0_costsMore_5 1 rfl rfl)
theorem dX0_costsMore_119 : decode cX0_costsMore 119 = .ok (.getfield 173, 3) := dk_180 0 173 (dk_at dksX0_costsMore_5 2 rfl rfl)
theorem dX0_costsMore_122 : decode cX0_costsMore 122 = .ok (.iload 5, 2) := dk_21 5 (dk_at dksX0_costsMore_5 5 rfl rfl)
theorem dX0_costsMore_124 : decode cX0_costsMore 124 = .ok (.aload_n 0, 1) := dk_42 (dk_at dksX0_costsMore_5 7 rfl rfl)
theorem dX0_costsMore_125 : decode cX0_costsMore 125 = .ok (.getfield 173, 3) := dk_180 0 173 (dk_at dksX0_costsMore_5 8 rfl rfl)
theorem dX0_costsMore_128 : decode cX0_costsMore 128 = .ok (.iload 5, 2) := dk_21 5 (dk_at dksX0_costsMore_5 11 rfl rfl)
theorem dX0_costsMore_130 : decode cX0_costsMore 130 = .ok (.iaload, 1) := dk_46 (dk_at dksX0_costsMore_5 13 rfl rfl)
theorem dX0_costsMore_131 : decode cX0_costsMore 131 = .ok (.iload 6, 2) := dk_21 6 (dk_at dksX0_costsMore_5 14 rfl rfl)
theorem dX0_costsMore_133 : decode cX0_costsMore 133 = .ok (.invokestatic 348, 3) := dk_184 1 92 (dk_at dksX0_costsMore_5 16 rfl rfl)
theorem dX0_costsMore_136 : decode cX0_costsMore 136 = .ok (.iastore, 1) := dk_79 (dk_at dksX0_costsMore_5 19 rfl rfl)
theorem dX0_costsMore_137 : decode cX0_costsMore 137 = .ok (.iinc 4 1, 3) := dk_132 4 1 (dk_at dksX0_costsMore_5 20 rfl rfl)
theorem dX0_costsMore_140 : decode cX0_costsMore 140 = .ok (.goto (-135), 3) := dk_167 255 121 (dk_at dksX0_costsMore_6 0 rfl rfl)
theorem dX0_costsMore_143 : decode cX0_costsMore 143 = .ok (.iload_n 3, 1) := dk_29 (dk_at dksX0_costsMore_6 3 rfl rfl)
theorem dX0_costsMore_144 : decode cX0_costsMore 144 = .ok (.ireturn, 1) := dk_172 (dk_at dksX0_costsMore_6 4 rfl rfl)
abbrev cX0_sameSpan : ByteArray := prog_1_method_100_code
def yX0_sameSpan : MethodName := ⟨RX0, "sameSpan", "(III)I"⟩
def dkwX0_sameSpan_5 : List UInt8 := [167, 255, 201, 132, 5, 1, 167, 255, 141, 21, 4, 172]
abbrev dktX0_sameSpan_5 : List UInt8 := dkwX0_sameSpan_5 ++ []
def dkwX0_sameSpan_4 : List UInt8 := [21, 6, 182, 2, 37, 153, 0, 10, 4, 21, 6, 120, 167, 0, 4, 3, 128, 54, 4, 132, 6, 1]
abbrev dktX0_sameSpan_4 : List UInt8 := dkwX0_sameSpan_4 ++ dktX0_sameSpan_5
def dkwX0_sameSpan_3 : List UInt8 := [162, 0, 49, 21, 4, 42, 180, 0, 157, 21, 6, 28, 29, 184, 2, 34, 51, 153, 0, 22, 42, 27, 21, 5]
abbrev dktX0_sameSpan_3 : List UInt8 := dkwX0_sameSpan_3 ++ dktX0_sameSpan_4
def dkwX0_sameSpan_2 : List UInt8 := [29, 182, 2, 53, 154, 0, 6, 167, 0, 64, 3, 54, 6, 21, 6, 42, 180, 0, 199, 180, 0, 203]
abbrev dktX0_sameSpan_2 : List UInt8 := dkwX0_sameSpan_2 ++ dktX0_sameSpan_3
def dkwX0_sameSpan_1 : List UInt8 := [21, 5, 28, 182, 2, 53, 153, 0, 89, 42, 27, 21, 5, 4, 96, 42, 180, 0, 199, 180, 0, 232, 27, 46]
abbrev dktX0_sameSpan_1 : List UInt8 := dkwX0_sameSpan_1 ++ dktX0_sameSpan_2
def dkwX0_sameSpan_0 : List UInt8 := [3, 54, 4, 3, 54, 5, 21, 5, 42, 180, 0, 199, 180, 0, 232, 27, 46, 162, 0, 107, 42, 27, 3]
abbrev dktX0_sameSpan_0 : List UInt8 := dkwX0_sameSpan_0 ++ dktX0_sameSpan_1
theorem dksX0_sameSpan_0 : cX0_sameSpan.data.toList.drop 0 = dktX0_sameSpan_0 := by decide +kernel
theorem dksX0_sameSpan_1 : cX0_sameSpan.data.toList.drop 23 = dktX0_sameSpan_1 := dk_seg dksX0_sameSpan_0 23 rfl rfl
theorem dksX0_sameSpan_2 : cX0_sameSpan.data.toList.drop 47 = dktX0_sameSpan_2 := dk_seg dksX0_sameSpan_1 24 rfl rfl
theorem dksX0_sameSpan_3 : cX0_sameSpan.data.toList.drop 69 = dktX0_sameSpan_3 := dk_seg dksX0_sameSpan_2 22 rfl rfl
theorem dksX0_sameSpan_4 : cX0_sameSpan.data.toList.drop 93 = dktX0_sameSpan_4 := dk_seg dksX0_sameSpan_3 24 rfl rfl
theorem dksX0_sameSpan_5 : cX0_sameSpan.data.toList.drop 115 = dktX0_sameSpan_5 := dk_seg dksX0_sameSpan_4 22 rfl rfl
theorem dX0_sameSpan_0 : decode cX0_sameSpan 0 = .ok (.iconst 0, 1) := dk_3 (dk_at dksX0_sameSpan_0 0 rfl rfl)
theorem dX0_sameSpan_1 : decode cX0_sameSpan 1 = .ok (.istore 4, 2) := dk_54 4 (dk_at dksX0_sameSpan_0 1 rfl rfl)
theorem dX0_sameSpan_3 : decode cX0_sameSpan 3 = .ok (.iconst 0, 1) := dk_3 (dk_at dksX0_sameSpan_0 3 rfl rfl)
theorem dX0_sameSpan_4 : decode cX0_sameSpan 4 = .ok (.istore 5, 2) := dk_54 5 (dk_at dksX0_sameSpan_0 4 rfl rfl)
theorem dX0_sameSpan_6 : decode cX0_sameSpan 6 = .ok (.iload 5, 2) := dk_21 5 (dk_at dksX0_sameSpan_0 6 rfl rfl)
theorem dX0_sameSpan_8 : decode cX0_sameSpan 8 = .ok (.aload_n 0, 1) := dk_42 (dk_at dksX0_sameSpan_0 8 rfl rfl)
theorem dX0_sameSpan_9 : decode cX0_sameSpan 9 = .ok (.getfield 199, 3) := dk_180 0 199 (dk_at dksX0_sameSpan_0 9 rfl rfl)
theorem dX0_sameSpan_12 : decode cX0_sameSpan 12 = .ok (.getfield 232, 3) := dk_180 0 232 (dk_at dksX0_sameSpan_0 12 rfl rfl)
theorem dX0_sameSpan_15 : decode cX0_sameSpan 15 = .ok (.iload_n 1, 1) := dk_27 (dk_at dksX0_sameSpan_0 15 rfl rfl)
theorem dX0_sameSpan_16 : decode cX0_sameSpan 16 = .ok (.iaload, 1) := dk_46 (dk_at dksX0_sameSpan_0 16 rfl rfl)
theorem dX0_sameSpan_17 : decode cX0_sameSpan 17 = .ok (.if_icmp .ge 107, 3) := dk_162 0 107 (dk_at dksX0_sameSpan_0 17 rfl rfl)
theorem dX0_sameSpan_20 : decode cX0_sameSpan 20 = .ok (.aload_n 0, 1) := dk_42 (dk_at dksX0_sameSpan_0 20 rfl rfl)
theorem dX0_sameSpan_21 : decode cX0_sameSpan 21 = .ok (.iload_n 1, 1) := dk_27 (dk_at dksX0_sameSpan_0 21 rfl rfl)
theorem dX0_sameSpan_22 : decode cX0_sameSpan 22 = .ok (.iconst 0, 1) := dk_3 (dk_at dksX0_sameSpan_0 22 rfl rfl)
theorem dX0_sameSpan_23 : decode cX0_sameSpan 23 = .ok (.iload 5, 2) := dk_21 5 (dk_at dksX0_sameSpan_1 0 rfl rfl)
theorem dX0_sameSpan_25 : decode cX0_sameSpan 25 = .ok (.iload_n 2, 1) := dk_28 (dk_at dksX0_sameSpan_1 2 rfl rfl)
theorem dX0_sameSpan_26 : decode cX0_sameSpan 26 = .ok (.invokevirtual 565, 3) := dk_182 2 53 (dk_at dksX0_sameSpan_1 3 rfl rfl)
theorem dX0_sameSpan_29 : decode cX0_sameSpan 29 = .ok (.ifCond .eq 89, 3) := dk_153 0 89 (dk_at dksX0_sameSpan_1 6 rfl rfl)
theorem dX0_sameSpan_32 : decode cX0_sameSpan 32 = .ok (.aload_n 0, 1) := dk_42 (dk_at dksX0_sameSpan_1 9 rfl rfl)
theorem dX0_sameSpan_33 : decode cX0_sameSpan 33 = .ok (.iload_n 1, 1) := dk_27 (dk_at dksX0_sameSpan_1 10 rfl rfl)
theorem dX0_sameSpan_34 : decode cX0_sameSpan 34 = .ok (.iload 5, 2) := dk_21 5 (dk_at dksX0_sameSpan_1 11 rfl rfl)
theorem dX0_sameSpan_36 : decode cX0_sameSpan 36 = .ok (.iconst 1, 1) := dk_4 (dk_at dksX0_sameSpan_1 13 rfl rfl)
theorem dX0_sameSpan_37 : decode cX0_sameSpan 37 = .ok (.iadd, 1) := dk_96 (dk_at dksX0_sameSpan_1 14 rfl rfl)
theorem dX0_sameSpan_38 : decode cX0_sameSpan 38 = .ok (.aload_n 0, 1) := dk_42 (dk_at dksX0_sameSpan_1 15 rfl rfl)
theorem dX0_sameSpan_39 : decode cX0_sameSpan 39 = .ok (.getfield 199, 3) := dk_180 0 199 (dk_at dksX0_sameSpan_1 16 rfl rfl)
theorem dX0_sameSpan_42 : decode cX0_sameSpan 42 = .ok (.getfield 232, 3) := dk_180 0 232 (dk_at dksX0_sameSpan_1 19 rfl rfl)
theorem dX0_sameSpan_45 : decode cX0_sameSpan 45 = .ok (.iload_n 1, 1) := dk_27 (dk_at dksX0_sameSpan_1 22 rfl rfl)
theorem dX0_sameSpan_46 : decode cX0_sameSpan 46 = .ok (.iaload, 1) := dk_46 (dk_at dksX0_sameSpan_1 23 rfl rfl)
theorem dX0_sameSpan_47 : decode cX0_sameSpan 47 = .ok (.iload_n 3, 1) := dk_29 (dk_at dksX0_sameSpan_2 0 rfl rfl)
theorem dX0_sameSpan_48 : decode cX0_sameSpan 48 = .ok (.invokevirtual 565, 3) := dk_182 2 53 (dk_at dksX0_sameSpan_2 1 rfl rfl)
theorem dX0_sameSpan_51 : decode cX0_sameSpan 51 = .ok (.ifCond .ne 6, 3) := dk_154 0 6 (dk_at dksX0_sameSpan_2 4 rfl rfl)
theorem dX0_sameSpan_54 : decode cX0_sameSpan 54 = .ok (.goto 64, 3) := dk_167 0 64 (dk_at dksX0_sameSpan_2 7 rfl rfl)
theorem dX0_sameSpan_57 : decode cX0_sameSpan 57 = .ok (.iconst 0, 1) := dk_3 (dk_at dksX0_sameSpan_2 10 rfl rfl)
theorem dX0_sameSpan_58 : decode cX0_sameSpan 58 = .ok (.istore 6, 2) := dk_54 6 (dk_at dksX0_sameSpan_2 11 rfl rfl)
theorem dX0_sameSpan_60 : decode cX0_sameSpan 60 = .ok (.iload 6, 2) := dk_21 6 (dk_at dksX0_sameSpan_2 13 rfl rfl)
theorem dX0_sameSpan_62 : decode cX0_sameSpan 62 = .ok (.aload_n 0, 1) := dk_42 (dk_at dksX0_sameSpan_2 15 rfl rfl)
theorem dX0_sameSpan_63 : decode cX0_sameSpan 63 = .ok (.getfield 199, 3) := dk_180 0 199 (dk_at dksX0_sameSpan_2 16 rfl rfl)
theorem dX0_sameSpan_66 : decode cX0_sameSpan 66 = .ok (.getfield 203, 3) := dk_180 0 203 (dk_at dksX0_sameSpan_2 19 rfl rfl)
theorem dX0_sameSpan_69 : decode cX0_sameSpan 69 = .ok (.if_icmp .ge 49, 3) := dk_162 0 49 (dk_at dksX0_sameSpan_3 0 rfl rfl)
theorem dX0_sameSpan_72 : decode cX0_sameSpan 72 = .ok (.iload 4, 2) := dk_21 4 (dk_at dksX0_sameSpan_3 3 rfl rfl)
theorem dX0_sameSpan_74 : decode cX0_sameSpan 74 = .ok (.aload_n 0, 1) := dk_42 (dk_at dksX0_sameSpan_3 5 rfl rfl)
theorem dX0_sameSpan_75 : decode cX0_sameSpan 75 = .ok (.getfield 157, 3) := dk_180 0 157 (dk_at dksX0_sameSpan_3 6 rfl rfl)
theorem dX0_sameSpan_78 : decode cX0_sameSpan 78 = .ok (.iload 6, 2) := dk_21 6 (dk_at dksX0_sameSpan_3 9 rfl rfl)
theorem dX0_sameSpan_80 : decode cX0_sameSpan 80 = .ok (.iload_n 2, 1) := dk_28 (dk_at dksX0_sameSpan_3 11 rfl rfl)
theorem dX0_sameSpan_81 : decode cX0_sameSpan 81 = .ok (.iload_n 3, 1) := dk_29 (dk_at dksX0_sameSpan_3 12 rfl rfl)
theorem dX0_sameSpan_82 : decode cX0_sameSpan 82 = .ok (.invokestatic 546, 3) := dk_184 2 34 (dk_at dksX0_sameSpan_3 13 rfl rfl)
theorem dX0_sameSpan_85 : decode cX0_sameSpan 85 = .ok (.baload, 1) := dk_51 (dk_at dksX0_sameSpan_3 16 rfl rfl)
theorem dX0_sameSpan_86 : decode cX0_sameSpan 86 = .ok (.ifCond .eq 22, 3) := dk_153 0 22 (dk_at dksX0_sameSpan_3 17 rfl rfl)
theorem dX0_sameSpan_89 : decode cX0_sameSpan 89 = .ok (.aload_n 0, 1) := dk_42 (dk_at dksX0_sameSpan_3 20 rfl rfl)
theorem dX0_sameSpan_90 : decode cX0_sameSpan 90 = .ok (.iload_n 1, 1) := dk_27 (dk_at dksX0_sameSpan_3 21 rfl rfl)
theorem dX0_sameSpan_91 : decode cX0_sameSpan 91 = .ok (.iload 5, 2) := dk_21 5 (dk_at dksX0_sameSpan_3 22 rfl rfl)
theorem dX0_sameSpan_93 : decode cX0_sameSpan 93 = .ok (.iload 6, 2) := dk_21 6 (dk_at dksX0_sameSpan_4 0 rfl rfl)
theorem dX0_sameSpan_95 : decode cX0_sameSpan 95 = .ok (.invokevirtual 549, 3) := dk_182 2 37 (dk_at dksX0_sameSpan_4 2 rfl rfl)
theorem dX0_sameSpan_98 : decode cX0_sameSpan 98 = .ok (.ifCond .eq 10, 3) := dk_153 0 10 (dk_at dksX0_sameSpan_4 5 rfl rfl)
theorem dX0_sameSpan_101 : decode cX0_sameSpan 101 = .ok (.iconst 1, 1) := dk_4 (dk_at dksX0_sameSpan_4 8 rfl rfl)
theorem dX0_sameSpan_102 : decode cX0_sameSpan 102 = .ok (.iload 6, 2) := dk_21 6 (dk_at dksX0_sameSpan_4 9 rfl rfl)
theorem dX0_sameSpan_104 : decode cX0_sameSpan 104 = .ok (.ishl, 1) := dk_120 (dk_at dksX0_sameSpan_4 11 rfl rfl)
theorem dX0_sameSpan_105 : decode cX0_sameSpan 105 = .ok (.goto 4, 3) := dk_167 0 4 (dk_at dksX0_sameSpan_4 12 rfl rfl)
theorem dX0_sameSpan_108 : decode cX0_sameSpan 108 = .ok (.iconst 0, 1) := dk_3 (dk_at dksX0_sameSpan_4 15 rfl rfl)
theorem dX0_sameSpan_109 : decode cX0_sameSpan 109 = .ok (.ior, 1) := dk_128 (dk_at dksX0_sameSpan_4 16 rfl rfl)
theorem dX0_sameSpan_110 : decode cX0_sameSpan 110 = .ok (.istore 4, 2) := dk_54 4 (dk_at dksX0_sameSpan_4 17 rfl rfl)
theorem dX0_sameSpan_112 : decode cX0_sameSpan 112 = .ok (.iinc 6 1, 3) := dk_132 6 1 (dk_at dksX0_sameSpan_4 19 rfl rfl)
theorem dX0_sameSpan_115 : decode cX0_sameSpan 115 = .ok (.goto (-55), 3) := dk_167 255 201 (dk_at dksX0_sameSpan_5 0 rfl rfl)
theorem dX0_sameSpan_118 : decode cX0_sameSpan 118 = .ok (.iinc 5 1, 3) := dk_132 5 1 (dk_at dksX0_sameSpan_5 3 rfl rfl)
theorem dX0_sameSpan_121 : decode cX0_sameSpan 121 = .ok (.goto (-115), 3) := dk_167 255 141 (dk_at dksX0_sameSpan_5 6 rfl rfl)
theorem dX0_sameSpan_124 : decode cX0_sameSpan 124 = .ok (.iload 4, 2) := dk_21 4 (dk_at dksX0_sameSpan_5 9 rfl rfl)
theorem dX0_sameSpan_126 : decode cX0_sameSpan 126 = .ok (.ireturn, 1) := dk_172 (dk_at dksX0_sameSpan_5 11 rfl rfl)
abbrev cX0_areBare : ByteArray := prog_1_method_99_code
def yX0_areBare : MethodName := ⟨RX0, "areBare", "(IIII)Z"⟩
def dkwX0_areBare_1 : List UInt8 := [172, 132, 5, 1, 167, 255, 231, 4, 172]
abbrev dktX0_areBare_1 : List UInt8 := dkwX0_areBare_1 ++ []
def dkwX0_areBare_0 : List UInt8 := [28, 54, 5, 21, 5, 29, 162, 0, 25, 42, 27, 21, 5, 21, 4, 21, 4, 182, 2, 50, 154, 0, 5, 3]
abbrev dktX0_areBare_0 : List UInt8 := dkwX0_areBare_0 ++ dktX0_areBare_1
theorem dksX0_areBare_0 : cX0_areBare.data.toList.drop 0 = dktX0_areBare_0 := by decide +kernel
theorem dksX0_areBare_1 : cX0_areBare.data.toList.drop 24 = dktX0_areBare_1 := dk_seg dksX0_areBare_0 24 rfl rfl
theorem dX0_areBare_0 : decode cX0_areBare 0 = .ok (.iload_n 2, 1) := dk_28 (dk_at dksX0_areBare_0 0 rfl rfl)
theorem dX0_areBare_1 : decode cX0_areBare 1 = .ok (.istore 5, 2) := dk_54 5 (dk_at dksX0_areBare_0 1 rfl rfl)
theorem dX0_areBare_3 : decode cX0_areBare 3 = .ok (.iload 5, 2) := dk_21 5 (dk_at dksX0_areBare_0 3 rfl rfl)
theorem dX0_areBare_5 : decode cX0_areBare 5 = .ok (.iload_n 3, 1) := dk_29 (dk_at dksX0_areBare_0 5 rfl rfl)
theorem dX0_areBare_6 : decode cX0_areBare 6 = .ok (.if_icmp .ge 25, 3) := dk_162 0 25 (dk_at dksX0_areBare_0 6 rfl rfl)
theorem dX0_areBare_9 : decode cX0_areBare 9 = .ok (.aload_n 0, 1) := dk_42 (dk_at dksX0_areBare_0 9 rfl rfl)
theorem dX0_areBare_10 : decode cX0_areBare 10 = .ok (.iload_n 1, 1) := dk_27 (dk_at dksX0_areBare_0 10 rfl rfl)
theorem dX0_areBare_11 : decode cX0_areBare 11 = .ok (.iload 5, 2) := dk_21 5 (dk_at dksX0_areBare_0 11 rfl rfl)
theorem dX0_areBare_13 : decode cX0_areBare 13 = .ok (.iload 4, 2) := dk_21 4 (dk_at dksX0_areBare_0 13 rfl rfl)
theorem dX0_areBare_15 : decode cX0_areBare 15 = .ok (.iload 4, 2) := dk_21 4 (dk_at dksX0_areBare_0 15 rfl rfl)
theorem dX0_areBare_17 : decode cX0_areBare 17 = .ok (.invokevirtual 562, 3) := dk_182 2 50 (dk_at dksX0_areBare_0 17 rfl rfl)
theorem dX0_areBare_20 : decode cX0_areBare 20 = .ok (.ifCond .ne 5, 3) := dk_154 0 5 (dk_at dksX0_areBare_0 20 rfl rfl)
theorem dX0_areBare_23 : decode cX0_areBare 23 = .ok (.iconst 0, 1) := dk_3 (dk_at dksX0_areBare_0 23 rfl rfl)
theorem dX0_areBare_24 : decode cX0_areBare 24 = .ok (.ireturn, 1) := dk_172 (dk_at dksX0_areBare_1 0 rfl rfl)
theorem dX0_areBare_25 : decode cX0_areBare 25 = .ok (.iinc 5 1, 3) := dk_132 5 1 (dk_at dksX0_areBare_1 1 rfl rfl)
theorem dX0_areBare_28 : decode cX0_areBare 28 = .ok (.goto (-25), 3) := dk_167 255 231 (dk_at dksX0_areBare_1 4 rfl rfl)
theorem dX0_areBare_31 : decode cX0_areBare 31 = .ok (.iconst 1, 1) := dk_4 (dk_at dksX0_areBare_1 7 rfl rfl)
theorem dX0_areBare_32 : decode cX0_areBare 32 = .ok (.ireturn, 1) := dk_172 (dk_at dksX0_areBare_1 8 rfl rfl)
abbrev cX0_countsMore : ByteArray := prog_1_method_102_code
def yX0_countsMore : MethodName := ⟨RX0, "countsMore", "(II)Z"⟩
def dkwX0_countsMore_7 : List UInt8 := [172]
abbrev dktX0_countsMore_7 : List UInt8 := dkwX0_countsMore_7 ++ []
def dkwX0_countsMore_6 : List UInt8 := [180, 0, 164, 21, 5, 21, 6, 79, 42, 180, 0, 161, 21, 5, 21, 7, 79, 132, 4, 1, 167, 255, 102, 29]
abbrev dktX0_countsMore_6 : List UInt8 := dkwX0_countsMore_6 ++ dktX0_countsMore_7
def dkwX0_countsMore_5 : List UInt8 := [160, 0, 15, 21, 7, 42, 180, 0, 161, 21, 5, 46, 159, 0, 7, 4, 167, 0, 4, 3, 128, 62, 42]
abbrev dktX0_countsMore_5 : List UInt8 := dkwX0_countsMore_5 ++ dktX0_countsMore_6
def dkwX0_countsMore_4 : List UInt8 := [180, 0, 142, 42, 180, 0, 146, 3, 4, 182, 2, 46, 54, 7, 29, 21, 6, 42, 180, 0, 164, 21, 5, 46]
abbrev dktX0_countsMore_4 : List UInt8 := dkwX0_countsMore_4 ++ dktX0_countsMore_5
def dkwX0_countsMore_3 : List UInt8 := [21, 4, 182, 2, 57, 153, 0, 8, 16, 253, 167, 0, 25, 42, 21, 4, 27, 28, 42, 180, 0, 110, 42]
abbrev dktX0_countsMore_3 : List UInt8 := dkwX0_countsMore_3 ++ dktX0_countsMore_4
def dkwX0_countsMore_2 : List UInt8 := [180, 0, 114, 42, 180, 0, 134, 42, 180, 0, 138, 18, 12, 3, 182, 2, 46, 184, 1, 67, 54, 6, 42]
abbrev dktX0_countsMore_2 : List UInt8 := dkwX0_countsMore_2 ++ dktX0_countsMore_3
def dkwX0_countsMore_1 : List UInt8 := [54, 5, 42, 180, 0, 157, 21, 5, 51, 154, 0, 6, 167, 0, 120, 4, 42, 21, 4, 27, 28, 42]
abbrev dktX0_countsMore_1 : List UInt8 := dkwX0_countsMore_1 ++ dktX0_countsMore_2
def dkwX0_countsMore_0 : List UInt8 := [3, 62, 3, 54, 4, 21, 4, 42, 180, 0, 199, 180, 0, 203, 162, 0, 148, 21, 4, 27, 28, 184, 2, 34]
abbrev dktX0_countsMore_0 : List UInt8 := dkwX0_countsMore_0 ++ dktX0_countsMore_1
theorem dksX0_countsMore_0 : cX0_countsMore.data.toList.drop 0 = dktX0_countsMore_0 := by decide +kernel
theorem dksX0_countsMore_1 : cX0_countsMore.data.toList.drop 24 = dktX0_countsMore_1 := dk_seg dksX0_countsMore_0 24 rfl rfl
theorem dksX0_countsMore_2 : cX0_countsMore.data.toList.drop 46 = dktX0_countsMore_2 := dk_seg dksX0_countsMore_1 22 rfl rfl
theorem dksX0_countsMore_3 : cX0_countsMore.data.toList.drop 69 = dktX0_countsMore_3 := dk_seg dksX0_countsMore_2 23 rfl rfl
theorem dksX0_countsMore_4 : cX0_countsMore.data.toList.drop 92 = dktX0_countsMore_4 := dk_seg dksX0_countsMore_3 23 rfl rfl
theorem dksX0_countsMore_5 : cX0_countsMore.data.toList.drop 116 = dktX0_countsMore_5 := dk_seg dksX0_countsMore_4 24 rfl rfl
theorem dksX0_countsMore_6 : cX0_countsMore.data.toList.drop 139 = dktX0_countsMore_6 := dk_seg dksX0_countsMore_5 23 rfl rfl
theorem dksX0_countsMore_7 : cX0_countsMore.data.toList.drop 163 = dktX0_countsMore_7 := dk_seg dksX0_countsMore_6 24 rfl rfl
theorem dX0_countsMore_0 : decode cX0_countsMore 0 = .ok (.iconst 0, 1) := dk_3 (dk_at dksX0_countsMore_0 0 rfl rfl)
theorem dX0_countsMore_1 : decode cX0_countsMore 1 = .ok (.istore_n 3, 1) := dk_62 (dk_at dksX0_countsMore_0 1 rfl rfl)
theorem dX0_countsMore_2 : decode cX0_countsMore 2 = .ok (.iconst 0, 1) := dk_3 (dk_at dksX0_countsMore_0 2 rfl rfl)
theorem dX0_countsMore_3 : decode cX0_countsMore 3 = .ok (.istore 4, 2) := dk_54 4 (dk_at dksX0_countsMore_0 3 rfl rfl)
theorem dX0_countsMore_5 : decode cX0_countsMore 5 = .ok (.iload 4, 2) := dk_21 4 (dk_at dksX0_countsMore_0 5 rfl rfl)
theorem dX0_countsMore_7 : decode cX0_countsMore 7 = .ok (.aload_n 0, 1) := dk_42 (dk_at dksX0_countsMore_0 7 rfl rfl)
theorem dX0_countsMore_8 : decode cX0_countsMore 8 = .ok (.getfield 199, 3) := dk_180 0 199 (dk_at dksX0_countsMore_0 8 rfl rfl)
theorem dX0_countsMore_11 : decode cX0_countsMore 11 = .ok (.getfield 203, 3) := dk_180 0 203 (dk_at dksX0_countsMore_0 11 rfl rfl)
theorem dX0_countsMore_14 : decode cX0_countsMore 14 = .ok (.if_icmp .ge 148, 3) := dk_162 0 148 (dk_at dksX0_countsMore_0 14 rfl rfl)
theorem dX0_countsMore_17 : decode cX0_countsMore 17 = .ok (.iload 4, 2) := dk_21 4 (dk_at dksX0_countsMore_0 17 rfl rfl)
theorem dX0_countsMore_19 : decode cX0_countsMore 19 = .ok (.iload_n 1, 1) := dk_27 (dk_at dksX0_countsMore_0 19 rfl rfl)
theorem dX0_countsMore_20 : decode cX0_countsMore 20 = .ok (.iload_n 2, 1) := dk_28 (dk_at dksX0_countsMore_0 20 rfl rfl)
theorem dX0_countsMore_21 : decode cX0_countsMore 21 = .ok (.invokestatic 546, 3) := dk_184 2 34 (dk_at dksX0_countsMore_0 21 rfl rfl)
theorem dX0_countsMore_24 : decode cX0_countsMore 24 = .ok (.istore 5, 2) := dk_54 5 (dk_at dksX0_countsMore_1 0 rfl rfl)
theorem dX0_countsMore_26 : decode cX0_countsMore 26 = .ok (.aload_n 0, 1) := dk_42 (dk_at dksX0_countsMore_1 2 rfl rfl)
theorem dX0_countsMore_27 : decode cX0_countsMore 27 = .ok (.getfield 157, 3) := dk_180 0 157 (dk_at dksX0_countsMore_1 3 rfl rfl)
theorem dX0_countsMore_30 : decode cX0_countsMore 30 = .ok (.iload 5, 2) := dk_21 5 (dk_at dksX0_countsMore_1 6 rfl rfl)
theorem dX0_countsMore_32 : decode cX0_countsMore 32 = .ok (.baload, 1) := dk_51 (dk_at dksX0_countsMore_1 8 rfl rfl)
theorem dX0_countsMore_33 : decode cX0_countsMore 33 = .ok (.ifCond .ne 6, 3) := dk_154 0 6 (dk_at dksX0_countsMore_1 9 rfl rfl)
theorem dX0_countsMore_36 : decode cX0_countsMore 36 = .ok (.goto 120, 3) := dk_167 0 120 (dk_at dksX0_countsMore_1 12 rfl rfl)
theorem dX0_countsMore_39 : decode cX0_countsMore 39 = .ok (.iconst 1, 1) := dk_4 (dk_at dksX0_countsMore_1 15 rfl rfl)
theorem dX0_countsMore_40 : decode cX0_countsMore 40 = .ok (.aload_n 0, 1) := dk_42 (dk_at dksX0_countsMore_1 16 rfl rfl)
theorem dX0_countsMore_41 : decode cX0_countsMore 41 = .ok (.iload 4, 2) := dk_21 4 (dk_at dksX0_countsMore_1 17 rfl rfl)
theorem dX0_countsMore_43 : decode cX0_countsMore 43 = .ok (.iload_n 1, 1) := dk_27 (dk_at dksX0_countsMore_1 19 rfl rfl)
theorem dX0_countsMore_44 : decode cX0_countsMore 44 = .ok (.iload_n 2, 1) := dk_28 (dk_at dksX0_countsMore_1 20 rfl rfl)
theorem dX0_countsMore_45 : decode cX0_countsMore 45 = .ok (.aload_n 0, 1) := dk_42 (dk_at dksX0_countsMore_1 21 rfl rfl)
theorem dX0_countsMore_46 : decode cX0_countsMore 46 = .ok (.getfield 114, 3) := dk_180 0 114 (dk_at dksX0_countsMore_2 0 rfl rfl)
theorem dX0_countsMore_49 : decode cX0_countsMore 49 = .ok (.aload_n 0, 1) := dk_42 (dk_at dksX0_countsMore_2 3 rfl rfl)
theorem dX0_countsMore_50 : decode cX0_countsMore 50 = .ok (.getfield 134, 3) := dk_180 0 134 (dk_at dksX0_countsMore_2 4 rfl rfl)
theorem dX0_countsMore_53 : decode cX0_countsMore 53 = .ok (.aload_n 0, 1) := dk_42 (dk_at dksX0_countsMore_2 7 rfl rfl)
theorem dX0_countsMore_54 : decode cX0_countsMore 54 = .ok (.getfield 138, 3) := dk_180 0 138 (dk_at dksX0_countsMore_2 8 rfl rfl)
theorem dX0_countsMore_57 : decode cX0_countsMore 57 = .ok (.ldc 12, 2) := dk_18 12 (dk_at dksX0_countsMore_2 11 rfl rfl)
theorem dX0_countsMore_59 : decode cX0_countsMore 59 = .ok (.iconst 0, 1) := dk_3 (dk_at dksX0_countsMore_2 13 rfl rfl)
theorem dX0_countsMore_60 : decode cX0_countsMore 60 = .ok (.invokevirtual 558, 3) := dk_182 2 46 (dk_at dksX0_countsMore_2 14 rfl rfl)
theorem dX0_countsMore_63 : decode cX0_countsMore 63 = .ok (.invokestatic 323, 3) := dk_184 1 67 (dk_at dksX0_countsMore_2 17 rfl rfl)
theorem dX0_countsMore_66 : decode cX0_countsMore 66 = .ok (.istore 6, 2) := dk_54 6 (dk_at dksX0_countsMore_2 20 rfl rfl)
theorem dX0_countsMore_68 : decode cX0_countsMore 68 = .ok (.aload_n 0, 1) := dk_42 (dk_at dksX0_countsMore_2 22 rfl rfl)
theorem dX0_countsMore_69 : decode cX0_countsMore 69 = .ok (.iload 4, 2) := dk_21 4 (dk_at dksX0_countsMore_3 0 rfl rfl)
theorem dX0_countsMore_71 : decode cX0_countsMore 71 = .ok (.invokevirtual 569, 3) := dk_182 2 57 (dk_at dksX0_countsMore_3 2 rfl rfl)
theorem dX0_countsMore_74 : decode cX0_countsMore 74 = .ok (.ifCond .eq 8, 3) := dk_153 0 8 (dk_at dksX0_countsMore_3 5 rfl rfl)
theorem dX0_countsMore_77 : decode cX0_countsMore 77 = .ok (.bipush (-3), 2) := dk_16 253 (dk_at dksX0_countsMore_3 8 rfl rfl)
theorem dX0_countsMore_79 : decode cX0_countsMore 79 = .ok (.goto 25, 3) := dk_167 0 25 (dk_at dksX0_countsMore_3 10 rfl rfl)
theorem dX0_countsMore_82 : decode cX0_countsMore 82 = .ok (.aload_n 0, 1) := dk_42 (dk_at dksX0_countsMore_3 13 rfl rfl)
theorem dX0_countsMore_83 : decode cX0_countsMore 83 = .ok (.iload 4, 2) := dk_21 4 (dk_at dksX0_countsMore_3 14 rfl rfl)
theorem dX0_countsMore_85 : decode cX0_countsMore 85 = .ok (.iload_n 1, 1) := dk_27 (dk_at dksX0_countsMore_3 16 rfl rfl)
theorem dX0_countsMore_86 : decode cX0_countsMore 86 = .ok (.iload_n 2, 1) := dk_28 (dk_at dksX0_countsMore_3 17 rfl rfl)
theorem dX0_countsMore_87 : decode cX0_countsMore 87 = .ok (.aload_n 0, 1) := dk_42 (dk_at dksX0_countsMore_3 18 rfl rfl)
theorem dX0_countsMore_88 : decode cX0_countsMore 88 = .ok (.getfield 110, 3) := dk_180 0 110 (dk_at dksX0_countsMore_3 19 rfl rfl)
theorem dX0_countsMore_91 : decode cX0_countsMore 91 = .ok (.aload_n 0, 1) := dk_42 (dk_at dksX0_countsMore_3 22 rfl rfl)
theorem dX0_countsMore_92 : decode cX0_countsMore 92 = .ok (.getfield 142, 3) := dk_180 0 142 (dk_at dksX0_countsMore_4 0 rfl rfl)
theorem dX0_countsMore_95 : decode cX0_countsMore 95 = .ok (.aload_n 0, 1) := dk_42 (dk_at dksX0_countsMore_4 3 rfl rfl)
theorem dX0_countsMore_96 : decode cX0_countsMore 96 = .ok (.getfield 146, 3) := dk_180 0 146 (dk_at dksX0_countsMore_4 4 rfl rfl)
theorem dX0_countsMore_99 : decode cX0_countsMore 99 = .ok (.iconst 0, 1) := dk_3 (dk_at dksX0_countsMore_4 7 rfl rfl)
theorem dX0_countsMore_100 : decode cX0_countsMore 100 = .ok (.iconst 1, 1) := dk_4 (dk_at dksX0_countsMore_4 8 rfl rfl)
theorem dX0_countsMore_101 : decode cX0_countsMore 101 = .ok (.invokevirtual 558, 3) := dk_182 2 46 (dk_at dksX0_countsMore_4 9 rfl rfl)
theorem dX0_countsMore_104 : decode cX0_countsMore 104 = .ok (.istore 7, 2) := dk_54 7 (dk_at dksX0_countsMore_4 12 rfl rfl)
theorem dX0_countsMore_106 : decode cX0_countsMore 106 = .ok (.iload_n 3, 1) := dk_29 (dk_at dksX0_countsMore_4 14 rfl rfl)
theorem dX0_countsMore_107 : decode cX0_countsMore 107 = .ok (.iload 6, 2) := dk_21 6 (dk_at dksX0_countsMore_4 15 rfl rfl)
theorem dX0_countsMore_109 : decode cX0_countsMore 109 = .ok (.aload_n 0, 1) := dk_42 (dk_at dksX0_countsMore_4 17 rfl rfl)
theorem dX0_countsMore_110 : decode cX0_countsMore 110 = .ok (.getfield 164, 3) := dk_180 0 164 (dk_at dksX0_countsMore_4 18 rfl rfl)
theorem dX0_countsMore_113 : decode cX0_countsMore 113 = .ok (.iload 5, 2) := dk_21 5 (dk_at dksX0_countsMore_4 21 rfl rfl)
theorem dX0_countsMore_115 : decode cX0_countsMore 115 = .ok (.iaload, 1) := dk_46 (dk_at dksX0_countsMore_4 23 rfl rfl)
theorem dX0_countsMore_116 : decode cX0_countsMore 116 = .ok (.if_icmp .ne 15, 3) := dk_160 0 15 (dk_at dksX0_countsMore_5 0 rfl rfl)
theorem dX0_countsMore_119 : decode cX0_countsMore 119 = .ok (.iload 7, 2) := dk_21 7 (dk_at dksX0_countsMore_5 3 rfl rfl)
theorem dX0_countsMore_121 : decode cX0_countsMore 121 = .ok (.aload_n 0, 1) := dk_42 (dk_at dksX0_countsMore_5 5 rfl rfl)
theorem dX0_countsMore_122 : decode cX0_countsMore 122 = .ok (.getfield 161, 3) := dk_180 0 161 (dk_at dksX0_countsMore_5 6 rfl rfl)
theorem dX0_countsMore_125 : decode cX0_countsMore 125 = .ok (.iload 5, 2) := dk_21 5 (dk_at dksX0_countsMore_5 9 rfl rfl)
theorem dX0_countsMore_127 : decode cX0_countsMore 127 = .ok (.iaload, 1) := dk_46 (dk_at dksX0_countsMore_5 11 rfl rfl)
theorem dX0_countsMore_128 : decode cX0_countsMore 128 = .ok (.if_icmp .eq 7, 3) := dk_159 0 7 (dk_at dksX0_countsMore_5 12 rfl rfl)
theorem dX0_countsMore_131 : decode cX0_countsMore 131 = .ok (.iconst 1, 1) := dk_4 (dk_at dksX0_countsMore_5 15 rfl rfl)
theorem dX0_countsMore_132 : decode cX0_countsMore 132 = .ok (.goto 4, 3) := dk_167 0 4 (dk_at dksX0_countsMore_5 16 rfl rfl)
theorem dX0_countsMore_135 : decode cX0_countsMore 135 = .ok (.iconst 0, 1) := dk_3 (dk_at dksX0_countsMore_5 19 rfl rfl)
theorem dX0_countsMore_136 : decode cX0_countsMore 136 = .ok (.ior, 1) := dk_128 (dk_at dksX0_countsMore_5 20 rfl rfl)
theorem dX0_countsMore_137 : decode cX0_countsMore 137 = .ok (.istore_n 3, 1) := dk_62 (dk_at dksX0_countsMore_5 21 rfl rfl)
theorem dX0_countsMore_138 : decode cX0_countsMore 138 = .ok (.aload_n 0, 1) := dk_42 (dk_at dksX0_countsMore_5 22 rfl rfl)
theorem dX0_countsMore_139 : decode cX0_countsMore 139 = .ok (.getfield 164, 3) := dk_180 0 164 (dk_at dksX0_countsMore_6 0 rfl rfl)
theorem dX0_countsMore_142 : decode cX0_countsMore 142 = .ok (.iload 5, 2) := dk_21 5 (dk_at dksX0_countsMore_6 3 rfl rfl)
theorem dX0_countsMore_144 : decode cX0_countsMore 144 = .ok (.iload 6, 2) := dk_21 6 (dk_at dksX0_countsMore_6 5 rfl rfl)
theorem dX0_countsMore_146 : decode cX0_countsMore 146 = .ok (.iastore, 1) := dk_79 (dk_at dksX0_countsMore_6 7 rfl rfl)
theorem dX0_countsMore_147 : decode cX0_countsMore 147 = .ok (.aload_n 0, 1) := dk_42 (dk_at dksX0_countsMore_6 8 rfl rfl)
theorem dX0_countsMore_148 : decode cX0_countsMore 148 = .ok (.getfield 161, 3) := dk_180 0 161 (dk_at dksX0_countsMore_6 9 rfl rfl)
theorem dX0_countsMore_151 : decode cX0_countsMore 151 = .ok (.iload 5, 2) := dk_21 5 (dk_at dksX0_countsMore_6 12 rfl rfl)
theorem dX0_countsMore_153 : decode cX0_countsMore 153 = .ok (.iload 7, 2) := dk_21 7 (dk_at dksX0_countsMore_6 14 rfl rfl)
theorem dX0_countsMore_155 : decode cX0_countsMore 155 = .ok (.iastore, 1) := dk_79 (dk_at dksX0_countsMore_6 16 rfl rfl)
theorem dX0_countsMore_156 : decode cX0_countsMore 156 = .ok (.iinc 4 1, 3) := dk_132 4 1 (dk_at dksX0_countsMore_6 17 rfl rfl)
theorem dX0_countsMore_159 : decode cX0_countsMore 159 = .ok (.goto (-154), 3) := dk_167 255 102 (dk_at dksX0_countsMore_6 20 rfl rfl)
theorem dX0_countsMore_162 : decode cX0_countsMore 162 = .ok (.iload_n 3, 1) := dk_29 (dk_at dksX0_countsMore_6 23 rfl rfl)
theorem dX0_countsMore_163 : decode cX0_countsMore 163 = .ok (.ireturn, 1) := dk_172 (dk_at dksX0_countsMore_7 0 rfl rfl)
abbrev cX0_isOnRing : ByteArray := prog_1_method_101_code
def yX0_isOnRing : MethodName := ⟨RX0, "isOnRing", "(I)Z"⟩
def dkwX0_isOnRing_2 : List UInt8 := [167, 0, 4, 3, 128, 61, 132, 4, 1, 167, 255, 218, 132, 3, 1, 167, 255, 203, 28, 27, 184, 0, 211, 172]
abbrev dktX0_isOnRing_2 : List UInt8 := dkwX0_isOnRing_2 ++ []
def dkwX0_isOnRing_1 : List UInt8 := [180, 0, 203, 162, 0, 32, 28, 28, 21, 4, 184, 0, 211, 153, 0, 13, 42, 180, 0, 176, 21, 4, 46]
abbrev dktX0_isOnRing_1 : List UInt8 := dkwX0_isOnRing_1 ++ dktX0_isOnRing_2
def dkwX0_isOnRing_0 : List UInt8 := [42, 180, 0, 176, 27, 46, 61, 3, 62, 29, 16, 12, 162, 0, 53, 3, 54, 4, 21, 4, 42, 180, 0, 199]
abbrev dktX0_isOnRing_0 : List UInt8 := dkwX0_isOnRing_0 ++ dktX0_isOnRing_1
theorem dksX0_isOnRing_0 : cX0_isOnRing.data.toList.drop 0 = dktX0_isOnRing_0 := by decide +kernel
theorem dksX0_isOnRing_1 : cX0_isOnRing.data.toList.drop 24 = dktX0_isOnRing_1 := dk_seg dksX0_isOnRing_0 24 rfl rfl
theorem dksX0_isOnRing_2 : cX0_isOnRing.data.toList.drop 47 = dktX0_isOnRing_2 := dk_seg dksX0_isOnRing_1 23 rfl rfl
theorem dX0_isOnRing_0 : decode cX0_isOnRing 0 = .ok (.aload_n 0, 1) := dk_42 (dk_at dksX0_isOnRing_0 0 rfl rfl)
theorem dX0_isOnRing_1 : decode cX0_isOnRing 1 = .ok (.getfield 176, 3) := dk_180 0 176 (dk_at dksX0_isOnRing_0 1 rfl rfl)
theorem dX0_isOnRing_4 : decode cX0_isOnRing 4 = .ok (.iload_n 1, 1) := dk_27 (dk_at dksX0_isOnRing_0 4 rfl rfl)
theorem dX0_isOnRing_5 : decode cX0_isOnRing 5 = .ok (.iaload, 1) := dk_46 (dk_at dksX0_isOnRing_0 5 rfl rfl)
theorem dX0_isOnRing_6 : decode cX0_isOnRing 6 = .ok (.istore_n 2, 1) := dk_61 (dk_at dksX0_isOnRing_0 6 rfl rfl)
theorem dX0_isOnRing_7 : decode cX0_isOnRing 7 = .ok (.iconst 0, 1) := dk_3 (dk_at dksX0_isOnRing_0 7 rfl rfl)
theorem dX0_isOnRing_8 : decode cX0_isOnRing 8 = .ok (.istore_n 3, 1) := dk_62 (dk_at dksX0_isOnRing_0 8 rfl rfl)
theorem dX0_isOnRing_9 : decode cX0_isOnRing 9 = .ok (.iload_n 3, 1) := dk_29 (dk_at dksX0_isOnRing_0 9 rfl rfl)
theorem dX0_isOnRing_10 : decode cX0_isOnRing 10 = .ok (.bipush 12, 2) := dk_16 12 (dk_at dksX0_isOnRing_0 10 rfl rfl)
theorem dX0_isOnRing_12 : decode cX0_isOnRing 12 = .ok (.if_icmp .ge 53, 3) := dk_162 0 53 (dk_at dksX0_isOnRing_0 12 rfl rfl)
theorem dX0_isOnRing_15 : decode cX0_isOnRing 15 = .ok (.iconst 0, 1) := dk_3 (dk_at dksX0_isOnRing_0 15 rfl rfl)
theorem dX0_isOnRing_16 : decode cX0_isOnRing 16 = .ok (.istore 4, 2) := dk_54 4 (dk_at dksX0_isOnRing_0 16 rfl rfl)
theorem dX0_isOnRing_18 : decode cX0_isOnRing 18 = .ok (.iload 4, 2) := dk_21 4 (dk_at dksX0_isOnRing_0 18 rfl rfl)
theorem dX0_isOnRing_20 : decode cX0_isOnRing 20 = .ok (.aload_n 0, 1) := dk_42 (dk_at dksX0_isOnRing_0 20 rfl rfl)
theorem dX0_isOnRing_21 : decode cX0_isOnRing 21 = .ok (.getfield 199, 3) := dk_180 0 199 (dk_at dksX0_isOnRing_0 21 rfl rfl)
theorem dX0_isOnRing_24 : decode cX0_isOnRing 24 = .ok (.getfield 203, 3) := dk_180 0 203 (dk_at dksX0_isOnRing_1 0 rfl rfl)
theorem dX0_isOnRing_27 : decode cX0_isOnRing 27 = .ok (.if_icmp .ge 32, 3) := dk_162 0 32 (dk_at dksX0_isOnRing_1 3 rfl rfl)
theorem dX0_isOnRing_30 : decode cX0_isOnRing 30 = .ok (.iload_n 2, 1) := dk_28 (dk_at dksX0_isOnRing_1 6 rfl rfl)
theorem dX0_isOnRing_31 : decode cX0_isOnRing 31 = .ok (.iload_n 2, 1) := dk_28 (dk_at dksX0_isOnRing_1 7 rfl rfl)
theorem dX0_isOnRing_32 : decode cX0_isOnRing 32 = .ok (.iload 4, 2) := dk_21 4 (dk_at dksX0_isOnRing_1 8 rfl rfl)
theorem dX0_isOnRing_34 : decode cX0_isOnRing 34 = .ok (.invokestatic 211, 3) := dk_184 0 211 (dk_at dksX0_isOnRing_1 10 rfl rfl)
theorem dX0_isOnRing_37 : decode cX0_isOnRing 37 = .ok (.ifCond .eq 13, 3) := dk_153 0 13 (dk_at dksX0_isOnRing_1 13 rfl rfl)
theorem dX0_isOnRing_40 : decode cX0_isOnRing 40 = .ok (.aload_n 0, 1) := dk_42 (dk_at dksX0_isOnRing_1 16 rfl rfl)
theorem dX0_isOnRing_41 : decode cX0_isOnRing 41 = .ok (.getfield 176, 3) := dk_180 0 176 (dk_at dksX0_isOnRing_1 17 rfl rfl)
theorem dX0_isOnRing_44 : decode cX0_isOnRing 44 = .ok (.iload 4, 2) := dk_21 4 (dk_at dksX0_isOnRing_1 20 rfl rfl)
theorem dX0_isOnRing_46 : decode cX0_isOnRing 46 = .ok (.iaload, 1) := dk_46 (dk_at dksX0_isOnRing_1 22 rfl rfl)
theorem dX0_isOnRing_47 : decode cX0_isOnRing 47 = .ok (.goto 4, 3) := dk_167 0 4 (dk_at dksX0_isOnRing_2 0 rfl rfl)
theorem dX0_isOnRing_50 : decode cX0_isOnRing 50 = .ok (.iconst 0, 1) := dk_3 (dk_at dksX0_isOnRing_2 3 rfl rfl)
theorem dX0_isOnRing_51 : decode cX0_isOnRing 51 = .ok (.ior, 1) := dk_128 (dk_at dksX0_isOnRing_2 4 rfl rfl)
theorem dX0_isOnRing_52 : decode cX0_isOnRing 52 = .ok (.istore_n 2, 1) := dk_61 (dk_at dksX0_isOnRing_2 5 rfl rfl)
theorem dX0_isOnRing_53 : decode cX0_isOnRing 53 = .ok (.iinc 4 1, 3) := dk_132 4 1 (dk_at dksX0_isOnRing_2 6 rfl rfl)
theorem dX0_isOnRing_56 : decode cX0_isOnRing 56 = .ok (.goto (-38), 3) := dk_167 255 218 (dk_at dksX0_isOnRing_2 9 rfl rfl)
theorem dX0_isOnRing_59 : decode cX0_isOnRing 59 = .ok (.iinc 3 1, 3) := dk_132 3 1 (dk_at dksX0_isOnRing_2 12 rfl rfl)
theorem dX0_isOnRing_62 : decode cX0_isOnRing 62 = .ok (.goto (-53), 3) := dk_167 255 203 (dk_at dksX0_isOnRing_2 15 rfl rfl)
theorem dX0_isOnRing_65 : decode cX0_isOnRing 65 = .ok (.iload_n 2, 1) := dk_28 (dk_at dksX0_isOnRing_2 18 rfl rfl)
theorem dX0_isOnRing_66 : decode cX0_isOnRing 66 = .ok (.iload_n 1, 1) := dk_27 (dk_at dksX0_isOnRing_2 19 rfl rfl)
theorem dX0_isOnRing_67 : decode cX0_isOnRing 67 = .ok (.invokestatic 211, 3) := dk_184 0 211 (dk_at dksX0_isOnRing_2 20 rfl rfl)
theorem dX0_isOnRing_70 : decode cX0_isOnRing 70 = .ok (.ireturn, 1) := dk_172 (dk_at dksX0_isOnRing_2 23 rfl rfl)
abbrev cX0_growsForest : ByteArray := prog_1_method_109_code
def yX0_growsForest : MethodName := ⟨RX0, "growsForest", "()V"⟩
def dkwX0_growsForest_5 : List UInt8 := [112, 182, 2, 91, 167, 255, 207, 177]
abbrev dktX0_growsForest_5 : List UInt8 := dkwX0_growsForest_5 ++ []
def dkwX0_growsForest_4 : List UInt8 := [42, 180, 2, 81, 46, 60, 42, 27, 17, 0, 169, 108, 3, 27, 17, 0, 169, 112, 16, 13, 108, 27, 16, 13]
abbrev dktX0_growsForest_4 : List UInt8 := dkwX0_growsForest_4 ++ dktX0_growsForest_5
def dkwX0_growsForest_3 : List UInt8 := [167, 255, 196, 42, 180, 2, 81, 158, 0, 48, 42, 89, 180, 2, 81, 4, 100, 181, 2, 81, 42, 180, 0, 179]
abbrev dktX0_growsForest_3 : List UInt8 := dkwX0_growsForest_3 ++ dktX0_growsForest_4
def dkwX0_growsForest_2 : List UInt8 := [180, 1, 29, 184, 2, 34, 51, 153, 0, 13, 42, 27, 3, 42, 180, 1, 29, 182, 2, 87, 132, 1, 1]
abbrev dktX0_growsForest_2 : List UInt8 := dkwX0_growsForest_2 ++ dktX0_growsForest_3
def dkwX0_growsForest_1 : List UInt8 := [180, 1, 49, 27, 46, 42, 180, 0, 199, 180, 1, 102, 160, 0, 30, 42, 180, 0, 157, 27, 3, 42]
abbrev dktX0_growsForest_1 : List UInt8 := dkwX0_growsForest_1 ++ dktX0_growsForest_2
def dkwX0_growsForest_0 : List UInt8 := [42, 3, 181, 2, 81, 3, 60, 27, 42, 180, 0, 199, 180, 0, 203, 162, 0, 55, 42, 180, 0, 199]
abbrev dktX0_growsForest_0 : List UInt8 := dkwX0_growsForest_0 ++ dktX0_growsForest_1
theorem dksX0_growsForest_0 : cX0_growsForest.data.toList.drop 0 = dktX0_growsForest_0 := by decide +kernel
theorem dksX0_growsForest_1 : cX0_growsForest.data.toList.drop 22 = dktX0_growsForest_1 := dk_seg dksX0_growsForest_0 22 rfl rfl
theorem dksX0_growsForest_2 : cX0_growsForest.data.toList.drop 44 = dktX0_growsForest_2 := dk_seg dksX0_growsForest_1 22 rfl rfl
theorem dksX0_growsForest_3 : cX0_growsForest.data.toList.drop 67 = dktX0_growsForest_3 := dk_seg dksX0_growsForest_2 23 rfl rfl
theorem dksX0_growsForest_4 : cX0_growsForest.data.toList.drop 91 = dktX0_growsForest_4 := dk_seg dksX0_growsForest_3 24 rfl rfl
theorem dksX0_growsForest_5 : cX0_growsForest.data.toList.drop 115 = dktX0_growsForest_5 := dk_seg dksX0_growsForest_4 24 rfl rfl
theorem dX0_growsForest_0 : decode cX0_growsForest 0 = .ok (.aload_n 0, 1) := dk_42 (dk_at dksX0_growsForest_0 0 rfl rfl)
theorem dX0_growsForest_1 : decode cX0_growsForest 1 = .ok (.iconst 0, 1) := dk_3 (dk_at dksX0_growsForest_0 1 rfl rfl)
theorem dX0_growsForest_2 : decode cX0_growsForest 2 = .ok (.putfield 593, 3) := dk_181 2 81 (dk_at dksX0_growsForest_0 2 rfl rfl)
theorem dX0_growsForest_5 : decode cX0_growsForest 5 = .ok (.iconst 0, 1) := dk_3 (dk_at dksX0_growsForest_0 5 rfl rfl)
theorem dX0_growsForest_6 : decode cX0_growsForest 6 = .ok (.istore_n 1, 1) := dk_60 (dk_at dksX0_growsForest_0 6 rfl rfl)
theorem dX0_growsForest_7 : decode cX0_growsForest 7 = .ok (.iload_n 1, 1) := dk_27 (dk_at dksX0_growsForest_0 7 rfl rfl)
theorem dX0_growsForest_8 : decode cX0_growsForest 8 = .ok (.aload_n 0, 1) := dk_42 (dk_at dksX0_growsForest_0 8 rfl rfl)
theorem dX0_growsForest_9 : decode cX0_growsForest 9 = .ok (.getfield 199, 3) := dk_180 0 199 (dk_at dksX0_growsForest_0 9 rfl rfl)
theorem dX0_growsForest_12 : decode cX0_growsForest 12 = .ok (.getfield 203, 3) := dk_180 0 203 (dk_at dksX0_growsForest_0 12 rfl rfl)
theorem dX0_growsForest_15 : decode cX0_growsForest 15 = .ok (.if_icmp .ge 55, 3) := dk_162 0 55 (dk_at dksX0_growsForest_0 15 rfl rfl)
theorem dX0_growsForest_18 : decode cX0_growsForest 18 = .ok (.aload_n 0, 1) := dk_42 (dk_at dksX0_growsForest_0 18 rfl rfl)
theorem dX0_growsForest_19 : decode cX0_growsForest 19 = .ok (.getfield 199, 3) := dk_180 0 199 (dk_at dksX0_growsForest_0 19 rfl rfl)
theorem dX0_growsForest_22 : decode cX0_growsForest 22 = .ok (.getfield 305, 3) := dk_180 1 49 (dk_at dksX0_growsForest_1 0 rfl rfl)
theorem dX0_growsForest_25 : decode cX0_growsForest 25 = .ok (.iload_n 1, 1) := dk_27 (dk_at dksX0_growsForest_1 3 rfl rfl)
theorem dX0_growsForest_26 : decode cX0_growsForest 26 = .ok (.iaload, 1) := dk_46 (dk_at dksX0_growsForest_1 4 rfl rfl)
theorem dX0_growsForest_27 : decode cX0_growsForest 27 = .ok (.aload_n 0, 1) := dk_42 (dk_at dksX0_growsForest_1 5 rfl rfl)
theorem dX0_growsForest_28 : decode cX0_growsForest 28 = .ok (.getfield 199, 3) := dk_180 0 199 (dk_at dksX0_growsForest_1 6 rfl rfl)
theorem dX0_growsForest_31 : decode cX0_growsForest 31 = .ok (.getfield 358, 3) := dk_180 1 102 (dk_at dksX0_growsForest_1 9 rfl rfl)
theorem dX0_growsForest_34 : decode cX0_growsForest 34 = .ok (.if_icmp .ne 30, 3) := dk_160 0 30 (dk_at dksX0_growsForest_1 12 rfl rfl)
theorem dX0_growsForest_37 : decode cX0_growsForest 37 = .ok (.aload_n 0, 1) := dk_42 (dk_at dksX0_growsForest_1 15 rfl rfl)
theorem dX0_growsForest_38 : decode cX0_growsForest 38 = .ok (.getfield 157, 3) := dk_180 0 157 (dk_at dksX0_growsForest_1 16 rfl rfl)
theorem dX0_growsForest_41 : decode cX0_growsForest 41 = .ok (.iload_n 1, 1) := dk_27 (dk_at dksX0_growsForest_1 19 rfl rfl)
theorem dX0_growsForest_42 : decode cX0_growsForest 42 = .ok (.iconst 0, 1) := dk_3 (dk_at dksX0_growsForest_1 20 rfl rfl)
theorem dX0_growsForest_43 : decode cX0_growsForest 43 = .ok (.aload_n 0, 1) := dk_42 (dk_at dksX0_growsForest_1 21 rfl rfl)
theorem dX0_growsForest_44 : decode cX0_growsForest 44 = .ok (.getfield 285, 3) := dk_180 1 29 (dk_at dksX0_growsForest_2 0 rfl rfl)
theorem dX0_growsForest_47 : decode cX0_growsForest 47 = .ok (.invokestatic 546, 3) := dk_184 2 34 (dk_at dksX0_growsForest_2 3 rfl rfl)
theorem dX0_growsForest_50 : decode cX0_growsForest 50 = .ok (.baload, 1) := dk_51 (dk_at dksX0_growsForest_2 6 rfl rfl)
theorem dX0_growsForest_51 : decode cX0_growsForest 51 = .ok (.ifCond .eq 13, 3) := dk_153 0 13 (dk_at dksX0_growsForest_2 7 rfl rfl)
theorem dX0_growsForest_54 : decode cX0_growsForest 54 = .ok (.aload_n 0, 1) := dk_42 (dk_at dksX0_growsForest_2 10 rfl rfl)
theorem dX0_growsForest_55 : decode cX0_growsForest 55 = .ok (.iload_n 1, 1) := dk_27 (dk_at dksX0_growsForest_2 11 rfl rfl)
theorem dX0_growsForest_56 : decode cX0_growsForest 56 = .ok (.iconst 0, 1) := dk_3 (dk_at dksX0_growsForest_2 12 rfl rfl)
theorem dX0_growsForest_57 : decode cX0_growsForest 57 = .ok (.aload_n 0, 1) := dk_42 (dk_at dksX0_growsForest_2 13 rfl rfl)
theorem dX0_growsForest_58 : decode cX0_growsForest 58 = .ok (.getfield 285, 3) := dk_180 1 29 (dk_at dksX0_growsForest_2 14 rfl rfl)
theorem dX0_growsForest_61 : decode cX0_growsForest 61 = .ok (.invokevirtual 599, 3) := dk_182 2 87 (dk_at dksX0_growsForest_2 17 rfl rfl)
theorem dX0_growsForest_64 : decode cX0_growsForest 64 = .ok (.iinc 1 1, 3) := dk_132 1 1 (dk_at dksX0_growsForest_2 20 rfl rfl)
theorem dX0_growsForest_67 : decode cX0_growsForest 67 = .ok (.goto (-60), 3) := dk_167 255 196 (dk_at dksX0_growsForest_3 0 rfl rfl)
theorem dX0_growsForest_70 : decode cX0_growsForest 70 = .ok (.aload_n 0, 1) := dk_42 (dk_at dksX0_growsForest_3 3 rfl rfl)
theorem dX0_growsForest_71 : decode cX0_growsForest 71 = .ok (.getfield 593, 3) := dk_180 2 81 (dk_at dksX0_growsForest_3 4 rfl rfl)
theorem dX0_growsForest_74 : decode cX0_growsForest 74 = .ok (.ifCond .le 48, 3) := dk_158 0 48 (dk_at dksX0_growsForest_3 7 rfl rfl)
theorem dX0_growsForest_77 : decode cX0_growsForest 77 = .ok (.aload_n 0, 1) := dk_42 (dk_at dksX0_growsForest_3 10 rfl rfl)
theorem dX0_growsForest_78 : decode cX0_growsForest 78 = .ok (.dup, 1) := dk_89 (dk_at dksX0_growsForest_3 11 rfl rfl)
theorem dX0_growsForest_79 : decode cX0_growsForest 79 = .ok (.getfield 593, 3) := dk_180 2 81 (dk_at dksX0_growsForest_3 12 rfl rfl)
theorem dX0_growsForest_82 : decode cX0_growsForest 82 = .ok (.iconst 1, 1) := dk_4 (dk_at dksX0_growsForest_3 15 rfl rfl)
theorem dX0_growsForest_83 : decode cX0_growsForest 83 = .ok (.isub, 1) := dk_100 (dk_at dksX0_growsForest_3 16 rfl rfl)
theorem dX0_growsForest_84 : decode cX0_growsForest 84 = .ok (.putfield 593, 3) := dk_181 2 81 (dk_at dksX0_growsForest_3 17 rfl rfl)
theorem dX0_growsForest_87 : decode cX0_growsForest 87 = .ok (.aload_n 0, 1) := dk_42 (dk_at dksX0_growsForest_3 20 rfl rfl)
theorem dX0_growsForest_88 : decode cX0_growsForest 88 = .ok (.getfield 179, 3) := dk_180 0 179 (dk_at dksX0_growsForest_3 21 rfl rfl)
theorem dX0_growsForest_91 : decode cX0_growsForest 91 = .ok (.aload_n 0, 1) := dk_42 (dk_at dksX0_growsForest_4 0 rfl rfl)
theorem dX0_growsForest_92 : decode cX0_growsForest 92 = .ok (.getfield 593, 3) := dk_180 2 81 (dk_at dksX0_growsForest_4 1 rfl rfl)
theorem dX0_growsForest_95 : decode cX0_growsForest 95 = .ok (.iaload, 1) := dk_46 (dk_at dksX0_growsForest_4 4 rfl rfl)
theorem dX0_growsForest_96 : decode cX0_growsForest 96 = .ok (.istore_n 1, 1) := dk_60 (dk_at dksX0_growsForest_4 5 rfl rfl)
theorem dX0_growsForest_97 : decode cX0_growsForest 97 = .ok (.aload_n 0, 1) := dk_42 (dk_at dksX0_growsForest_4 6 rfl rfl)
theorem dX0_growsForest_98 : decode cX0_growsForest 98 = .ok (.iload_n 1, 1) := dk_27 (dk_at dksX0_growsForest_4 7 rfl rfl)
theorem dX0_growsForest_99 : decode cX0_growsForest 99 = .ok (.sipush 169, 3) := dk_17 0 169 (dk_at dksX0_growsForest_4 8 rfl rfl)
theorem dX0_growsForest_102 : decode cX0_growsForest 102 = .ok (.idiv, 1) := dk_108 (dk_at dksX0_growsForest_4 11 rfl rfl)
theorem dX0_growsForest_103 : decode cX0_growsForest 103 = .ok (.iconst 0, 1) := dk_3 (dk_at dksX0_growsForest_4 12 rfl rfl)
theorem dX0_growsForest_104 : decode cX0_growsForest 104 = .ok (.iload_n 1, 1) := dk_27 (dk_at dksX0_growsForest_4 13 rfl rfl)
theorem dX0_growsForest_105 : decode cX0_growsForest 105 = .ok (.sipush 169, 3) := dk_17 0 169 (dk_at dksX0_growsForest_4 14 rfl rfl)
theorem dX0_growsForest_108 : decode cX0_growsForest 108 = .ok (.irem, 1) := dk_112 (dk_at dksX0_growsForest_4 17 rfl rfl)
theorem dX0_growsForest_109 : decode cX0_growsForest 109 = .ok (.bipush 13, 2) := dk_16 13 (dk_at dksX0_growsForest_4 18 rfl rfl)
theorem dX0_growsForest_111 : decode cX0_growsForest 111 = .ok (.idiv, 1) := dk_108 (dk_at dksX0_growsForest_4 20 rfl rfl)
theorem dX0_growsForest_112 : decode cX0_growsForest 112 = .ok (.iload_n 1, 1) := dk_27 (dk_at dksX0_growsForest_4 21 rfl rfl)
theorem dX0_growsForest_113 : decode cX0_growsForest 113 = .ok (.bipush 13, 2) := dk_16 13 (dk_at dksX0_growsForest_4 22 rfl rfl)
theorem dX0_growsForest_115 : decode cX0_growsForest 115 = .ok (.irem, 1) := dk_112 (dk_at dksX0_growsForest_5 0 rfl rfl)
theorem dX0_growsForest_116 : decode cX0_growsForest 116 = .ok (.invokevirtual 603, 3) := dk_182 2 91 (dk_at dksX0_growsForest_5 1 rfl rfl)
theorem dX0_growsForest_119 : decode cX0_growsForest 119 = .ok (.goto (-49), 3) := dk_167 255 207 (dk_at dksX0_growsForest_5 4 rfl rfl)
theorem dX0_growsForest_122 : decode cX0_growsForest 122 = .ok (.return_, 1) := dk_177 (dk_at dksX0_growsForest_5 7 rfl rfl)
abbrev cX0_marks : ByteArray := prog_1_method_106_code
def yX0_marks : MethodName := ⟨RX0, "marks", "(III)V"⟩
def dkwX0_marks_2 : List UInt8 := [180, 2, 81, 4, 96, 181, 2, 81, 177]
abbrev dktX0_marks_2 : List UInt8 := dkwX0_marks_2 ++ []
def dkwX0_marks_1 : List UInt8 := [184, 2, 34, 4, 84, 42, 180, 0, 179, 42, 180, 2, 81, 27, 28, 29, 184, 2, 34, 79, 42, 89]
abbrev dktX0_marks_1 : List UInt8 := dkwX0_marks_1 ++ dktX0_marks_2
def dkwX0_marks_0 : List UInt8 := [42, 180, 0, 167, 27, 28, 29, 184, 2, 34, 51, 153, 0, 4, 177, 42, 180, 0, 167, 27, 28, 29]
abbrev dktX0_marks_0 : List UInt8 := dkwX0_marks_0 ++ dktX0_marks_1
theorem dksX0_marks_0 : cX0_marks.data.toList.drop 0 = dktX0_marks_0 := by decide +kernel
theorem dksX0_marks_1 : cX0_marks.data.toList.drop 22 = dktX0_marks_1 := dk_seg dksX0_marks_0 22 rfl rfl
theorem dksX0_marks_2 : cX0_marks.data.toList.drop 44 = dktX0_marks_2 := dk_seg dksX0_marks_1 22 rfl rfl
theorem dX0_marks_0 : decode cX0_marks 0 = .ok (.aload_n 0, 1) := dk_42 (dk_at dksX0_marks_0 0 rfl rfl)
theorem dX0_marks_1 : decode cX0_marks 1 = .ok (.getfield 167, 3) := dk_180 0 167 (dk_at dksX0_marks_0 1 rfl rfl)
theorem dX0_marks_4 : decode cX0_marks 4 = .ok (.iload_n 1, 1) := dk_27 (dk_at dksX0_marks_0 4 rfl rfl)
theorem dX0_marks_5 : decode cX0_marks 5 = .ok (.iload_n 2, 1) := dk_28 (dk_at dksX0_marks_0 5 rfl rfl)
theorem dX0_marks_6 : decode cX0_marks 6 = .ok (.iload_n 3, 1) := dk_29 (dk_at dksX0_marks_0 6 rfl rfl)
theorem dX0_marks_7 : decode cX0_marks 7 = .ok (.invokestatic 546, 3) := dk_184 2 34 (dk_at dksX0_marks_0 7 rfl rfl)
theorem dX0_marks_10 : decode cX0_marks 10 = .ok (.baload, 1) := dk_51 (dk_at dksX0_marks_0 10 rfl rfl)
theorem dX0_marks_11 : decode cX0_marks 11 = .ok (.ifCond .eq 4, 3) := dk_153 0 4 (dk_at dksX0_marks_0 11 rfl rfl)
theorem dX0_marks_14 : decode cX0_marks 14 = .ok (.return_, 1) := dk_177 (dk_at dksX0_marks_0 14 rfl rfl)
theorem dX0_marks_15 : decode cX0_marks 15 = .ok (.aload_n 0, 1) := dk_42 (dk_at dksX0_marks_0 15 rfl rfl)
theorem dX0_marks_16 : decode cX0_marks 16 = .ok (.getfield 167, 3) := dk_180 0 167 (dk_at dksX0_marks_0 16 rfl rfl)
theorem dX0_marks_19 : decode cX0_marks 19 = .ok (.iload_n 1, 1) := dk_27 (dk_at dksX0_marks_0 19 rfl rfl)
theorem dX0_marks_20 : decode cX0_marks 20 = .ok (.iload_n 2, 1) := dk_28 (dk_at dksX0_marks_0 20 rfl rfl)
theorem dX0_marks_21 : decode cX0_marks 21 = .ok (.iload_n 3, 1) := dk_29 (dk_at dksX0_marks_0 21 rfl rfl)
theorem dX0_marks_22 : decode cX0_marks 22 = .ok (.invokestatic 546, 3) := dk_184 2 34 (dk_at dksX0_marks_1 0 rfl rfl)
theorem dX0_marks_25 : decode cX0_marks 25 = .ok (.iconst 1, 1) := dk_4 (dk_at dksX0_marks_1 3 rfl rfl)
theorem dX0_marks_26 : decode cX0_marks 26 = .ok (.bastore, 1) := dk_84 (dk_at dksX0_marks_1 4 rfl rfl)
theorem dX0_marks_27 : decode cX0_marks 27 = .ok (.aload_n 0, 1) := dk_42 (dk_at dksX0_marks_1 5 rfl rfl)
theorem dX0_marks_28 : decode cX0_marks 28 = .ok (.getfield 179, 3) := dk_180 0 179 (dk_at dksX0_marks_1 6 rfl rfl)
theorem dX0_marks_31 : decode cX0_marks 31 = .ok (.aload_n 0, 1) := dk_42 (dk_at dksX0_marks_1 9 rfl rfl)
theorem dX0_marks_32 : decode cX0_marks 32 = .ok (.getfield 593, 3) := dk_180 2 81 (dk_at dksX0_marks_1 10 rfl rfl)
theorem dX0_marks_35 : decode cX0_marks 35 = .ok (.iload_n 1, 1) := dk_27 (dk_at dksX0_marks_1 13 rfl rfl)
theorem dX0_marks_36 : decode cX0_marks 36 = .ok (.iload_n 2, 1) := dk_28 (dk_at dksX0_marks_1 14 rfl rfl)
theorem dX0_marks_37 : decode cX0_marks 37 = .ok (.iload_n 3, 1) := dk_29 (dk_at dksX0_marks_1 15 rfl rfl)
theorem dX0_marks_38 : decode cX0_marks 38 = .ok (.invokestatic 546, 3) := dk_184 2 34 (dk_at dksX0_marks_1 16 rfl rfl)
theorem dX0_marks_41 : decode cX0_marks 41 = .ok (.iastore, 1) := dk_79 (dk_at dksX0_marks_1 19 rfl rfl)
theorem dX0_marks_42 : decode cX0_marks 42 = .ok (.aload_n 0, 1) := dk_42 (dk_at dksX0_marks_1 20 rfl rfl)
theorem dX0_marks_43 : decode cX0_marks 43 = .ok (.dup, 1) := dk_89 (dk_at dksX0_marks_1 21 rfl rfl)
theorem dX0_marks_44 : decode cX0_marks 44 = .ok (.getfield 593, 3) := dk_180 2 81 (dk_at dksX0_marks_2 0 rfl rfl)
theorem dX0_marks_47 : decode cX0_marks 47 = .ok (.iconst 1, 1) := dk_4 (dk_at dksX0_marks_2 3 rfl rfl)
theorem dX0_marks_48 : decode cX0_marks 48 = .ok (.iadd, 1) := dk_96 (dk_at dksX0_marks_2 4 rfl rfl)
theorem dX0_marks_49 : decode cX0_marks 49 = .ok (.putfield 593, 3) := dk_181 2 81 (dk_at dksX0_marks_2 5 rfl rfl)
theorem dX0_marks_52 : decode cX0_marks 52 = .ok (.return_, 1) := dk_177 (dk_at dksX0_marks_2 8 rfl rfl)
abbrev cX0_marksBelow : ByteArray := prog_1_method_108_code
def yX0_marksBelow : MethodName := ⟨RX0, "marksBelow", "(IIII)V"⟩
def dkwX0_marksBelow_6 : List UInt8 := [167, 255, 132, 177]
abbrev dktX0_marksBelow_6 : List UInt8 := dkwX0_marksBelow_6 ++ []
def dkwX0_marksBelow_5 : List UInt8 := [182, 2, 87, 132, 6, 1, 167, 255, 190, 42, 27, 28, 4, 96, 21, 5, 21, 4, 182, 2, 91, 132, 5, 1]
abbrev dktX0_marksBelow_5 : List UInt8 := dkwX0_marksBelow_5 ++ dktX0_marksBelow_6
def dkwX0_marksBelow_4 : List UInt8 := [184, 1, 55, 153, 0, 23, 42, 27, 28, 21, 6, 182, 2, 37, 153, 0, 12, 42, 21, 6, 29, 21, 5]
abbrev dktX0_marksBelow_4 : List UInt8 := dkwX0_marksBelow_4 ++ dktX0_marksBelow_5
def dkwX0_marksBelow_3 : List UInt8 := [180, 0, 157, 21, 6, 29, 21, 5, 184, 2, 34, 51, 153, 0, 38, 42, 180, 0, 199, 27, 28, 182, 1, 52]
abbrev dktX0_marksBelow_3 : List UInt8 := dkwX0_marksBelow_3 ++ dktX0_marksBelow_4
def dkwX0_marksBelow_2 : List UInt8 := [154, 0, 6, 167, 0, 87, 3, 54, 6, 21, 6, 42, 180, 0, 199, 180, 0, 203, 162, 0, 60, 42]
abbrev dktX0_marksBelow_2 : List UInt8 := dkwX0_marksBelow_2 ++ dktX0_marksBelow_3
def dkwX0_marksBelow_1 : List UInt8 := [42, 27, 28, 29, 21, 5, 182, 2, 50, 153, 0, 105, 42, 27, 28, 4, 96, 21, 5, 21, 4, 182, 2, 84]
abbrev dktX0_marksBelow_1 : List UInt8 := dkwX0_marksBelow_1 ++ dktX0_marksBelow_2
def dkwX0_marksBelow_0 : List UInt8 := [28, 42, 180, 0, 199, 180, 0, 232, 27, 46, 160, 0, 4, 177, 29, 54, 5, 21, 5, 21, 4, 163, 0, 123]
abbrev dktX0_marksBelow_0 : List UInt8 := dkwX0_marksBelow_0 ++ dktX0_marksBelow_1
theorem dksX0_marksBelow_0 : cX0_marksBelow.data.toList.drop 0 = dktX0_marksBelow_0 := by decide +kernel
theorem dksX0_marksBelow_1 : cX0_marksBelow.data.toList.drop 24 = dktX0_marksBelow_1 := dk_seg dksX0_marksBelow_0 24 rfl rfl
theorem dksX0_marksBelow_2 : cX0_marksBelow.data.toList.drop 48 = dktX0_marksBelow_2 := dk_seg dksX0_marksBelow_1 24 rfl rfl
theorem dksX0_marksBelow_3 : cX0_marksBelow.data.toList.drop 70 = dktX0_marksBelow_3 := dk_seg dksX0_marksBelow_2 22 rfl rfl
theorem dksX0_marksBelow_4 : cX0_marksBelow.data.toList.drop 94 = dktX0_marksBelow_4 := dk_seg dksX0_marksBelow_3 24 rfl rfl
theorem dksX0_marksBelow_5 : cX0_marksBelow.data.toList.drop 117 = dktX0_marksBelow_5 := dk_seg dksX0_marksBelow_4 23 rfl rfl
theorem dksX0_marksBelow_6 : cX0_marksBelow.data.toList.drop 141 = dktX0_marksBelow_6 := dk_seg dksX0_marksBelow_5 24 rfl rfl
theorem dX0_marksBelow_0 : decode cX0_marksBelow 0 = .ok (.iload_n 2, 1) := dk_28 (dk_at dksX0_marksBelow_0 0 rfl rfl)
theorem dX0_marksBelow_1 : decode cX0_marksBelow 1 = .ok (.aload_n 0, 1) := dk_42 (dk_at dksX0_marksBelow_0 1 rfl rfl)
theorem dX0_marksBelow_2 : decode cX0_marksBelow 2 = .ok (.getfield 199, 3) := dk_180 0 199 (dk_at dksX0_marksBelow_0 2 rfl rfl)
theorem dX0_marksBelow_5 : decode cX0_marksBelow 5 = .ok (.getfield 232, 3) := dk_180 0 232 (dk_at dksX0_marksBelow_0 5 rfl rfl)
theorem dX0_marksBelow_8 : decode cX0_marksBelow 8 = .ok (.iload_n 1, 1) := dk_27 (dk_at dksX0_marksBelow_0 8 rfl rfl)
theorem dX0_marksBelow_9 : decode cX0_marksBelow 9 = .ok (.iaload, 1) := dk_46 (dk_at dksX0_marksBelow_0 9 rfl rfl)
theorem dX0_marksBelow_10 : decode cX0_marksBelow 10 = .ok (.if_icmp .ne 4, 3) := dk_160 0 4 (dk_at dksX0_marksBelow_0 10 rfl rfl)
theorem dX0_marksBelow_13 : decode cX0_marksBelow 13 = .ok (.return_, 1) := dk_177 (dk_at dksX0_marksBelow_0 13 rfl rfl)
theorem dX0_marksBelow_14 : decode cX0_marksBelow 14 = .ok (.iload_n 3, 1) := dk_29 (dk_at dksX0_marksBelow_0 14 rfl rfl)
theorem dX0_marksBelow_15 : decode cX0_marksBelow 15 = .ok (.istore 5, 2) := dk_54 5 (dk_at dksX0_marksBelow_0 15 rfl rfl)
theorem dX0_marksBelow_17 : decode cX0_marksBelow 17 = .ok (.iload 5, 2) := dk_21 5 (dk_at dksX0_marksBelow_0 17 rfl rfl)
theorem dX0_marksBelow_19 : decode cX0_marksBelow 19 = .ok (.iload 4, 2) := dk_21 4 (dk_at dksX0_marksBelow_0 19 rfl rfl)
theorem dX0_marksBelow_21 : decode cX0_marksBelow 21 = .ok (.if_icmp .gt 123, 3) := dk_163 0 123 (dk_at dksX0_marksBelow_0 21 rfl rfl)
theorem dX0_marksBelow_24 : decode cX0_marksBelow 24 = .ok (.aload_n 0, 1) := dk_42 (dk_at dksX0_marksBelow_1 0 rfl rfl)
theorem dX0_marksBelow_25 : decode cX0_marksBelow 25 = .ok (.iload_n 1, 1) := dk_27 (dk_at dksX0_marksBelow_1 1 rfl rfl)
theorem dX0_marksBelow_26 : decode cX0_marksBelow 26 = .ok (.iload_n 2, 1) := dk_28 (dk_at dksX0_marksBelow_1 2 rfl rfl)
theorem dX0_marksBelow_27 : decode cX0_marksBelow 27 = .ok (.iload_n 3, 1) := dk_29 (dk_at dksX0_marksBelow_1 3 rfl rfl)
theorem dX0_marksBelow_28 : decode cX0_marksBelow 28 = .ok (.iload 5, 2) := dk_21 5 (dk_at dksX0_marksBelow_1 4 rfl rfl)
theorem dX0_marksBelow_30 : decode cX0_marksBelow 30 = .ok (.invokevirtual 562, 3) := dk_182 2 50 (dk_at dksX0_marksBelow_1 6 rfl rfl)
theorem dX0_marksBelow_33 : decode cX0_marksBelow 33 = .ok (.ifCond .eq 105, 3) := dk_153 0 105 (dk_at dksX0_marksBelow_1 9 rfl rfl)
theorem dX0_marksBelow_36 : decode cX0_marksBelow 36 = .ok (.aload_n 0, 1) := dk_42 (dk_at dksX0_marksBelow_1 12 rfl rfl)
theorem dX0_marksBelow_37 : decode cX0_marksBelow 37 = .ok (.iload_n 1, 1) := dk_27 (dk_at dksX0_marksBelow_1 13 rfl rfl)
theorem dX0_marksBelow_38 : decode cX0_marksBelow 38 = .ok (.iload_n 2, 1) := dk_28 (dk_at dksX0_marksBelow_1 14 rfl rfl)
theorem dX0_marksBelow_39 : decode cX0_marksBelow 39 = .ok (.iconst 1, 1) := dk_4 (dk_at dksX0_marksBelow_1 15 rfl rfl)
theorem dX0_marksBelow_40 : decode cX0_marksBelow 40 = .ok (.iadd, 1) := dk_96 (dk_at dksX0_marksBelow_1 16 rfl rfl)
theorem dX0_marksBelow_41 : decode cX0_marksBelow 41 = .ok (.iload 5, 2) := dk_21 5 (dk_at dksX0_marksBelow_1 17 rfl rfl)
theorem dX0_marksBelow_43 : decode cX0_marksBelow 43 = .ok (.iload 4, 2) := dk_21 4 (dk_at dksX0_marksBelow_1 19 rfl rfl)
theorem dX0_marksBelow_45 : decode cX0_marksBelow 45 = .ok (.invokevirtual 596, 3) := dk_182 2 84 (dk_at dksX0_marksBelow_1 21 rfl rfl)
theorem dX0_marksBelow_48 : decode cX0_marksBelow 48 = .ok (.ifCond .ne 6, 3) := dk_154 0 6 (dk_at dksX0_marksBelow_2 0 rfl rfl)
theorem dX0_marksBelow_51 : decode cX0_marksBelow 51 = .ok (.goto 87, 3) := dk_167 0 87 (dk_at dksX0_marksBelow_2 3 rfl rfl)
theorem dX0_marksBelow_54 : decode cX0_marksBelow 54 = .ok (.iconst 0, 1) := dk_3 (dk_at dksX0_marksBelow_2 6 rfl rfl)
theorem dX0_marksBelow_55 : decode cX0_marksBelow 55 = .ok (.istore 6, 2) := dk_54 6 (dk_at dksX0_marksBelow_2 7 rfl rfl)
theorem dX0_marksBelow_57 : decode cX0_marksBelow 57 = .ok (.iload 6, 2) := dk_21 6 (dk_at dksX0_marksBelow_2 9 rfl rfl)
theorem dX0_marksBelow_59 : decode cX0_marksBelow 59 = .ok (.aload_n 0, 1) := dk_42 (dk_at dksX0_marksBelow_2 11 rfl rfl)
theorem dX0_marksBelow_60 : decode cX0_marksBelow 60 = .ok (.getfield 199, 3) := dk_180 0 199 (dk_at dksX0_marksBelow_2 12 rfl rfl)
theorem dX0_marksBelow_63 : decode cX0_marksBelow 63 = .ok (.getfield 203, 3) := dk_180 0 203 (dk_at dksX0_marksBelow_2 15 rfl rfl)
theorem dX0_marksBelow_66 : decode cX0_marksBelow 66 = .ok (.if_icmp .ge 60, 3) := dk_162 0 60 (dk_at dksX0_marksBelow_2 18 rfl rfl)
theorem dX0_marksBelow_69 : decode cX0_marksBelow 69 = .ok (.aload_n 0, 1) := dk_42 (dk_at dksX0_marksBelow_2 21 rfl rfl)
theorem dX0_marksBelow_70 : decode cX0_marksBelow 70 = .ok (.getfield 157, 3) := dk_180 0 157 (dk_at dksX0_marksBelow_3 0 rfl rfl)
theorem dX0_marksBelow_73 : decode cX0_marksBelow 73 = .ok (.iload 6, 2) := dk_21 6 (dk_at dksX0_marksBelow_3 3 rfl rfl)
theorem dX0_marksBelow_75 : decode cX0_marksBelow 75 = .ok (.iload_n 3, 1) := dk_29 (dk_at dksX0_marksBelow_3 5 rfl rfl)
theorem dX0_marksBelow_76 : decode cX0_marksBelow 76 = .ok (.iload 5, 2) := dk_21 5 (dk_at dksX0_marksBelow_3 6 rfl rfl)
theorem dX0_marksBelow_78 : decode cX0_marksBelow 78 = .ok (.invokestatic 546, 3) := dk_184 2 34 (dk_at dksX0_marksBelow_3 8 rfl rfl)
theorem dX0_marksBelow_81 : decode cX0_marksBelow 81 = .ok (.baload, 1) := dk_51 (dk_at dksX0_marksBelow_3 11 rfl rfl)
theorem dX0_marksBelow_82 : decode cX0_marksBelow 82 = .ok (.ifCond .eq 38, 3) := dk_153 0 38 (dk_at dksX0_marksBelow_3 12 rfl rfl)
theorem dX0_marksBelow_85 : decode cX0_marksBelow 85 = .ok (.aload_n 0, 1) := dk_42 (dk_at dksX0_marksBelow_3 15 rfl rfl)
theorem dX0_marksBelow_86 : decode cX0_marksBelow 86 = .ok (.getfield 199, 3) := dk_180 0 199 (dk_at dksX0_marksBelow_3 16 rfl rfl)
theorem dX0_marksBelow_89 : decode cX0_marksBelow 89 = .ok (.iload_n 1, 1) := dk_27 (dk_at dksX0_marksBelow_3 19 rfl rfl)
theorem dX0_marksBelow_90 : decode cX0_marksBelow 90 = .ok (.iload_n 2, 1) := dk_28 (dk_at dksX0_marksBelow_3 20 rfl rfl)
theorem dX0_marksBelow_91 : decode cX0_marksBelow 91 = .ok (.invokevirtual 308, 3) := dk_182 1 52 (dk_at dksX0_marksBelow_3 21 rfl rfl)
theorem dX0_marksBelow_94 : decode cX0_marksBelow 94 = .ok (.invokestatic 311, 3) := dk_184 1 55 (dk_at dksX0_marksBelow_4 0 rfl rfl)
theorem dX0_marksBelow_97 : decode cX0_marksBelow 97 = .ok (.ifCond .eq 23, 3) := dk_153 0 23 (dk_at dksX0_marksBelow_4 3 rfl rfl)
theorem dX0_marksBelow_100 : decode cX0_marksBelow 100 = .ok (.aload_n 0, 1) := dk_42 (dk_at dksX0_marksBelow_4 6 rfl rfl)
theorem dX0_marksBelow_101 : decode cX0_marksBelow 101 = .ok (.iload_n 1, 1) := dk_27 (dk_at dksX0_marksBelow_4 7 rfl rfl)
theorem dX0_marksBelow_102 : decode cX0_marksBelow 102 = .ok (.iload_n 2, 1) := dk_28 (dk_at dksX0_marksBelow_4 8 rfl rfl)
theorem dX0_marksBelow_103 : decode cX0_marksBelow 103 = .ok (.iload 6, 2) := dk_21 6 (dk_at dksX0_marksBelow_4 9 rfl rfl)
theorem dX0_marksBelow_105 : decode cX0_marksBelow 105 = .ok (.invokevirtual 549, 3) := dk_182 2 37 (dk_at dksX0_marksBelow_4 11 rfl rfl)
theorem dX0_marksBelow_108 : decode cX0_marksBelow 108 = .ok (.ifCond .eq 12, 3) := dk_153 0 12 (dk_at dksX0_marksBelow_4 14 rfl rfl)
theorem dX0_marksBelow_111 : decode cX0_marksBelow 111 = .ok (.aload_n 0, 1) := dk_42 (dk_at dksX0_marksBelow_4 17 rfl rfl)
theorem dX0_marksBelow_112 : decode cX0_marksBelow 112 = .ok (.iload 6, 2) := dk_21 6 (dk_at dksX0_marksBelow_4 18 rfl rfl)
theorem dX0_marksBelow_114 : decode cX0_marksBelow 114 = .ok (.iload_n 3, 1) := dk_29 (dk_at dksX0_marksBelow_4 20 rfl rfl)
theorem dX0_marksBelow_115 : decode cX0_marksBelow 115 = .ok (.iload 5, 2) := dk_21 5 (dk_at dksX0_marksBelow_4 21 rfl rfl)
theorem dX0_marksBelow_117 : decode cX0_marksBelow 117 = .ok (.invokevirtual 599, 3) := dk_182 2 87 (dk_at dksX0_marksBelow_5 0 rfl rfl)
theorem dX0_marksBelow_120 : decode cX0_marksBelow 120 = .ok (.iinc 6 1, 3) := dk_132 6 1 (dk_at dksX0_marksBelow_5 3 rfl rfl)
theorem dX0_marksBelow_123 : decode cX0_marksBelow 123 = .ok (.goto (-66), 3) := dk_167 255 190 (dk_at dksX0_marksBelow_5 6 rfl rfl)
theorem dX0_marksBelow_126 : decode cX0_marksBelow 126 = .ok (.aload_n 0, 1) := dk_42 (dk_at dksX0_marksBelow_5 9 rfl rfl)
theorem dX0_marksBelow_127 : decode cX0_marksBelow 127 = .ok (.iload_n 1, 1) := dk_27 (dk_at dksX0_marksBelow_5 10 rfl rfl)
theorem dX0_marksBelow_128 : decode cX0_marksBelow 128 = .ok (.iload_n 2, 1) := dk_28 (dk_at dksX0_marksBelow_5 11 rfl rfl)
theorem dX0_marksBelow_129 : decode cX0_marksBelow 129 = .ok (.iconst 1, 1) := dk_4 (dk_at dksX0_marksBelow_5 12 rfl rfl)
theorem dX0_marksBelow_130 : decode cX0_marksBelow 130 = .ok (.iadd, 1) := dk_96 (dk_at dksX0_marksBelow_5 13 rfl rfl)
theorem dX0_marksBelow_131 : decode cX0_marksBelow 131 = .ok (.iload 5, 2) := dk_21 5 (dk_at dksX0_marksBelow_5 14 rfl rfl)
theorem dX0_marksBelow_133 : decode cX0_marksBelow 133 = .ok (.iload 4, 2) := dk_21 4 (dk_at dksX0_marksBelow_5 16 rfl rfl)
theorem dX0_marksBelow_135 : decode cX0_marksBelow 135 = .ok (.invokevirtual 603, 3) := dk_182 2 91 (dk_at dksX0_marksBelow_5 18 rfl rfl)
theorem dX0_marksBelow_138 : decode cX0_marksBelow 138 = .ok (.iinc 5 1, 3) := dk_132 5 1 (dk_at dksX0_marksBelow_5 21 rfl rfl)
theorem dX0_marksBelow_141 : decode cX0_marksBelow 141 = .ok (.goto (-124), 3) := dk_167 255 132 (dk_at dksX0_marksBelow_6 0 rfl rfl)
theorem dX0_marksBelow_144 : decode cX0_marksBelow 144 = .ok (.return_, 1) := dk_177 (dk_at dksX0_marksBelow_6 3 rfl rfl)
abbrev cX0_canGoOn : ByteArray := prog_1_method_107_code
def yX0_canGoOn : MethodName := ⟨RX0, "canGoOn", "(IIII)Z"⟩
def dkwX0_canGoOn_3 : List UInt8 := [172]
abbrev dktX0_canGoOn_3 : List UInt8 := dkwX0_canGoOn_3 ++ []
def dkwX0_canGoOn_2 : List UInt8 := [42, 27, 28, 4, 96, 21, 5, 21, 4, 182, 2, 84, 153, 0, 5, 4, 172, 132, 5, 1, 167, 255, 216, 3]
abbrev dktX0_canGoOn_2 : List UInt8 := dkwX0_canGoOn_2 ++ dktX0_canGoOn_3
def dkwX0_canGoOn_1 : List UInt8 := [172, 29, 54, 5, 21, 5, 21, 4, 163, 0, 39, 42, 27, 28, 29, 21, 5, 182, 2, 50, 4, 160, 0, 20]
abbrev dktX0_canGoOn_1 : List UInt8 := dkwX0_canGoOn_1 ++ dktX0_canGoOn_2
def dkwX0_canGoOn_0 : List UInt8 := [28, 42, 180, 0, 199, 180, 0, 232, 27, 46, 160, 0, 15, 29, 21, 4, 160, 0, 7, 4, 167, 0, 4, 3]
abbrev dktX0_canGoOn_0 : List UInt8 := dkwX0_canGoOn_0 ++ dktX0_canGoOn_1
theorem dksX0_canGoOn_0 : cX0_canGoOn.data.toList.drop 0 = dktX0_canGoOn_0 := by decide +kernel
theorem dksX0_canGoOn_1 : cX0_canGoOn.data.toList.drop 24 = dktX0_canGoOn_1 := dk_seg dksX0_canGoOn_0 24 rfl rfl
theorem dksX0_canGoOn_2 : cX0_canGoOn.data.toList.drop 48 = dktX0_canGoOn_2 := dk_seg dksX0_canGoOn_1 24 rfl rfl
theorem dksX0_canGoOn_3 : cX0_canGoOn.data.toList.drop 72 = dktX0_canGoOn_3 := dk_seg dksX0_canGoOn_2 24 rfl rfl
theorem dX0_canGoOn_0 : decode cX0_canGoOn 0 = .ok (.iload_n 2, 1) := dk_28 (dk_at dksX0_canGoOn_0 0 rfl rfl)
theorem dX0_canGoOn_1 : decode cX0_canGoOn 1 = .ok (.aload_n 0, 1) := dk_42 (dk_at dksX0_canGoOn_0 1 rfl rfl)
theorem dX0_canGoOn_2 : decode cX0_canGoOn 2 = .ok (.getfield 199, 3) := dk_180 0 199 (dk_at dksX0_canGoOn_0 2 rfl rfl)
theorem dX0_canGoOn_5 : decode cX0_canGoOn 5 = .ok (.getfield 232, 3) := dk_180 0 232 (dk_at dksX0_canGoOn_0 5 rfl rfl)
theorem dX0_canGoOn_8 : decode cX0_canGoOn 8 = .ok (.iload_n 1, 1) := dk_27 (dk_at dksX0_canGoOn_0 8 rfl rfl)
theorem dX0_canGoOn_9 : decode cX0_canGoOn 9 = .ok (.iaload, 1) := dk_46 (dk_at dksX0_canGoOn_0 9 rfl rfl)
theorem dX0_canGoOn_10 : decode cX0_canGoOn 10 = .ok (.if_icmp .ne 15, 3) := dk_160 0 15 (dk_at dksX0_canGoOn_0 10 rfl rfl)
theorem dX0_canGoOn_13 : decode cX0_canGoOn 13 = .ok (.iload_n 3, 1) := dk_29 (dk_at dksX0_canGoOn_0 13 rfl rfl)
theorem dX0_canGoOn_14 : decode cX0_canGoOn 14 = .ok (.iload 4, 2) := dk_21 4 (dk_at dksX0_canGoOn_0 14 rfl rfl)
theorem dX0_canGoOn_16 : decode cX0_canGoOn 16 = .ok (.if_icmp .ne 7, 3) := dk_160 0 7 (dk_at dksX0_canGoOn_0 16 rfl rfl)
theorem dX0_canGoOn_19 : decode cX0_canGoOn 19 = .ok (.iconst 1, 1) := dk_4 (dk_at dksX0_canGoOn_0 19 rfl rfl)
theorem dX0_canGoOn_20 : decode cX0_canGoOn 20 = .ok (.goto 4, 3) := dk_167 0 4 (dk_at dksX0_canGoOn_0 20 rfl rfl)
theorem dX0_canGoOn_23 : decode cX0_canGoOn 23 = .ok (.iconst 0, 1) := dk_3 (dk_at dksX0_canGoOn_0 23 rfl rfl)
theorem dX0_canGoOn_24 : decode cX0_canGoOn 24 = .ok (.ireturn, 1) := dk_172 (dk_at dksX0_canGoOn_1 0 rfl rfl)
theorem dX0_canGoOn_25 : decode cX0_canGoOn 25 = .ok (.iload_n 3, 1) := dk_29 (dk_at dksX0_canGoOn_1 1 rfl rfl)
theorem dX0_canGoOn_26 : decode cX0_canGoOn 26 = .ok (.istore 5, 2) := dk_54 5 (dk_at dksX0_canGoOn_1 2 rfl rfl)
theorem dX0_canGoOn_28 : decode cX0_canGoOn 28 = .ok (.iload 5, 2) := dk_21 5 (dk_at dksX0_canGoOn_1 4 rfl rfl)
theorem dX0_canGoOn_30 : decode cX0_canGoOn 30 = .ok (.iload 4, 2) := dk_21 4 (dk_at dksX0_canGoOn_1 6 rfl rfl)
theorem dX0_canGoOn_32 : decode cX0_canGoOn 32 = .ok (.if_icmp .gt 39, 3) := dk_163 0 39 (dk_at dksX0_canGoOn_1 8 rfl rfl)
theorem dX0_canGoOn_35 : decode cX0_canGoOn 35 = .ok (.aload_n 0, 1) := dk_42 (dk_at dksX0_canGoOn_1 11 rfl rfl)
theorem dX0_canGoOn_36 : decode cX0_canGoOn 36 = .ok (.iload_n 1, 1) := dk_27 (dk_at dksX0_canGoOn_1 12 rfl rfl)
theorem dX0_canGoOn_37 : decode cX0_canGoOn 37 = .ok (.iload_n 2, 1) := dk_28 (dk_at dksX0_canGoOn_1 13 rfl rfl)
theorem dX0_canGoOn_38 : decode cX0_canGoOn 38 = .ok (.iload_n 3, 1) := dk_29 (dk_at dksX0_canGoOn_1 14 rfl rfl)
theorem dX0_canGoOn_39 : decode cX0_canGoOn 39 = .ok (.iload 5, 2) := dk_21 5 (dk_at dksX0_canGoOn_1 15 rfl rfl)
theorem dX0_canGoOn_41 : decode cX0_canGoOn 41 = .ok (.invokevirtual 562, 3) := dk_182 2 50 (dk_at dksX0_canGoOn_1 17 rfl rfl)
theorem dX0_canGoOn_44 : decode cX0_canGoOn 44 = .ok (.iconst 1, 1) := dk_4 (dk_at dksX0_canGoOn_1 20 rfl rfl)
theorem dX0_canGoOn_45 : decode cX0_canGoOn 45 = .ok (.if_icmp .ne 20, 3) := dk_160 0 20 (dk_at dksX0_canGoOn_1 21 rfl rfl)
theorem dX0_canGoOn_48 : decode cX0_canGoOn 48 = .ok (.aload_n 0, 1) := dk_42 (dk_at dksX0_canGoOn_2 0 rfl rfl)
theorem dX0_canGoOn_49 : decode cX0_canGoOn 49 = .ok (.iload_n 1, 1) := dk_27 (dk_at dksX0_canGoOn_2 1 rfl rfl)
theorem dX0_canGoOn_50 : decode cX0_canGoOn 50 = .ok (.iload_n 2, 1) := dk_28 (dk_at dksX0_canGoOn_2 2 rfl rfl)
theorem dX0_canGoOn_51 : decode cX0_canGoOn 51 = .ok (.iconst 1, 1) := dk_4 (dk_at dksX0_canGoOn_2 3 rfl rfl)
theorem dX0_canGoOn_52 : decode cX0_canGoOn 52 = .ok (.iadd, 1) := dk_96 (dk_at dksX0_canGoOn_2 4 rfl rfl)
theorem dX0_canGoOn_53 : decode cX0_canGoOn 53 = .ok (.iload 5, 2) := dk_21 5 (dk_at dksX0_canGoOn_2 5 rfl rfl)
theorem dX0_canGoOn_55 : decode cX0_canGoOn 55 = .ok (.iload 4, 2) := dk_21 4 (dk_at dksX0_canGoOn_2 7 rfl rfl)
theorem dX0_canGoOn_57 : decode cX0_canGoOn 57 = .ok (.invokevirtual 596, 3) := dk_182 2 84 (dk_at dksX0_canGoOn_2 9 rfl rfl)
theorem dX0_canGoOn_60 : decode cX0_canGoOn 60 = .ok (.ifCond .eq 5, 3) := dk_153 0 5 (dk_at dksX0_canGoOn_2 12 rfl rfl)
theorem dX0_canGoOn_63 : decode cX0_canGoOn 63 = .ok (.iconst 1, 1) := dk_4 (dk_at dksX0_canGoOn_2 15 rfl rfl)
theorem dX0_canGoOn_64 : decode cX0_canGoOn 64 = .ok (.ireturn, 1) := dk_172 (dk_at dksX0_canGoOn_2 16 rfl rfl)
theorem dX0_canGoOn_65 : decode cX0_canGoOn 65 = .ok (.iinc 5 1, 3) := dk_132 5 1 (dk_at dksX0_canGoOn_2 17 rfl rfl)
theorem dX0_canGoOn_68 : decode cX0_canGoOn 68 = .ok (.goto (-40), 3) := dk_167 255 216 (dk_at dksX0_canGoOn_2 20 rfl rfl)
theorem dX0_canGoOn_71 : decode cX0_canGoOn 71 = .ok (.iconst 0, 1) := dk_3 (dk_at dksX0_canGoOn_2 23 rfl rfl)
theorem dX0_canGoOn_72 : decode cX0_canGoOn 72 = .ok (.ireturn, 1) := dk_172 (dk_at dksX0_canGoOn_3 0 rfl rfl)
abbrev cX0_trees : ByteArray := prog_1_method_112_code
def yX0_trees : MethodName := ⟨RX0, "trees", "(III)I"⟩
def dkwX0_trees_3 : List UInt8 := [54, 4, 132, 5, 1, 167, 255, 208, 21, 4, 172]
abbrev dktX0_trees_3 : List UInt8 := dkwX0_trees_3 ++ []
def dkwX0_trees_2 : List UInt8 := [21, 5, 46, 27, 160, 0, 22, 21, 4, 42, 180, 0, 161, 21, 5, 28, 29, 184, 2, 34, 46, 184, 2, 40]
abbrev dktX0_trees_2 : List UInt8 := dkwX0_trees_2 ++ dktX0_trees_3
def dkwX0_trees_1 : List UInt8 := [54, 4, 3, 54, 5, 21, 5, 42, 180, 0, 199, 180, 0, 203, 162, 0, 42, 42, 180, 0, 199, 180, 1, 49]
abbrev dktX0_trees_1 : List UInt8 := dkwX0_trees_1 ++ dktX0_trees_2
def dkwX0_trees_0 : List UInt8 := [42, 27, 182, 1, 122, 153, 0, 12, 42, 28, 29, 182, 2, 95, 154, 0, 5, 2, 172, 42, 182, 2, 98, 3]
abbrev dktX0_trees_0 : List UInt8 := dkwX0_trees_0 ++ dktX0_trees_1
theorem dksX0_trees_0 : cX0_trees.data.toList.drop 0 = dktX0_trees_0 := by decide +kernel
theorem dksX0_trees_1 : cX0_trees.data.toList.drop 24 = dktX0_trees_1 := dk_seg dksX0_trees_0 24 rfl rfl
theorem dksX0_trees_2 : cX0_trees.data.toList.drop 48 = dktX0_trees_2 := dk_seg dksX0_trees_1 24 rfl rfl
theorem dksX0_trees_3 : cX0_trees.data.toList.drop 72 = dktX0_trees_3 := dk_seg dksX0_trees_2 24 rfl rfl
theorem dX0_trees_0 : decode cX0_trees 0 = .ok (.aload_n 0, 1) := dk_42 (dk_at dksX0_trees_0 0 rfl rfl)
theorem dX0_trees_1 : decode cX0_trees 1 = .ok (.iload_n 1, 1) := dk_27 (dk_at dksX0_trees_0 1 rfl rfl)
theorem dX0_trees_2 : decode cX0_trees 2 = .ok (.invokevirtual 378, 3) := dk_182 1 122 (dk_at dksX0_trees_0 2 rfl rfl)
theorem dX0_trees_5 : decode cX0_trees 5 = .ok (.ifCond .eq 12, 3) := dk_153 0 12 (dk_at dksX0_trees_0 5 rfl rfl)
theorem dX0_trees_8 : decode cX0_trees 8 = .ok (.aload_n 0, 1) := dk_42 (dk_at dksX0_trees_0 8 rfl rfl)
theorem dX0_trees_9 : decode cX0_trees 9 = .ok (.iload_n 2, 1) := dk_28 (dk_at dksX0_trees_0 9 rfl rfl)
theorem dX0_trees_10 : decode cX0_trees 10 = .ok (.iload_n 3, 1) := dk_29 (dk_at dksX0_trees_0 10 rfl rfl)
theorem dX0_trees_11 : decode cX0_trees 11 = .ok (.invokevirtual 607, 3) := dk_182 2 95 (dk_at dksX0_trees_0 11 rfl rfl)
theorem dX0_trees_14 : decode cX0_trees 14 = .ok (.ifCond .ne 5, 3) := dk_154 0 5 (dk_at dksX0_trees_0 14 rfl rfl)
theorem dX0_trees_17 : decode cX0_trees 17 = .ok (.iconst (-1), 1) := dk_2 (dk_at dksX0_trees_0 17 rfl rfl)
theorem dX0_trees_18 : decode cX0_trees 18 = .ok (.ireturn, 1) := dk_172 (dk_at dksX0_trees_0 18 rfl rfl)
theorem dX0_trees_19 : decode cX0_trees 19 = .ok (.aload_n 0, 1) := dk_42 (dk_at dksX0_trees_0 19 rfl rfl)
theorem dX0_trees_20 : decode cX0_trees 20 = .ok (.invokevirtual 610, 3) := dk_182 2 98 (dk_at dksX0_trees_0 20 rfl rfl)
theorem dX0_trees_23 : decode cX0_trees 23 = .ok (.iconst 0, 1) := dk_3 (dk_at dksX0_trees_0 23 rfl rfl)
theorem dX0_trees_24 : decode cX0_trees 24 = .ok (.istore 4, 2) := dk_54 4 (dk_at dksX0_trees_1 0 rfl rfl)
theorem dX0_trees_26 : decode cX0_trees 26 = .ok (.iconst 0, 1) := dk_3 (dk_at dksX0_trees_1 2 rfl rfl)
theorem dX0_trees_27 : decode cX0_trees 27 = .ok (.istore 5, 2) := dk_54 5 (dk_at dksX0_trees_1 3 rfl rfl)
theorem dX0_trees_29 : decode cX0_trees 29 = .ok (.iload 5, 2) := dk_21 5 (dk_at dksX0_trees_1 5 rfl rfl)
theorem dX0_trees_31 : decode cX0_trees 31 = .ok (.aload_n 0, 1) := dk_42 (dk_at dksX0_trees_1 7 rfl rfl)
theorem dX0_trees_32 : decode cX0_trees 32 = .ok (.getfield 199, 3) := dk_180 0 199 (dk_at dksX0_trees_1 8 rfl rfl)
theorem dX0_trees_35 : decode cX0_trees 35 = .ok (.getfield 203, 3) := dk_180 0 203 (dk_at dksX0_trees_1 11 rfl rfl)
theorem dX0_trees_38 : decode cX0_trees 38 = .ok (.if_icmp .ge 42, 3) := dk_162 0 42 (dk_at dksX0_trees_1 14 rfl rfl)
theorem dX0_trees_41 : decode cX0_trees 41 = .ok (.aload_n 0, 1) := dk_42 (dk_at dksX0_trees_1 17 rfl rfl)
theorem dX0_trees_42 : decode cX0_trees 42 = .ok (.getfield 199, 3) := dk_180 0 199 (dk_at dksX0_trees_1 18 rfl rfl)
theorem dX0_trees_45 : decode cX0_trees 45 = .ok (.getfield 305, 3) := dk_180 1 49 (dk_at dksX0_trees_1 21 rfl rfl)
theorem dX0_trees_48 : decode cX0_trees 48 = .ok (.iload 5, 2) := dk_21 5 (dk_at dksX0_trees_2 0 rfl rfl)
theorem dX0_trees_50 : decode cX0_trees 50 = .ok (.iaload, 1) := dk_46 (dk_at dksX0_trees_2 2 rfl rfl)
theorem dX0_trees_51 : decode cX0_trees 51 = .ok (.iload_n 1, 1) := dk_27 (dk_at dksX0_trees_2 3 rfl rfl)
theorem dX0_trees_52 : decode cX0_trees 52 = .ok (.if_icmp .ne 22, 3) := dk_160 0 22 (dk_at dksX0_trees_2 4 rfl rfl)
theorem dX0_trees_55 : decode cX0_trees 55 = .ok (.iload 4, 2) := dk_21 4 (dk_at dksX0_trees_2 7 rfl rfl)
theorem dX0_trees_57 : decode cX0_trees 57 = .ok (.aload_n 0, 1) := dk_42 (dk_at dksX0_trees_2 9 rfl rfl)
theorem dX0_trees_58 : decode cX0_trees 58 = .ok (.getfield 161, 3) := dk_180 0 161 (dk_at dksX0_trees_2 10 rfl rfl)
theorem dX0_trees_61 : decode cX0_trees 61 = .ok (.iload 5, 2) := dk_21 5 (dk_at dksX0_trees_2 13 rfl rfl)
theorem dX0_trees_63 : decode cX0_trees 63 = .ok (.iload_n 2, 1) := dk_28 (dk_at dksX0_trees_2 15 rfl rfl)
theorem dX0_trees_64 : decode cX0_trees 64 = .ok (.iload_n 3, 1) := dk_29 (dk_at dksX0_trees_2 16 rfl rfl)
theorem dX0_trees_65 : decode cX0_trees 65 = .ok (.invokestatic 546, 3) := dk_184 2 34 (dk_at dksX0_trees_2 17 rfl rfl)
theorem dX0_trees_68 : decode cX0_trees 68 = .ok (.iaload, 1) := dk_46 (dk_at dksX0_trees_2 20 rfl rfl)
theorem dX0_trees_69 : decode cX0_trees 69 = .ok (.invokestatic 552, 3) := dk_184 2 40 (dk_at dksX0_trees_2 21 rfl rfl)
theorem dX0_trees_72 : decode cX0_trees 72 = .ok (.istore 4, 2) := dk_54 4 (dk_at dksX0_trees_3 0 rfl rfl)
theorem dX0_trees_74 : decode cX0_trees 74 = .ok (.iinc 5 1, 3) := dk_132 5 1 (dk_at dksX0_trees_3 2 rfl rfl)
theorem dX0_trees_77 : decode cX0_trees 77 = .ok (.goto (-48), 3) := dk_167 255 208 (dk_at dksX0_trees_3 5 rfl rfl)
theorem dX0_trees_80 : decode cX0_trees 80 = .ok (.iload 4, 2) := dk_21 4 (dk_at dksX0_trees_3 8 rfl rfl)
theorem dX0_trees_82 : decode cX0_trees 82 = .ok (.ireturn, 1) := dk_172 (dk_at dksX0_trees_3 10 rfl rfl)
abbrev cX0_piece : ByteArray := prog_1_method_113_code
def yX0_piece : MethodName := ⟨RX0, "piece", "(III)I"⟩
def dkwX0_piece_1 : List UInt8 := [180, 0, 167, 27, 28, 29, 184, 2, 34, 51, 153, 0, 7, 4, 167, 0, 4, 3, 172]
abbrev dktX0_piece_1 : List UInt8 := dkwX0_piece_1 ++ []
def dkwX0_piece_0 : List UInt8 := [42, 27, 182, 1, 45, 153, 0, 12, 42, 28, 29, 182, 2, 95, 154, 0, 5, 2, 172, 42, 182, 2, 98, 42]
abbrev dktX0_piece_0 : List UInt8 := dkwX0_piece_0 ++ dktX0_piece_1
theorem dksX0_piece_0 : cX0_piece.data.toList.drop 0 = dktX0_piece_0 := by decide +kernel
theorem dksX0_piece_1 : cX0_piece.data.toList.drop 24 = dktX0_piece_1 := dk_seg dksX0_piece_0 24 rfl rfl
theorem dX0_piece_0 : decode cX0_piece 0 = .ok (.aload_n 0, 1) := dk_42 (dk_at dksX0_piece_0 0 rfl rfl)
theorem dX0_piece_1 : decode cX0_piece 1 = .ok (.iload_n 1, 1) := dk_27 (dk_at dksX0_piece_0 1 rfl rfl)
theorem dX0_piece_2 : decode cX0_piece 2 = .ok (.invokevirtual 301, 3) := dk_182 1 45 (dk_at dksX0_piece_0 2 rfl rfl)
theorem dX0_piece_5 : decode cX0_piece 5 = .ok (.ifCond .eq 12, 3) := dk_153 0 12 (dk_at dksX0_piece_0 5 rfl rfl)
theorem dX0_piece_8 : decode cX0_piece 8 = .ok (.aload_n 0, 1) := dk_42 (dk_at dksX0_piece_0 8 rfl rfl)
theorem dX0_piece_9 : decode cX0_piece 9 = .ok (.iload_n 2, 1) := dk_28 (dk_at dksX0_piece_0 9 rfl rfl)
theorem dX0_piece_10 : decode cX0_piece 10 = .ok (.iload_n 3, 1) := dk_29 (dk_at dksX0_piece_0 10 rfl rfl)
theorem dX0_piece_11 : decode cX0_piece 11 = .ok (.invokevirtual 607, 3) := dk_182 2 95 (dk_at dksX0_piece_0 11 rfl rfl)
theorem dX0_piece_14 : decode cX0_piece 14 = .ok (.ifCond .ne 5, 3) := dk_154 0 5 (dk_at dksX0_piece_0 14 rfl rfl)
theorem dX0_piece_17 : decode cX0_piece 17 = .ok (.iconst (-1), 1) := dk_2 (dk_at dksX0_piece_0 17 rfl rfl)
theorem dX0_piece_18 : decode cX0_piece 18 = .ok (.ireturn, 1) := dk_172 (dk_at dksX0_piece_0 18 rfl rfl)
theorem dX0_piece_19 : decode cX0_piece 19 = .ok (.aload_n 0, 1) := dk_42 (dk_at dksX0_piece_0 19 rfl rfl)
theorem dX0_piece_20 : decode cX0_piece 20 = .ok (.invokevirtual 610, 3) := dk_182 2 98 (dk_at dksX0_piece_0 20 rfl rfl)
theorem dX0_piece_23 : decode cX0_piece 23 = .ok (.aload_n 0, 1) := dk_42 (dk_at dksX0_piece_0 23 rfl rfl)
theorem dX0_piece_24 : decode cX0_piece 24 = .ok (.getfield 167, 3) := dk_180 0 167 (dk_at dksX0_piece_1 0 rfl rfl)
theorem dX0_piece_27 : decode cX0_piece 27 = .ok (.iload_n 1, 1) := dk_27 (dk_at dksX0_piece_1 3 rfl rfl)
theorem dX0_piece_28 : decode cX0_piece 28 = .ok (.iload_n 2, 1) := dk_28 (dk_at dksX0_piece_1 4 rfl rfl)
theorem dX0_piece_29 : decode cX0_piece 29 = .ok (.iload_n 3, 1) := dk_29 (dk_at dksX0_piece_1 5 rfl rfl)
theorem dX0_piece_30 : decode cX0_piece 30 = .ok (.invokestatic 546, 3) := dk_184 2 34 (dk_at dksX0_piece_1 6 rfl rfl)
theorem dX0_piece_33 : decode cX0_piece 33 = .ok (.baload, 1) := dk_51 (dk_at dksX0_piece_1 9 rfl rfl)
theorem dX0_piece_34 : decode cX0_piece 34 = .ok (.ifCond .eq 7, 3) := dk_153 0 7 (dk_at dksX0_piece_1 10 rfl rfl)
theorem dX0_piece_37 : decode cX0_piece 37 = .ok (.iconst 1, 1) := dk_4 (dk_at dksX0_piece_1 13 rfl rfl)
theorem dX0_piece_38 : decode cX0_piece 38 = .ok (.goto 4, 3) := dk_167 0 4 (dk_at dksX0_piece_1 14 rfl rfl)
theorem dX0_piece_41 : decode cX0_piece 41 = .ok (.iconst 0, 1) := dk_3 (dk_at dksX0_piece_1 17 rfl rfl)
theorem dX0_piece_42 : decode cX0_piece 42 = .ok (.ireturn, 1) := dk_172 (dk_at dksX0_piece_1 18 rfl rfl)
abbrev cX0_ways : ByteArray := prog_1_method_117_code
def yX0_ways : MethodName := ⟨RX0, "ways", "(III)I"⟩
def dkwX0_ways_1 : List UInt8 := [27, 28, 29, 182, 2, 101, 172]
abbrev dktX0_ways_1 : List UInt8 := dkwX0_ways_1 ++ []
def dkwX0_ways_0 : List UInt8 := [42, 27, 182, 1, 45, 153, 0, 12, 42, 28, 29, 182, 2, 95, 154, 0, 5, 2, 172, 42, 182, 2, 98, 42]
abbrev dktX0_ways_0 : List UInt8 := dkwX0_ways_0 ++ dktX0_ways_1
theorem dksX0_ways_0 : cX0_ways.data.toList.drop 0 = dktX0_ways_0 := by decide +kernel
theorem dksX0_ways_1 : cX0_ways.data.toList.drop 24 = dktX0_ways_1 := dk_seg dksX0_ways_0 24 rfl rfl
theorem dX0_ways_0 : decode cX0_ways 0 = .ok (.aload_n 0, 1) := dk_42 (dk_at dksX0_ways_0 0 rfl rfl)
theorem dX0_ways_1 : decode cX0_ways 1 = .ok (.iload_n 1, 1) := dk_27 (dk_at dksX0_ways_0 1 rfl rfl)
theorem dX0_ways_2 : decode cX0_ways 2 = .ok (.invokevirtual 301, 3) := dk_182 1 45 (dk_at dksX0_ways_0 2 rfl rfl)
theorem dX0_ways_5 : decode cX0_ways 5 = .ok (.ifCond .eq 12, 3) := dk_153 0 12 (dk_at dksX0_ways_0 5 rfl rfl)
theorem dX0_ways_8 : decode cX0_ways 8 = .ok (.aload_n 0, 1) := dk_42 (dk_at dksX0_ways_0 8 rfl rfl)
theorem dX0_ways_9 : decode cX0_ways 9 = .ok (.iload_n 2, 1) := dk_28 (dk_at dksX0_ways_0 9 rfl rfl)
theorem dX0_ways_10 : decode cX0_ways 10 = .ok (.iload_n 3, 1) := dk_29 (dk_at dksX0_ways_0 10 rfl rfl)
theorem dX0_ways_11 : decode cX0_ways 11 = .ok (.invokevirtual 607, 3) := dk_182 2 95 (dk_at dksX0_ways_0 11 rfl rfl)
theorem dX0_ways_14 : decode cX0_ways 14 = .ok (.ifCond .ne 5, 3) := dk_154 0 5 (dk_at dksX0_ways_0 14 rfl rfl)
theorem dX0_ways_17 : decode cX0_ways 17 = .ok (.iconst (-1), 1) := dk_2 (dk_at dksX0_ways_0 17 rfl rfl)
theorem dX0_ways_18 : decode cX0_ways 18 = .ok (.ireturn, 1) := dk_172 (dk_at dksX0_ways_0 18 rfl rfl)
theorem dX0_ways_19 : decode cX0_ways 19 = .ok (.aload_n 0, 1) := dk_42 (dk_at dksX0_ways_0 19 rfl rfl)
theorem dX0_ways_20 : decode cX0_ways 20 = .ok (.invokevirtual 610, 3) := dk_182 2 98 (dk_at dksX0_ways_0 20 rfl rfl)
theorem dX0_ways_23 : decode cX0_ways 23 = .ok (.aload_n 0, 1) := dk_42 (dk_at dksX0_ways_0 23 rfl rfl)
theorem dX0_ways_24 : decode cX0_ways 24 = .ok (.iload_n 1, 1) := dk_27 (dk_at dksX0_ways_1 0 rfl rfl)
theorem dX0_ways_25 : decode cX0_ways 25 = .ok (.iload_n 2, 1) := dk_28 (dk_at dksX0_ways_1 1 rfl rfl)
theorem dX0_ways_26 : decode cX0_ways 26 = .ok (.iload_n 3, 1) := dk_29 (dk_at dksX0_ways_1 2 rfl rfl)
theorem dX0_ways_27 : decode cX0_ways 27 = .ok (.invokevirtual 613, 3) := dk_182 2 101 (dk_at dksX0_ways_1 3 rfl rfl)
theorem dX0_ways_30 : decode cX0_ways 30 = .ok (.ireturn, 1) := dk_172 (dk_at dksX0_ways_1 6 rfl rfl)
abbrev cX0_waysOf : ByteArray := prog_1_method_116_code
def yX0_waysOf : MethodName := ⟨RX0, "waysOf", "(III)I"⟩
def dkwX0_waysOf_1 : List UInt8 := [3, 4, 182, 2, 46, 167, 0, 4, 3, 172]
abbrev dktX0_waysOf_1 : List UInt8 := dkwX0_waysOf_1 ++ []
def dkwX0_waysOf_0 : List UInt8 := [42, 27, 182, 1, 95, 153, 0, 27, 42, 27, 28, 29, 42, 180, 0, 106, 42, 180, 0, 150, 42, 180, 0, 154]
abbrev dktX0_waysOf_0 : List UInt8 := dkwX0_waysOf_0 ++ dktX0_waysOf_1
theorem dksX0_waysOf_0 : cX0_waysOf.data.toList.drop 0 = dktX0_waysOf_0 := by decide +kernel
theorem dksX0_waysOf_1 : cX0_waysOf.data.toList.drop 24 = dktX0_waysOf_1 := dk_seg dksX0_waysOf_0 24 rfl rfl
theorem dX0_waysOf_0 : decode cX0_waysOf 0 = .ok (.aload_n 0, 1) := dk_42 (dk_at dksX0_waysOf_0 0 rfl rfl)
theorem dX0_waysOf_1 : decode cX0_waysOf 1 = .ok (.iload_n 1, 1) := dk_27 (dk_at dksX0_waysOf_0 1 rfl rfl)
theorem dX0_waysOf_2 : decode cX0_waysOf 2 = .ok (.invokevirtual 351, 3) := dk_182 1 95 (dk_at dksX0_waysOf_0 2 rfl rfl)
theorem dX0_waysOf_5 : decode cX0_waysOf 5 = .ok (.ifCond .eq 27, 3) := dk_153 0 27 (dk_at dksX0_waysOf_0 5 rfl rfl)
theorem dX0_waysOf_8 : decode cX0_waysOf 8 = .ok (.aload_n 0, 1) := dk_42 (dk_at dksX0_waysOf_0 8 rfl rfl)
theorem dX0_waysOf_9 : decode cX0_waysOf 9 = .ok (.iload_n 1, 1) := dk_27 (dk_at dksX0_waysOf_0 9 rfl rfl)
theorem dX0_waysOf_10 : decode cX0_waysOf 10 = .ok (.iload_n 2, 1) := dk_28 (dk_at dksX0_waysOf_0 10 rfl rfl)
theorem dX0_waysOf_11 : decode cX0_waysOf 11 = .ok (.iload_n 3, 1) := dk_29 (dk_at dksX0_waysOf_0 11 rfl rfl)
theorem dX0_waysOf_12 : decode cX0_waysOf 12 = .ok (.aload_n 0, 1) := dk_42 (dk_at dksX0_waysOf_0 12 rfl rfl)
theorem dX0_waysOf_13 : decode cX0_waysOf 13 = .ok (.getfield 106, 3) := dk_180 0 106 (dk_at dksX0_waysOf_0 13 rfl rfl)
theorem dX0_waysOf_16 : decode cX0_waysOf 16 = .ok (.aload_n 0, 1) := dk_42 (dk_at dksX0_waysOf_0 16 rfl rfl)
theorem dX0_waysOf_17 : decode cX0_waysOf 17 = .ok (.getfield 150, 3) := dk_180 0 150 (dk_at dksX0_waysOf_0 17 rfl rfl)
theorem dX0_waysOf_20 : decode cX0_waysOf 20 = .ok (.aload_n 0, 1) := dk_42 (dk_at dksX0_waysOf_0 20 rfl rfl)
theorem dX0_waysOf_21 : decode cX0_waysOf 21 = .ok (.getfield 154, 3) := dk_180 0 154 (dk_at dksX0_waysOf_0 21 rfl rfl)
theorem dX0_waysOf_24 : decode cX0_waysOf 24 = .ok (.iconst 0, 1) := dk_3 (dk_at dksX0_waysOf_1 0 rfl rfl)
theorem dX0_waysOf_25 : decode cX0_waysOf 25 = .ok (.iconst 1, 1) := dk_4 (dk_at dksX0_waysOf_1 1 rfl rfl)
theorem dX0_waysOf_26 : decode cX0_waysOf 26 = .ok (.invokevirtual 558, 3) := dk_182 2 46 (dk_at dksX0_waysOf_1 2 rfl rfl)
theorem dX0_waysOf_29 : decode cX0_waysOf 29 = .ok (.goto 4, 3) := dk_167 0 4 (dk_at dksX0_waysOf_1 5 rfl rfl)
theorem dX0_waysOf_32 : decode cX0_waysOf 32 = .ok (.iconst 0, 1) := dk_3 (dk_at dksX0_waysOf_1 8 rfl rfl)
theorem dX0_waysOf_33 : decode cX0_waysOf 33 = .ok (.ireturn, 1) := dk_172 (dk_at dksX0_waysOf_1 9 rfl rfl)
abbrev cX0_forest : ByteArray := prog_1_method_120_code
def yX0_forest : MethodName := ⟨RX0, "forest", "(I)I"⟩
def dkwX0_forest_6 : List UInt8 := [42, 180, 2, 110, 172]
abbrev dktX0_forest_6 : List UInt8 := dkwX0_forest_6 ++ []
def dkwX0_forest_5 : List UInt8 := [27, 4, 160, 0, 10, 42, 180, 2, 104, 167, 0, 19, 27, 5, 160, 0, 10, 42, 180, 2, 107, 167, 0, 7]
abbrev dktX0_forest_5 : List UInt8 := dkwX0_forest_5 ++ dktX0_forest_6
def dkwX0_forest_4 : List UInt8 := [132, 5, 1, 167, 255, 220, 132, 4, 1, 167, 255, 201, 132, 3, 1, 167, 255, 181, 28, 172, 42, 182, 2, 118]
abbrev dktX0_forest_4 : List UInt8 := dkwX0_forest_4 ++ dktX0_forest_5
def dkwX0_forest_3 : List UInt8 := [28, 42, 180, 0, 167, 29, 21, 4, 21, 5, 184, 2, 34, 51, 153, 0, 7, 4, 167, 0, 4, 3, 96, 61]
abbrev dktX0_forest_3 : List UInt8 := dkwX0_forest_3 ++ dktX0_forest_4
def dkwX0_forest_2 : List UInt8 := [54, 4, 21, 4, 42, 180, 1, 29, 163, 0, 52, 21, 4, 54, 5, 21, 5, 42, 180, 1, 29, 163, 0, 33]
abbrev dktX0_forest_2 : List UInt8 := dkwX0_forest_2 ++ dktX0_forest_3
def dkwX0_forest_1 : List UInt8 := [182, 2, 98, 27, 154, 0, 87, 3, 61, 3, 62, 29, 42, 180, 0, 199, 180, 0, 203, 162, 0, 70, 3]
abbrev dktX0_forest_1 : List UInt8 := dkwX0_forest_1 ++ dktX0_forest_2
def dkwX0_forest_0 : List UInt8 := [42, 180, 0, 199, 198, 0, 15, 27, 133, 9, 20, 2, 116, 184, 0, 219, 154, 0, 5, 2, 172, 42]
abbrev dktX0_forest_0 : List UInt8 := dkwX0_forest_0 ++ dktX0_forest_1
theorem dksX0_forest_0 : cX0_forest.data.toList.drop 0 = dktX0_forest_0 := by decide +kernel
theorem dksX0_forest_1 : cX0_forest.data.toList.drop 22 = dktX0_forest_1 := dk_seg dksX0_forest_0 22 rfl rfl
theorem dksX0_forest_2 : cX0_forest.data.toList.drop 45 = dktX0_forest_2 := dk_seg dksX0_forest_1 23 rfl rfl
theorem dksX0_forest_3 : cX0_forest.data.toList.drop 69 = dktX0_forest_3 := dk_seg dksX0_forest_2 24 rfl rfl
theorem dksX0_forest_4 : cX0_forest.data.toList.drop 93 = dktX0_forest_4 := dk_seg dksX0_forest_3 24 rfl rfl
theorem dksX0_forest_5 : cX0_forest.data.toList.drop 117 = dktX0_forest_5 := dk_seg dksX0_forest_4 24 rfl rfl
theorem dksX0_forest_6 : cX0_forest.data.toList.drop 141 = dktX0_forest_6 := dk_seg dksX0_forest_5 24 rfl rfl
theorem dX0_forest_0 : decode cX0_forest 0 = .ok (.aload_n 0, 1) := dk_42 (dk_at dksX0_forest_0 0 rfl rfl)
theorem dX0_forest_1 : decode cX0_forest 1 = .ok (.getfield 199, 3) := dk_180 0 199 (dk_at dksX0_forest_0 1 rfl rfl)
theorem dX0_forest_4 : decode cX0_forest 4 = .ok (.ifnull 15, 3) := dk_198 0 15 (dk_at dksX0_forest_0 4 rfl rfl)
theorem dX0_forest_7 : decode cX0_forest 7 = .ok (.iload_n 1, 1) := dk_27 (dk_at dksX0_forest_0 7 rfl rfl)
theorem dX0_forest_8 : decode cX0_forest 8 = .ok (.i2l, 1) := dk_133 (dk_at dksX0_forest_0 8 rfl rfl)
theorem dX0_forest_9 : decode cX0_forest 9 = .ok (.lconst 0, 1) := dk_9 (dk_at dksX0_forest_0 9 rfl rfl)
theorem dX0_forest_10 : decode cX0_forest 10 = .ok (.ldc2_w 628, 3) := dk_20 2 116 (dk_at dksX0_forest_0 10 rfl rfl)
theorem dX0_forest_13 : decode cX0_forest 13 = .ok (.invokestatic 219, 3) := dk_184 0 219 (dk_at dksX0_forest_0 13 rfl rfl)
theorem dX0_forest_16 : decode cX0_forest 16 = .ok (.ifCond .ne 5, 3) := dk_154 0 5 (dk_at dksX0_forest_0 16 rfl rfl)
theorem dX0_forest_19 : decode cX0_forest 19 = .ok (.iconst (-1), 1) := dk_2 (dk_at dksX0_forest_0 19 rfl rfl)
theorem dX0_forest_20 : decode cX0_forest 20 = .ok (.ireturn, 1) := dk_172 (dk_at dksX0_forest_0 20 rfl rfl)
theorem dX0_forest_21 : decode cX0_forest 21 = .ok (.aload_n 0, 1) := dk_42 (dk_at dksX0_forest_0 21 rfl rfl)
theorem dX0_forest_22 : decode cX0_forest 22 = .ok (.invokevirtual 610, 3) := dk_182 2 98 (dk_at dksX0_forest_1 0 rfl rfl)
theorem dX0_forest_25 : decode cX0_forest 25 = .ok (.iload_n 1, 1) := dk_27 (dk_at dksX0_forest_1 3 rfl rfl)
theorem dX0_forest_26 : decode cX0_forest 26 = .ok (.ifCond .ne 87, 3) := dk_154 0 87 (dk_at dksX0_forest_1 4 rfl rfl)
theorem dX0_forest_29 : decode cX0_forest 29 = .ok (.iconst 0, 1) := dk_3 (dk_at dksX0_forest_1 7 rfl rfl)
theorem dX0_forest_30 : decode cX0_forest 30 = .ok (.istore_n 2, 1) := dk_61 (dk_at dksX0_forest_1 8 rfl rfl)
theorem dX0_forest_31 : decode cX0_forest 31 = .ok (.iconst 0, 1) := dk_3 (dk_at dksX0_forest_1 9 rfl rfl)
theorem dX0_forest_32 : decode cX0_forest 32 = .ok (.istore_n 3, 1) := dk_62 (dk_at dksX0_forest_1 10 rfl rfl)
theorem dX0_forest_33 : decode cX0_forest 33 = .ok (.iload_n 3, 1) := dk_29 (dk_at dksX0_forest_1 11 rfl rfl)
theorem dX0_forest_34 : decode cX0_forest 34 = .ok (.aload_n 0, 1) := dk_42 (dk_at dksX0_forest_1 12 rfl rfl)
theorem dX0_forest_35 : decode cX0_forest 35 = .ok (.getfield 199, 3) := dk_180 0 199 (dk_at dksX0_forest_1 13 rfl rfl)
theorem dX0_forest_38 : decode cX0_forest 38 = .ok (.getfield 203, 3) := dk_180 0 203 (dk_at dksX0_forest_1 16 rfl rfl)
theorem dX0_forest_41 : decode cX0_forest 41 = .ok (.if_icmp .ge 70, 3) := dk_162 0 70 (dk_at dksX0_forest_1 19 rfl rfl)
theorem dX0_forest_44 : decode cX0_forest 44 = .ok (.iconst 0, 1) := dk_3 (dk_at dksX0_forest_1 22 rfl rfl)
theorem dX0_forest_45 : decode cX0_forest 45 = .ok (.istore 4, 2) := dk_54 4 (dk_at dksX0_forest_2 0 rfl rfl)
theorem dX0_forest_47 : decode cX0_forest 47 = .ok (.iload 4, 2) := dk_21 4 (dk_at dksX0_forest_2 2 rfl rfl)
theorem dX0_forest_49 : decode cX0_forest 49 = .ok (.aload_n 0, 1) := dk_42 (dk_at dksX0_forest_2 4 rfl rfl)
theorem dX0_forest_50 : decode cX0_forest 50 = .ok (.getfield 285, 3) := dk_180 1 29 (dk_at dksX0_forest_2 5 rfl rfl)
theorem dX0_forest_53 : decode cX0_forest 53 = .ok (.if_icmp .gt 52, 3) := dk_163 0 52 (dk_at dksX0_forest_2 8 rfl rfl)
theorem dX0_forest_56 : decode cX0_forest 56 = .ok (.iload 4, 2) := dk_21 4 (dk_at dksX0_forest_2 11 rfl rfl)
theorem dX0_forest_58 : decode cX0_forest 58 = .ok (.istore 5, 2) := dk_54 5 (dk_at dksX0_forest_2 13 rfl rfl)
theorem dX0_forest_60 : decode cX0_forest 60 = .ok (.iload 5, 2) := dk_21 5 (dk_at dksX0_forest_2 15 rfl rfl)
theorem dX0_forest_62 : decode cX0_forest 62 = .ok (.aload_n 0, 1) := dk_42 (dk_at dksX0_forest_2 17 rfl rfl)
theorem dX0_forest_63 : decode cX0_forest 63 = .ok (.getfield 285, 3) := dk_180 1 29 (dk_at dksX0_forest_2 18 rfl rfl)
theorem dX0_forest_66 : decode cX0_forest 66 = .ok (.if_icmp .gt 33, 3) := dk_163 0 33 (dk_at dksX0_forest_2 21 rfl rfl)
theorem dX0_forest_69 : decode cX0_forest 69 = .ok (.iload_n 2, 1) := dk_28 (dk_at dksX0_forest_3 0 rfl rfl)
theorem dX0_forest_70 : decode cX0_forest 70 = .ok (.aload_n 0, 1) := dk_42 (dk_at dksX0_forest_3 1 rfl rfl)
theorem dX0_forest_71 : decode cX0_forest 71 = .ok (.getfield 167, 3) := dk_180 0 167 (dk_at dksX0_forest_3 2 rfl rfl)
theorem dX0_forest_74 : decode cX0_forest 74 = .ok (.iload_n 3, 1) := dk_29 (dk_at dksX0_forest_3 5 rfl rfl)
theorem dX0_forest_75 : decode cX0_forest 75 = .ok (.iload 4, 2) := dk_21 4 (dk_at dksX0_forest_3 6 rfl rfl)
theorem dX0_forest_77 : decode cX0_forest 77 = .ok (.iload 5, 2) := dk_21 5 (dk_at dksX0_forest_3 8 rfl rfl)
theorem dX0_forest_79 : decode cX0_forest 79 = .ok (.invokestatic 546, 3) := dk_184 2 34 (dk_at dksX0_forest_3 10 rfl rfl)
theorem dX0_forest_82 : decode cX0_forest 82 = .ok (.baload, 1) := dk_51 (dk_at dksX0_forest_3 13 rfl rfl)
theorem dX0_forest_83 : decode cX0_forest 83 = .ok (.ifCond .eq 7, 3) := dk_153 0 7 (dk_at dksX0_forest_3 14 rfl rfl)
theorem dX0_forest_86 : decode cX0_forest 86 = .ok (.iconst 1, 1) := dk_4 (dk_at dksX0_forest_3 17 rfl rfl)
theorem dX0_forest_87 : decode cX0_forest 87 = .ok (.goto 4, 3) := dk_167 0 4 (dk_at dksX0_forest_3 18 rfl rfl)
theorem dX0_forest_90 : decode cX0_forest 90 = .ok (.iconst 0, 1) := dk_3 (dk_at dksX0_forest_3 21 rfl rfl)
theorem dX0_forest_91 : decode cX0_forest 91 = .ok (.iadd, 1) := dk_96 (dk_at dksX0_forest_3 22 rfl rfl)
theorem dX0_forest_92 : decode cX0_forest 92 = .ok (.istore_n 2, 1) := dk_61 (dk_at dksX0_forest_3 23 rfl rfl)
theorem dX0_forest_93 : decode cX0_forest 93 = .ok (.iinc 5 1, 3) := dk_132 5 1 (dk_at dksX0_forest_4 0 rfl rfl)
theorem dX0_forest_96 : decode cX0_forest 96 = .ok (.goto (-36), 3) := dk_167 255 220 (dk_at dksX0_forest_4 3 rfl rfl)
theorem dX0_forest_99 : decode cX0_forest 99 = .ok (.iinc 4 1, 3) := dk_132 4 1 (dk_at dksX0_forest_4 6 rfl rfl)
theorem dX0_forest_102 : decode cX0_forest 102 = .ok (.goto (-55), 3) := dk_167 255 201 (dk_at dksX0_forest_4 9 rfl rfl)
theorem dX0_forest_105 : decode cX0_forest 105 = .ok (.iinc 3 1, 3) := dk_132 3 1 (dk_at dksX0_forest_4 12 rfl rfl)
theorem dX0_forest_108 : decode cX0_forest 108 = .ok (.goto (-75), 3) := dk_167 255 181 (dk_at dksX0_forest_4 15 rfl rfl)
theorem dX0_forest_111 : decode cX0_forest 111 = .ok (.iload_n 2, 1) := dk_28 (dk_at dksX0_forest_4 18 rfl rfl)
theorem dX0_forest_112 : decode cX0_forest 112 = .ok (.ireturn, 1) := dk_172 (dk_at dksX0_forest_4 19 rfl rfl)
theorem dX0_forest_113 : decode cX0_forest 113 = .ok (.aload_n 0, 1) := dk_42 (dk_at dksX0_forest_4 20 rfl rfl)
theorem dX0_forest_114 : decode cX0_forest 114 = .ok (.invokevirtual 630, 3) := dk_182 2 118 (dk_at dksX0_forest_4 21 rfl rfl)
theorem dX0_forest_117 : decode cX0_forest 117 = .ok (.iload_n 1, 1) := dk_27 (dk_at dksX0_forest_5 0 rfl rfl)
theorem dX0_forest_118 : decode cX0_forest 118 = .ok (.iconst 1, 1) := dk_4 (dk_at dksX0_forest_5 1 rfl rfl)
theorem dX0_forest_119 : decode cX0_forest 119 = .ok (.if_icmp .ne 10, 3) := dk_160 0 10 (dk_at dksX0_forest_5 2 rfl rfl)
theorem dX0_forest_122 : decode cX0_forest 122 = .ok (.aload_n 0, 1) := dk_42 (dk_at dksX0_forest_5 5 rfl rfl)
theorem dX0_forest_123 : decode cX0_forest 123 = .ok (.getfield 616, 3) := dk_180 2 104 (dk_at dksX0_forest_5 6 rfl rfl)
theorem dX0_forest_126 : decode cX0_forest 126 = .ok (.goto 19, 3) := dk_167 0 19 (dk_at dksX0_forest_5 9 rfl rfl)
theorem dX0_forest_129 : decode cX0_forest 129 = .ok (.iload_n 1, 1) := dk_27 (dk_at dksX0_forest_5 12 rfl rfl)
theorem dX0_forest_130 : decode cX0_forest 130 = .ok (.iconst 2, 1) := dk_5 (dk_at dksX0_forest_5 13 rfl rfl)
theorem dX0_forest_131 : decode cX0_forest 131 = .ok (.if_icmp .ne 10, 3) := dk_160 0 10 (dk_at dksX0_forest_5 14 rfl rfl)
theorem dX0_forest_134 : decode cX0_forest 134 = .ok (.aload_n 0, 1) := dk_42 (dk_at dksX0_forest_5 17 rfl rfl)
theorem dX0_forest_135 : decode cX0_forest 135 = .ok (.getfield 619, 3) := dk_180 2 107 (dk_at dksX0_forest_5 18 rfl rfl)
theorem dX0_forest_138 : decode cX0_forest 138 = .ok (.goto 7, 3) := dk_167 0 7 (dk_at dksX0_forest_5 21 rfl rfl)
theorem dX0_forest_141 : decode cX0_forest 141 = .ok (.aload_n 0, 1) := dk_42 (dk_at dksX0_forest_6 0 rfl rfl)
theorem dX0_forest_142 : decode cX0_forest 142 = .ok (.getfield 622, 3) := dk_180 2 110 (dk_at dksX0_forest_6 1 rfl rfl)
theorem dX0_forest_145 : decode cX0_forest 145 = .ok (.ireturn, 1) := dk_172 (dk_at dksX0_forest_6 4 rfl rfl)
abbrev cX0_countsNodes : ByteArray := prog_1_method_119_code
def yX0_countsNodes : MethodName := ⟨RX0, "countsNodes", "()V"⟩
def dkwX0_countsNodes_5 : List UInt8 := [167, 255, 162, 177]
abbrev dktX0_countsNodes_5 : List UInt8 := dkwX0_countsNodes_5 ++ []
def dkwX0_countsNodes_4 : List UInt8 := [181, 2, 107, 42, 27, 181, 2, 110, 132, 3, 1, 167, 255, 193, 132, 2, 1, 167, 255, 174, 132, 1, 255]
abbrev dktX0_countsNodes_4 : List UInt8 := dkwX0_countsNodes_4 ++ dktX0_countsNodes_5
def dkwX0_countsNodes_3 : List UInt8 := [167, 0, 4, 3, 96, 181, 2, 104, 21, 4, 5, 162, 0, 6, 167, 0, 18, 42, 89, 180, 2, 107, 4, 96]
abbrev dktX0_countsNodes_3 : List UInt8 := dkwX0_countsNodes_3 ++ dktX0_countsNodes_4
def dkwX0_countsNodes_2 : List UInt8 := [42, 29, 28, 28, 27, 96, 182, 2, 113, 54, 4, 42, 89, 180, 2, 104, 21, 4, 158, 0, 7, 4]
abbrev dktX0_countsNodes_2 : List UInt8 := dkwX0_countsNodes_2 ++ dktX0_countsNodes_3
def dkwX0_countsNodes_1 : List UInt8 := [155, 0, 96, 3, 61, 28, 27, 96, 42, 180, 1, 29, 163, 0, 78, 16, 26, 62, 29, 16, 52, 162, 0, 63]
abbrev dktX0_countsNodes_1 : List UInt8 := dkwX0_countsNodes_1 ++ dktX0_countsNodes_2
def dkwX0_countsNodes_0 : List UInt8 := [42, 3, 181, 2, 104, 42, 3, 181, 2, 107, 42, 16, 254, 181, 2, 110, 42, 180, 1, 29, 60, 27]
abbrev dktX0_countsNodes_0 : List UInt8 := dkwX0_countsNodes_0 ++ dktX0_countsNodes_1
theorem dksX0_countsNodes_0 : cX0_countsNodes.data.toList.drop 0 = dktX0_countsNodes_0 := by decide +kernel
theorem dksX0_countsNodes_1 : cX0_countsNodes.data.toList.drop 22 = dktX0_countsNodes_1 := dk_seg dksX0_countsNodes_0 22 rfl rfl
theorem dksX0_countsNodes_2 : cX0_countsNodes.data.toList.drop 46 = dktX0_countsNodes_2 := dk_seg dksX0_countsNodes_1 24 rfl rfl
theorem dksX0_countsNodes_3 : cX0_countsNodes.data.toList.drop 68 = dktX0_countsNodes_3 := dk_seg dksX0_countsNodes_2 22 rfl rfl
theorem dksX0_countsNodes_4 : cX0_countsNodes.data.toList.drop 92 = dktX0_countsNodes_4 := dk_seg dksX0_countsNodes_3 24 rfl rfl
theorem dksX0_countsNodes_5 : cX0_countsNodes.data.toList.drop 115 = dktX0_countsNodes_5 := dk_seg dksX0_countsNodes_4 23 rfl rfl
theorem dX0_countsNodes_0 : decode cX0_countsNodes 0 = .ok (.aload_n 0, 1) := dk_42 (dk_at dksX0_countsNodes_0 0 rfl rfl)
theorem dX0_countsNodes_1 : decode cX0_countsNodes 1 = .ok (.iconst 0, 1) := dk_3 (dk_at dksX0_countsNodes_0 1 rfl rfl)
theorem dX0_countsNodes_2 : decode cX0_countsNodes 2 = .ok (.putfield 616, 3) := dk_181 2 104 (dk_at dksX0_countsNodes_0 2 rfl rfl)
theorem dX0_countsNodes_5 : decode cX0_countsNodes 5 = .ok (.aload_n 0, 1) := dk_42 (dk_at dksX0_countsNodes_0 5 rfl rfl)
theorem dX0_countsNodes_6 : decode cX0_countsNodes 6 = .ok (.iconst 0, 1) := dk_3 (dk_at dksX0_countsNodes_0 6 rfl rfl)
theorem dX0_countsNodes_7 : decode cX0_countsNodes 7 = .ok (.putfield 619, 3) := dk_181 2 107 (dk_at dksX0_countsNodes_0 7 rfl rfl)
theorem dX0_countsNodes_10 : decode cX0_countsNodes 10 = .ok (.aload_n 0, 1) := dk_42 (dk_at dksX0_countsNodes_0 10 rfl rfl)
theorem dX0_countsNodes_11 : decode cX0_countsNodes 11 = .ok (.bipush (-2), 2) := dk_16 254 (dk_at dksX0_countsNodes_0 11 rfl rfl)
theorem dX0_countsNodes_13 : decode cX0_countsNodes 13 = .ok (.putfield 622, 3) := dk_181 2 110 (dk_at dksX0_countsNodes_0 13 rfl rfl)
theorem dX0_countsNodes_16 : decode cX0_countsNodes 16 = .ok (.aload_n 0, 1) := dk_42 (dk_at dksX0_countsNodes_0 16 rfl rfl)
theorem dX0_countsNodes_17 : decode cX0_countsNodes 17 = .ok (.getfield 285, 3) := dk_180 1 29 (dk_at dksX0_countsNodes_0 17 rfl rfl)
theorem dX0_countsNodes_20 : decode cX0_countsNodes 20 = .ok (.istore_n 1, 1) := dk_60 (dk_at dksX0_countsNodes_0 20 rfl rfl)
theorem dX0_countsNodes_21 : decode cX0_countsNodes 21 = .ok (.iload_n 1, 1) := dk_27 (dk_at dksX0_countsNodes_0 21 rfl rfl)
theorem dX0_countsNodes_22 : decode cX0_countsNodes 22 = .ok (.ifCond .lt 96, 3) := dk_155 0 96 (dk_at dksX0_countsNodes_1 0 rfl rfl)
theorem dX0_countsNodes_25 : decode cX0_countsNodes 25 = .ok (.iconst 0, 1) := dk_3 (dk_at dksX0_countsNodes_1 3 rfl rfl)
theorem dX0_countsNodes_26 : decode cX0_countsNodes 26 = .ok (.istore_n 2, 1) := dk_61 (dk_at dksX0_countsNodes_1 4 rfl rfl)
theorem dX0_countsNodes_27 : decode cX0_countsNodes 27 = .ok (.iload_n 2, 1) := dk_28 (dk_at dksX0_countsNodes_1 5 rfl rfl)
theorem dX0_countsNodes_28 : decode cX0_countsNodes 28 = .ok (.iload_n 1, 1) := dk_27 (dk_at dksX0_countsNodes_1 6 rfl rfl)
theorem dX0_countsNodes_29 : decode cX0_countsNodes 29 = .ok (.iadd, 1) := dk_96 (dk_at dksX0_countsNodes_1 7 rfl rfl)
theorem dX0_countsNodes_30 : decode cX0_countsNodes 30 = .ok (.aload_n 0, 1) := dk_42 (dk_at dksX0_countsNodes_1 8 rfl rfl)
theorem dX0_countsNodes_31 : decode cX0_countsNodes 31 = .ok (.getfield 285, 3) := dk_180 1 29 (dk_at dksX0_countsNodes_1 9 rfl rfl)
theorem dX0_countsNodes_34 : decode cX0_countsNodes 34 = .ok (.if_icmp .gt 78, 3) := dk_163 0 78 (dk_at dksX0_countsNodes_1 12 rfl rfl)
theorem dX0_countsNodes_37 : decode cX0_countsNodes 37 = .ok (.bipush 26, 2) := dk_16 26 (dk_at dksX0_countsNodes_1 15 rfl rfl)
theorem dX0_countsNodes_39 : decode cX0_countsNodes 39 = .ok (.istore_n 3, 1) := dk_62 (dk_at dksX0_countsNodes_1 17 rfl rfl)
theorem dX0_countsNodes_40 : decode cX0_countsNodes 40 = .ok (.iload_n 3, 1) := dk_29 (dk_at dksX0_countsNodes_1 18 rfl rfl)
theorem dX0_countsNodes_41 : decode cX0_countsNodes 41 = .ok (.bipush 52, 2) := dk_16 52 (dk_at dksX0_countsNodes_1 19 rfl rfl)
theorem dX0_countsNodes_43 : decode cX0_countsNodes 43 = .ok (.if_icmp .ge 63, 3) := dk_162 0 63 (dk_at dksX0_countsNodes_1 21 rfl rfl)
theorem dX0_countsNodes_46 : decode cX0_countsNodes 46 = .ok (.aload_n 0, 1) := dk_42 (dk_at dksX0_countsNodes_2 0 rfl rfl)
theorem dX0_countsNodes_47 : decode cX0_countsNodes 47 = .ok (.iload_n 3, 1) := dk_29 (dk_at dksX0_countsNodes_2 1 rfl rfl)
theorem dX0_countsNodes_48 : decode cX0_countsNodes 48 = .ok (.iload_n 2, 1) := dk_28 (dk_at dksX0_countsNodes_2 2 rfl rfl)
theorem dX0_countsNodes_49 : decode cX0_countsNodes 49 = .ok (.iload_n 2, 1) := dk_28 (dk_at dksX0_countsNodes_2 3 rfl rfl)
theorem dX0_countsNodes_50 : decode cX0_countsNodes 50 = .ok (.iload_n 1, 1) := dk_27 (dk_at dksX0_countsNodes_2 4 rfl rfl)
theorem dX0_countsNodes_51 : decode cX0_countsNodes 51 = .ok (.iadd, 1) := dk_96 (dk_at dksX0_countsNodes_2 5 rfl rfl)
theorem dX0_countsNodes_52 : decode cX0_countsNodes 52 = .ok (.invokevirtual 625, 3) := dk_182 2 113 (dk_at dksX0_countsNodes_2 6 rfl rfl)
theorem dX0_countsNodes_55 : decode cX0_countsNodes 55 = .ok (.istore 4, 2) := dk_54 4 (dk_at dksX0_countsNodes_2 9 rfl rfl)
theorem dX0_countsNodes_57 : decode cX0_countsNodes 57 = .ok (.aload_n 0, 1) := dk_42 (dk_at dksX0_countsNodes_2 11 rfl rfl)
theorem dX0_countsNodes_58 : decode cX0_countsNodes 58 = .ok (.dup, 1) := dk_89 (dk_at dksX0_countsNodes_2 12 rfl rfl)
theorem dX0_countsNodes_59 : decode cX0_countsNodes 59 = .ok (.getfield 616, 3) := dk_180 2 104 (dk_at dksX0_countsNodes_2 13 rfl rfl)
theorem dX0_countsNodes_62 : decode cX0_countsNodes 62 = .ok (.iload 4, 2) := dk_21 4 (dk_at dksX0_countsNodes_2 16 rfl rfl)
theorem dX0_countsNodes_64 : decode cX0_countsNodes 64 = .ok (.ifCond .le 7, 3) := dk_158 0 7 (dk_at dksX0_countsNodes_2 18 rfl rfl)
theorem dX0_countsNodes_67 : decode cX0_countsNodes 67 = .ok (.iconst 1, 1) := dk_4 (dk_at dksX0_countsNodes_2 21 rfl rfl)
theorem dX0_countsNodes_68 : decode cX0_countsNodes 68 = .ok (.goto 4, 3) := dk_167 0 4 (dk_at dksX0_countsNodes_3 0 rfl rfl)
theorem dX0_countsNodes_71 : decode cX0_countsNodes 71 = .ok (.iconst 0, 1) := dk_3 (dk_at dksX0_countsNodes_3 3 rfl rfl)
theorem dX0_countsNodes_72 : decode cX0_countsNodes 72 = .ok (.iadd, 1) := dk_96 (dk_at dksX0_countsNodes_3 4 rfl rfl)
theorem dX0_countsNodes_73 : decode cX0_countsNodes 73 = .ok (.putfield 616, 3) := dk_181 2 104 (dk_at dksX0_countsNodes_3 5 rfl rfl)
theorem dX0_countsNodes_76 : decode cX0_countsNodes 76 = .ok (.iload 4, 2) := dk_21 4 (dk_at dksX0_countsNodes_3 8 rfl rfl)
theorem dX0_countsNodes_78 : decode cX0_countsNodes 78 = .ok (.iconst 2, 1) := dk_5 (dk_at dksX0_countsNodes_3 10 rfl rfl)
theorem dX0_countsNodes_79 : decode cX0_countsNodes 79 = .ok (.if_icmp .ge 6, 3) := dk_162 0 6 (dk_at dksX0_countsNodes_3 11 rfl rfl)
theorem dX0_countsNodes_82 : decode cX0_countsNodes 82 = .ok (.goto 18, 3) := dk_167 0 18 (dk_at dksX0_countsNodes_3 14 rfl rfl)
theorem dX0_countsNodes_85 : decode cX0_countsNodes 85 = .ok (.aload_n 0, 1) := dk_42 (dk_at dksX0_countsNodes_3 17 rfl rfl)
theorem dX0_countsNodes_86 : decode cX0_countsNodes 86 = .ok (.dup, 1) := dk_89 (dk_at dksX0_countsNodes_3 18 rfl rfl)
theorem dX0_countsNodes_87 : decode cX0_countsNodes 87 = .ok (.getfield 619, 3) := dk_180 2 107 (dk_at dksX0_countsNodes_3 19 rfl rfl)
theorem dX0_countsNodes_90 : decode cX0_countsNodes 90 = .ok (.iconst 1, 1) := dk_4 (dk_at dksX0_countsNodes_3 22 rfl rfl)
theorem dX0_countsNodes_91 : decode cX0_countsNodes 91 = .ok (.iadd, 1) := dk_96 (dk_at dksX0_countsNodes_3 23 rfl rfl)
theorem dX0_countsNodes_92 : decode cX0_countsNodes 92 = .ok (.putfield 619, 3) := dk_181 2 107 (dk_at dksX0_countsNodes_4 0 rfl rfl)
theorem dX0_countsNodes_95 : decode cX0_countsNodes 95 = .ok (.aload_n 0, 1) := dk_42 (dk_at dksX0_countsNodes_4 3 rfl rfl)
theorem dX0_countsNodes_96 : decode cX0_countsNodes 96 = .ok (.iload_n 1, 1) := dk_27 (dk_at dksX0_countsNodes_4 4 rfl rfl)
theorem dX0_countsNodes_97 : decode cX0_countsNodes 97 = .ok (.putfield 622, 3) := dk_181 2 110 (dk_at dksX0_countsNodes_4 5 rfl rfl)
theorem dX0_countsNodes_100 : decode cX0_countsNodes 100 = .ok (.iinc 3 1, 3) := dk_132 3 1 (dk_at dksX0_countsNodes_4 8 rfl rfl)
theorem dX0_countsNodes_103 : decode cX0_countsNodes 103 = .ok (.goto (-63), 3) := dk_167 255 193 (dk_at dksX0_countsNodes_4 11 rfl rfl)
theorem dX0_countsNodes_106 : decode cX0_countsNodes 106 = .ok (.iinc 2 1, 3) := dk_132 2 1 (dk_at dksX0_countsNodes_4 14 rfl rfl)
theorem dX0_countsNodes_109 : decode cX0_countsNodes 109 = .ok (.goto (-82), 3) := dk_167 255 174 (dk_at dksX0_countsNodes_4 17 rfl rfl)
theorem dX0_countsNodes_112 : decode cX0_countsNodes 112 = .ok (.iinc 1 (-1), 3) := dk_132 1 255 (dk_at dksX0_countsNodes_4 20 rfl rfl)
theorem dX0_countsNodes_115 : decode cX0_countsNodes 115 = .ok (.goto (-94), 3) := dk_167 255 162 (dk_at dksX0_countsNodes_5 0 rfl rfl)
theorem dX0_countsNodes_118 : decode cX0_countsNodes 118 = .ok (.return_, 1) := dk_177 (dk_at dksX0_countsNodes_5 3 rfl rfl)
abbrev cX0_waysOfNode : ByteArray := prog_1_method_118_code
def yX0_waysOfNode : MethodName := ⟨RX0, "waysOfNode", "(III)I"⟩
def dkwX0_waysOfNode_3 : List UInt8 := [21, 4, 172]
abbrev dktX0_waysOfNode_3 : List UInt8 := dkwX0_waysOfNode_3 ++ []
def dkwX0_waysOfNode_2 : List UInt8 := [153, 0, 14, 42, 21, 5, 28, 29, 182, 2, 101, 167, 0, 4, 3, 96, 54, 4, 132, 5, 1, 167, 255, 195]
abbrev dktX0_waysOfNode_2 : List UInt8 := dkwX0_waysOfNode_2 ++ dktX0_waysOfNode_3
def dkwX0_waysOfNode_1 : List UInt8 := [180, 1, 49, 21, 5, 46, 27, 160, 0, 29, 42, 180, 0, 167, 21, 5, 28, 29, 184, 2, 34, 51]
abbrev dktX0_waysOfNode_1 : List UInt8 := dkwX0_waysOfNode_1 ++ dktX0_waysOfNode_2
def dkwX0_waysOfNode_0 : List UInt8 := [3, 54, 4, 3, 54, 5, 21, 5, 42, 180, 0, 199, 180, 0, 203, 162, 0, 55, 21, 4, 42, 180, 0, 199]
abbrev dktX0_waysOfNode_0 : List UInt8 := dkwX0_waysOfNode_0 ++ dktX0_waysOfNode_1
theorem dksX0_waysOfNode_0 : cX0_waysOfNode.data.toList.drop 0 = dktX0_waysOfNode_0 := by decide +kernel
theorem dksX0_waysOfNode_1 : cX0_waysOfNode.data.toList.drop 24 = dktX0_waysOfNode_1 := dk_seg dksX0_waysOfNode_0 24 rfl rfl
theorem dksX0_waysOfNode_2 : cX0_waysOfNode.data.toList.drop 46 = dktX0_waysOfNode_2 := dk_seg dksX0_waysOfNode_1 22 rfl rfl
theorem dksX0_waysOfNode_3 : cX0_waysOfNode.data.toList.drop 70 = dktX0_waysOfNode_3 := dk_seg dksX0_waysOfNode_2 24 rfl rfl
theorem dX0_waysOfNode_0 : decode cX0_waysOfNode 0 = .ok (.iconst 0, 1) := dk_3 (dk_at dksX0_waysOfNode_0 0 rfl rfl)
theorem dX0_waysOfNode_1 : decode cX0_waysOfNode 1 = .ok (.istore 4, 2) := dk_54 4 (dk_at dksX0_waysOfNode_0 1 rfl rfl)
theorem dX0_waysOfNode_3 : decode cX0_waysOfNode 3 = .ok (.iconst 0, 1) := dk_3 (dk_at dksX0_waysOfNode_0 3 rfl rfl)
theorem dX0_waysOfNode_4 : decode cX0_waysOfNode 4 = .ok (.istore 5, 2) := dk_54 5 (dk_at dksX0_waysOfNode_0 4 rfl rfl)
theorem dX0_waysOfNode_6 : decode cX0_waysOfNode 6 = .ok (.iload 5, 2) := dk_21 5 (dk_at dksX0_waysOfNode_0 6 rfl rfl)
theorem dX0_waysOfNode_8 : decode cX0_waysOfNode 8 = .ok (.aload_n 0, 1) := dk_42 (dk_at dksX0_waysOfNode_0 8 rfl rfl)
theorem dX0_waysOfNode_9 : decode cX0_waysOfNode 9 = .ok (.getfield 199, 3) := dk_180 0 199 (dk_at dksX0_waysOfNode_0 9 rfl rfl)
theorem dX0_waysOfNode_12 : decode cX0_waysOfNode 12 = .ok (.getfield 203, 3) := dk_180 0 203 (dk_at dksX0_waysOfNode_0 12 rfl rfl)
theorem dX0_waysOfNode_15 : decode cX0_waysOfNode 15 = .ok (.if_icmp .ge 55, 3) := dk_162 0 55 (dk_at dksX0_waysOfNode_0 15 rfl rfl)
theorem dX0_waysOfNode_18 : decode cX0_waysOfNode 18 = .ok (.iload 4, 2) := dk_21 4 (dk_at dksX0_waysOfNode_0 18 rfl rfl)
theorem dX0_waysOfNode_20 : decode cX0_waysOfNode 20 = .ok (.aload_n 0, 1) := dk_42 (dk_at dksX0_waysOfNode_0 20 rfl rfl)
theorem dX0_waysOfNode_21 : decode cX0_waysOfNode 21 = .ok (.getfield 199, 3) := dk_180 0 199 (dk_at dksX0_waysOfNode_0 21 rfl rfl)
theorem dX0_waysOfNode_24 : decode cX0_waysOfNode 24 = .ok (.getfield 305, 3) := dk_180 1 49 (dk_at dksX0_waysOfNode_1 0 rfl rfl)
theorem dX0_waysOfNode_27 : decode cX0_waysOfNode 27 = .ok (.iload 5, 2) := dk_21 5 (dk_at dksX0_waysOfNode_1 3 rfl rfl)
theorem dX0_waysOfNode_29 : decode cX0_waysOfNode 29 = .ok (.iaload, 1) := dk_46 (dk_at dksX0_waysOfNode_1 5 rfl rfl)
theorem dX0_waysOfNode_30 : decode cX0_waysOfNode 30 = .ok (.iload_n 1, 1) := dk_27 (dk_at dksX0_waysOfNode_1 6 rfl rfl)
theorem dX0_waysOfNode_31 : decode cX0_waysOfNode 31 = .ok (.if_icmp .ne 29, 3) := dk_160 0 29 (dk_at dksX0_waysOfNode_1 7 rfl rfl)
theorem dX0_waysOfNode_34 : decode cX0_waysOfNode 34 = .ok (.aload_n 0, 1) := dk_42 (dk_at dksX0_waysOfNode_1 10 rfl rfl)
theorem dX0_waysOfNode_35 : decode cX0_waysOfNode 35 = .ok (.getfield 167, 3) := dk_180 0 167 (dk_at dksX0_waysOfNode_1 11 rfl rfl)
theorem dX0_waysOfNode_38 : decode cX0_waysOfNode 38 = .ok (.iload 5, 2) := dk_21 5 (dk_at dksX0_waysOfNode_1 14 rfl rfl)
theorem dX0_waysOfNode_40 : decode cX0_waysOfNode 40 = .ok (.iload_n 2, 1) := dk_28 (dk_at dksX0_waysOfNode_1 16 rfl rfl)
theorem dX0_waysOfNode_41 : decode cX0_waysOfNode 41 = .ok (.iload_n 3, 1) := dk_29 (dk_at dksX0_waysOfNode_1 17 rfl rfl)
theorem dX0_waysOfNode_42 : decode cX0_waysOfNode 42 = .ok (.invokestatic 546, 3) := dk_184 2 34 (dk_at dksX0_waysOfNode_1 18 rfl rfl)
theorem dX0_waysOfNode_45 : decode cX0_waysOfNode 45 = .ok (.baload, 1) := dk_51 (dk_at dksX0_waysOfNode_1 21 rfl rfl)
theorem dX0_waysOfNode_46 : decode cX0_waysOfNode 46 = .ok (.ifCond .eq 14, 3) := dk_153 0 14 (dk_at dksX0_waysOfNode_2 0 rfl rfl)
theorem dX0_waysOfNode_49 : decode cX0_waysOfNode 49 = .ok (.aload_n 0, 1) := dk_42 (dk_at dksX0_waysOfNode_2 3 rfl rfl)
theorem dX0_waysOfNode_50 : decode cX0_waysOfNode 50 = .ok (.iload 5, 2) := dk_21 5 (dk_at dksX0_waysOfNode_2 4 rfl rfl)
theorem dX0_waysOfNode_52 : decode cX0_waysOfNode 52 = .ok (.iload_n 2, 1) := dk_28 (dk_at dksX0_waysOfNode_2 6 rfl rfl)
theorem dX0_waysOfNode_53 : decode cX0_waysOfNode 53 = .ok (.iload_n 3, 1) := dk_29 (dk_at dksX0_waysOfNode_2 7 rfl rfl)
theorem dX0_waysOfNode_54 : decode cX0_waysOfNode 54 = .ok (.invokevirtual 613, 3) := dk_182 2 101 (dk_at dksX0_waysOfNode_2 8 rfl rfl)
theorem dX0_waysOfNode_57 : decode cX0_waysOfNode 57 = .ok (.goto 4, 3) := dk_167 0 4 (dk_at dksX0_waysOfNode_2 11 rfl rfl)
theorem dX0_waysOfNode_60 : decode cX0_waysOfNode 60 = .ok (.iconst 0, 1) := dk_3 (dk_at dksX0_waysOfNode_2 14 rfl rfl)
theorem dX0_waysOfNode_61 : decode cX0_waysOfNode 61 = .ok (.iadd, 1) := dk_96 (dk_at dksX0_waysOfNode_2 15 rfl rfl)
theorem dX0_waysOfNode_62 : decode cX0_waysOfNode 62 = .ok (.istore 4, 2) := dk_54 4 (dk_at dksX0_waysOfNode_2 16 rfl rfl)
theorem dX0_waysOfNode_64 : decode cX0_waysOfNode 64 = .ok (.iinc 5 1, 3) := dk_132 5 1 (dk_at dksX0_waysOfNode_2 18 rfl rfl)
theorem dX0_waysOfNode_67 : decode cX0_waysOfNode 67 = .ok (.goto (-61), 3) := dk_167 255 195 (dk_at dksX0_waysOfNode_2 21 rfl rfl)
theorem dX0_waysOfNode_70 : decode cX0_waysOfNode 70 = .ok (.iload 4, 2) := dk_21 4 (dk_at dksX0_waysOfNode_3 0 rfl rfl)
theorem dX0_waysOfNode_72 : decode cX0_waysOfNode 72 = .ok (.ireturn, 1) := dk_172 (dk_at dksX0_waysOfNode_3 2 rfl rfl)
abbrev cX0_smallest : ByteArray := prog_1_method_122_code
def yX0_smallest : MethodName := ⟨RX0, "smallest", "()I"⟩
def dkwX0_smallest_1 : List UInt8 := [167, 0, 7, 42, 182, 2, 121, 172]
abbrev dktX0_smallest_1 : List UInt8 := dkwX0_smallest_1 ++ []
def dkwX0_smallest_0 : List UInt8 := [42, 180, 0, 199, 199, 0, 5, 2, 172, 42, 182, 2, 98, 42, 182, 2, 121, 18, 12, 161, 0, 8, 16, 254]
abbrev dktX0_smallest_0 : List UInt8 := dkwX0_smallest_0 ++ dktX0_smallest_1
theorem dksX0_smallest_0 : cX0_smallest.data.toList.drop 0 = dktX0_smallest_0 := by decide +kernel
theorem dksX0_smallest_1 : cX0_smallest.data.toList.drop 24 = dktX0_smallest_1 := dk_seg dksX0_smallest_0 24 rfl rfl
theorem dX0_smallest_0 : decode cX0_smallest 0 = .ok (.aload_n 0, 1) := dk_42 (dk_at dksX0_smallest_0 0 rfl rfl)
theorem dX0_smallest_1 : decode cX0_smallest 1 = .ok (.getfield 199, 3) := dk_180 0 199 (dk_at dksX0_smallest_0 1 rfl rfl)
theorem dX0_smallest_4 : decode cX0_smallest 4 = .ok (.ifnonnull 5, 3) := dk_199 0 5 (dk_at dksX0_smallest_0 4 rfl rfl)
theorem dX0_smallest_7 : decode cX0_smallest 7 = .ok (.iconst (-1), 1) := dk_2 (dk_at dksX0_smallest_0 7 rfl rfl)
theorem dX0_smallest_8 : decode cX0_smallest 8 = .ok (.ireturn, 1) := dk_172 (dk_at dksX0_smallest_0 8 rfl rfl)
theorem dX0_smallest_9 : decode cX0_smallest 9 = .ok (.aload_n 0, 1) := dk_42 (dk_at dksX0_smallest_0 9 rfl rfl)
theorem dX0_smallest_10 : decode cX0_smallest 10 = .ok (.invokevirtual 610, 3) := dk_182 2 98 (dk_at dksX0_smallest_0 10 rfl rfl)
theorem dX0_smallest_13 : decode cX0_smallest 13 = .ok (.aload_n 0, 1) := dk_42 (dk_at dksX0_smallest_0 13 rfl rfl)
theorem dX0_smallest_14 : decode cX0_smallest 14 = .ok (.invokevirtual 633, 3) := dk_182 2 121 (dk_at dksX0_smallest_0 14 rfl rfl)
theorem dX0_smallest_17 : decode cX0_smallest 17 = .ok (.ldc 12, 2) := dk_18 12 (dk_at dksX0_smallest_0 17 rfl rfl)
theorem dX0_smallest_19 : decode cX0_smallest 19 = .ok (.if_icmp .lt 8, 3) := dk_161 0 8 (dk_at dksX0_smallest_0 19 rfl rfl)
theorem dX0_smallest_22 : decode cX0_smallest 22 = .ok (.bipush (-2), 2) := dk_16 254 (dk_at dksX0_smallest_0 22 rfl rfl)
theorem dX0_smallest_24 : decode cX0_smallest 24 = .ok (.goto 7, 3) := dk_167 0 7 (dk_at dksX0_smallest_1 0 rfl rfl)
theorem dX0_smallest_27 : decode cX0_smallest 27 = .ok (.aload_n 0, 1) := dk_42 (dk_at dksX0_smallest_1 3 rfl rfl)
theorem dX0_smallest_28 : decode cX0_smallest 28 = .ok (.invokevirtual 633, 3) := dk_182 2 121 (dk_at dksX0_smallest_1 4 rfl rfl)
theorem dX0_smallest_31 : decode cX0_smallest 31 = .ok (.ireturn, 1) := dk_172 (dk_at dksX0_smallest_1 7 rfl rfl)
abbrev cX0_leastWhole : ByteArray := prog_1_method_121_code
def yX0_leastWhole : MethodName := ⟨RX0, "leastWhole", "()I"⟩
def dkwX0_leastWhole_2 : List UInt8 := [184, 2, 34, 46, 184, 1, 92, 60, 132, 2, 1, 167, 255, 204, 27, 172]
abbrev dktX0_leastWhole_2 : List UInt8 := dkwX0_leastWhole_2 ++ []
def dkwX0_leastWhole_1 : List UInt8 := [46, 42, 180, 0, 199, 180, 1, 102, 160, 0, 22, 27, 42, 180, 0, 164, 28, 3, 42, 180, 1, 29]
abbrev dktX0_leastWhole_1 : List UInt8 := dkwX0_leastWhole_1 ++ dktX0_leastWhole_2
def dkwX0_leastWhole_0 : List UInt8 := [18, 12, 60, 3, 61, 28, 42, 180, 0, 199, 180, 0, 203, 162, 0, 47, 42, 180, 0, 199, 180, 1, 49, 28]
abbrev dktX0_leastWhole_0 : List UInt8 := dkwX0_leastWhole_0 ++ dktX0_leastWhole_1
theorem dksX0_leastWhole_0 : cX0_leastWhole.data.toList.drop 0 = dktX0_leastWhole_0 := by decide +kernel
theorem dksX0_leastWhole_1 : cX0_leastWhole.data.toList.drop 24 = dktX0_leastWhole_1 := dk_seg dksX0_leastWhole_0 24 rfl rfl
theorem dksX0_leastWhole_2 : cX0_leastWhole.data.toList.drop 46 = dktX0_leastWhole_2 := dk_seg dksX0_leastWhole_1 22 rfl rfl
theorem dX0_leastWhole_0 : decode cX0_leastWhole 0 = .ok (.ldc 12, 2) := dk_18 12 (dk_at dksX0_leastWhole_0 0 rfl rfl)
theorem dX0_leastWhole_2 : decode cX0_leastWhole 2 = .ok (.istore_n 1, 1) := dk_60 (dk_at dksX0_leastWhole_0 2 rfl rfl)
theorem dX0_leastWhole_3 : decode cX0_leastWhole 3 = .ok (.iconst 0, 1) := dk_3 (dk_at dksX0_leastWhole_0 3 rfl rfl)
theorem dX0_leastWhole_4 : decode cX0_leastWhole 4 = .ok (.istore_n 2, 1) := dk_61 (dk_at dksX0_leastWhole_0 4 rfl rfl)
theorem dX0_leastWhole_5 : decode cX0_leastWhole 5 = .ok (.iload_n 2, 1) := dk_28 (dk_at dksX0_leastWhole_0 5 rfl rfl)
theorem dX0_leastWhole_6 : decode cX0_leastWhole 6 = .ok (.aload_n 0, 1) := dk_42 (dk_at dksX0_leastWhole_0 6 rfl rfl)
theorem dX0_leastWhole_7 : decode cX0_leastWhole 7 = .ok (.getfield 199, 3) := dk_180 0 199 (dk_at dksX0_leastWhole_0 7 rfl rfl)
theorem dX0_leastWhole_10 : decode cX0_leastWhole 10 = .ok (.getfield 203, 3) := dk_180 0 203 (dk_at dksX0_leastWhole_0 10 rfl rfl)
theorem dX0_leastWhole_13 : decode cX0_leastWhole 13 = .ok (.if_icmp .ge 47, 3) := dk_162 0 47 (dk_at dksX0_leastWhole_0 13 rfl rfl)
theorem dX0_leastWhole_16 : decode cX0_leastWhole 16 = .ok (.aload_n 0, 1) := dk_42 (dk_at dksX0_leastWhole_0 16 rfl rfl)
theorem dX0_leastWhole_17 : decode cX0_leastWhole 17 = .ok (.getfield 199, 3) := dk_180 0 199 (dk_at dksX0_leastWhole_0 17 rfl rfl)
theorem dX0_leastWhole_20 : decode cX0_leastWhole 20 = .ok (.getfield 305, 3) := dk_180 1 49 (dk_at dksX0_leastWhole_0 20 rfl rfl)
theorem dX0_leastWhole_23 : decode cX0_leastWhole 23 = .ok (.iload_n 2, 1) := dk_28 (dk_at dksX0_leastWhole_0 23 rfl rfl)
theorem dX0_leastWhole_24 : decode cX0_leastWhole 24 = .ok (.iaload, 1) := dk_46 (dk_at dksX0_leastWhole_1 0 rfl rfl)
theorem dX0_leastWhole_25 : decode cX0_leastWhole 25 = .ok (.aload_n 0, 1) := dk_42 (dk_at dksX0_leastWhole_1 1 rfl rfl)
theorem dX0_leastWhole_26 : decode cX0_leastWhole 26 = .ok (.getfield 199, 3) := dk_180 0 199 (dk_at dksX0_leastWhole_1 2 rfl rfl)
theorem dX0_leastWhole_29 : decode cX0_leastWhole 29 = .ok (.getfield 358, 3) := dk_180 1 102 (dk_at dksX0_leastWhole_1 5 rfl rfl)
theorem dX0_leastWhole_32 : decode cX0_leastWhole 32 = .ok (.if_icmp .ne 22, 3) := dk_160 0 22 (dk_at dksX0_leastWhole_1 8 rfl rfl)
theorem dX0_leastWhole_35 : decode cX0_leastWhole 35 = .ok (.iload_n 1, 1) := dk_27 (dk_at dksX0_leastWhole_1 11 rfl rfl)
theorem dX0_leastWhole_36 : decode cX0_leastWhole 36 = .ok (.aload_n 0, 1) := dk_42 (dk_at dksX0_leastWhole_1 12 rfl rfl)
theorem dX0_leastWhole_37 : decode cX0_leastWhole 37 = .ok (.getfield 164, 3) := dk_180 0 164 (dk_at dksX0_leastWhole_1 13 rfl rfl)
theorem dX0_leastWhole_40 : decode cX0_leastWhole 40 = .ok (.iload_n 2, 1) := dk_28 (dk_at dksX0_leastWhole_1 16 rfl rfl)
theorem dX0_leastWhole_41 : decode cX0_leastWhole 41 = .ok (.iconst 0, 1) := dk_3 (dk_at dksX0_leastWhole_1 17 rfl rfl)
theorem dX0_leastWhole_42 : decode cX0_leastWhole 42 = .ok (.aload_n 0, 1) := dk_42 (dk_at dksX0_leastWhole_1 18 rfl rfl)
theorem dX0_leastWhole_43 : decode cX0_leastWhole 43 = .ok (.getfield 285, 3) := dk_180 1 29 (dk_at dksX0_leastWhole_1 19 rfl rfl)
theorem dX0_leastWhole_46 : decode cX0_leastWhole 46 = .ok (.invokestatic 546, 3) := dk_184 2 34 (dk_at dksX0_leastWhole_2 0 rfl rfl)
theorem dX0_leastWhole_49 : decode cX0_leastWhole 49 = .ok (.iaload, 1) := dk_46 (dk_at dksX0_leastWhole_2 3 rfl rfl)
theorem dX0_leastWhole_50 : decode cX0_leastWhole 50 = .ok (.invokestatic 348, 3) := dk_184 1 92 (dk_at dksX0_leastWhole_2 4 rfl rfl)
theorem dX0_leastWhole_53 : decode cX0_leastWhole 53 = .ok (.istore_n 1, 1) := dk_60 (dk_at dksX0_leastWhole_2 7 rfl rfl)
theorem dX0_leastWhole_54 : decode cX0_leastWhole 54 = .ok (.iinc 2 1, 3) := dk_132 2 1 (dk_at dksX0_leastWhole_2 8 rfl rfl)
theorem dX0_leastWhole_57 : decode cX0_leastWhole 57 = .ok (.goto (-52), 3) := dk_167 255 204 (dk_at dksX0_leastWhole_2 11 rfl rfl)
theorem dX0_leastWhole_60 : decode cX0_leastWhole 60 = .ok (.iload_n 1, 1) := dk_27 (dk_at dksX0_leastWhole_2 14 rfl rfl)
theorem dX0_leastWhole_61 : decode cX0_leastWhole 61 = .ok (.ireturn, 1) := dk_172 (dk_at dksX0_leastWhole_2 15 rfl rfl)
abbrev cX0_tree : ByteArray := prog_1_method_124_code
def yX0_tree : MethodName := ⟨RX0, "tree", "(II)I"⟩
def dkwX0_tree_6 : List UInt8 := [167, 0, 8, 25, 4, 180, 2, 146, 172]
abbrev dktX0_tree_6 : List UInt8 := dkwX0_tree_6 ++ []
def dkwX0_tree_5 : List UInt8 := [58, 4, 28, 154, 0, 11, 25, 4, 180, 2, 140, 167, 0, 21, 28, 4, 160, 0, 11, 25, 4, 180, 2, 143]
abbrev dktX0_tree_5 : List UInt8 := dkwX0_tree_5 ++ dktX0_tree_6
def dkwX0_tree_4 : List UInt8 := [167, 255, 213, 187, 2, 130, 89, 42, 183, 2, 132, 29, 3, 42, 180, 1, 29, 182, 2, 133, 27, 182, 2, 136]
abbrev dktX0_tree_4 : List UInt8 := dkwX0_tree_4 ++ dktX0_tree_5
def dkwX0_tree_3 : List UInt8 := [180, 0, 164, 29, 3, 42, 180, 1, 29, 184, 2, 34, 46, 42, 182, 2, 121, 159, 0, 9, 132, 3, 1]
abbrev dktX0_tree_3 : List UInt8 := dkwX0_tree_3 ++ dktX0_tree_4
def dkwX0_tree_2 : List UInt8 := [3, 62, 42, 180, 0, 199, 180, 1, 49, 29, 46, 42, 180, 0, 199, 180, 1, 102, 160, 0, 24, 42]
abbrev dktX0_tree_2 : List UInt8 := dkwX0_tree_2 ++ dktX0_tree_3
def dkwX0_tree_1 : List UInt8 := [172, 42, 182, 2, 98, 42, 182, 2, 121, 18, 12, 162, 0, 11, 27, 42, 182, 2, 121, 161, 0, 5, 2, 172]
abbrev dktX0_tree_1 : List UInt8 := dkwX0_tree_1 ++ dktX0_tree_2
def dkwX0_tree_0 : List UInt8 := [42, 180, 0, 199, 198, 0, 19, 27, 155, 0, 15, 28, 133, 9, 20, 1, 241, 184, 0, 219, 154, 0, 5, 2]
abbrev dktX0_tree_0 : List UInt8 := dkwX0_tree_0 ++ dktX0_tree_1
theorem dksX0_tree_0 : cX0_tree.data.toList.drop 0 = dktX0_tree_0 := by decide +kernel
theorem dksX0_tree_1 : cX0_tree.data.toList.drop 24 = dktX0_tree_1 := dk_seg dksX0_tree_0 24 rfl rfl
theorem dksX0_tree_2 : cX0_tree.data.toList.drop 48 = dktX0_tree_2 := dk_seg dksX0_tree_1 24 rfl rfl
theorem dksX0_tree_3 : cX0_tree.data.toList.drop 70 = dktX0_tree_3 := dk_seg dksX0_tree_2 22 rfl rfl
theorem dksX0_tree_4 : cX0_tree.data.toList.drop 93 = dktX0_tree_4 := dk_seg dksX0_tree_3 23 rfl rfl
theorem dksX0_tree_5 : cX0_tree.data.toList.drop 117 = dktX0_tree_5 := dk_seg dksX0_tree_4 24 rfl rfl
theorem dksX0_tree_6 : cX0_tree.data.toList.drop 141 = dktX0_tree_6 := dk_seg dksX0_tree_5 24 rfl rfl
theorem dX0_tree_0 : decode cX0_tree 0 = .ok (.aload_n 0, 1) := dk_42 (dk_at dksX0_tree_0 0 rfl rfl)
theorem dX0_tree_1 : decode cX0_tree 1 = .ok (.getfield 199, 3) := dk_180 0 199 (dk_at dksX0_tree_0 1 rfl rfl)
theorem dX0_tree_4 : decode cX0_tree 4 = .ok (.ifnull 19, 3) := dk_198 0 19 (dk_at dksX0_tree_0 4 rfl rfl)
theorem dX0_tree_7 : decode cX0_tree 7 = .ok (.iload_n 1, 1) := dk_27 (dk_at dksX0_tree_0 7 rfl rfl)
theorem dX0_tree_8 : decode cX0_tree 8 = .ok (.ifCond .lt 15, 3) := dk_155 0 15 (dk_at dksX0_tree_0 8 rfl rfl)
theorem dX0_tree_11 : decode cX0_tree 11 = .ok (.iload_n 2, 1) := dk_28 (dk_at dksX0_tree_0 11 rfl rfl)
theorem dX0_tree_12 : decode cX0_tree 12 = .ok (.i2l, 1) := dk_133 (dk_at dksX0_tree_0 12 rfl rfl)
theorem dX0_tree_13 : decode cX0_tree 13 = .ok (.lconst 0, 1) := dk_9 (dk_at dksX0_tree_0 13 rfl rfl)
theorem dX0_tree_14 : decode cX0_tree 14 = .ok (.ldc2_w 497, 3) := dk_20 1 241 (dk_at dksX0_tree_0 14 rfl rfl)
theorem dX0_tree_17 : decode cX0_tree 17 = .ok (.invokestatic 219, 3) := dk_184 0 219 (dk_at dksX0_tree_0 17 rfl rfl)
theorem dX0_tree_20 : decode cX0_tree 20 = .ok (.ifCond .ne 5, 3) := dk_154 0 5 (dk_at dksX0_tree_0 20 rfl rfl)
theorem dX0_tree_23 : decode cX0_tree 23 = .ok (.iconst (-1), 1) := dk_2 (dk_at dksX0_tree_0 23 rfl rfl)
theorem dX0_tree_24 : decode cX0_tree 24 = .ok (.ireturn, 1) := dk_172 (dk_at dksX0_tree_1 0 rfl rfl)
theorem dX0_tree_25 : decode cX0_tree 25 = .ok (.aload_n 0, 1) := dk_42 (dk_at dksX0_tree_1 1 rfl rfl)
theorem dX0_tree_26 : decode cX0_tree 26 = .ok (.invokevirtual 610, 3) := dk_182 2 98 (dk_at dksX0_tree_1 2 rfl rfl)
theorem dX0_tree_29 : decode cX0_tree 29 = .ok (.aload_n 0, 1) := dk_42 (dk_at dksX0_tree_1 5 rfl rfl)
theorem dX0_tree_30 : decode cX0_tree 30 = .ok (.invokevirtual 633, 3) := dk_182 2 121 (dk_at dksX0_tree_1 6 rfl rfl)
theorem dX0_tree_33 : decode cX0_tree 33 = .ok (.ldc 12, 2) := dk_18 12 (dk_at dksX0_tree_1 9 rfl rfl)
theorem dX0_tree_35 : decode cX0_tree 35 = .ok (.if_icmp .ge 11, 3) := dk_162 0 11 (dk_at dksX0_tree_1 11 rfl rfl)
theorem dX0_tree_38 : decode cX0_tree 38 = .ok (.iload_n 1, 1) := dk_27 (dk_at dksX0_tree_1 14 rfl rfl)
theorem dX0_tree_39 : decode cX0_tree 39 = .ok (.aload_n 0, 1) := dk_42 (dk_at dksX0_tree_1 15 rfl rfl)
theorem dX0_tree_40 : decode cX0_tree 40 = .ok (.invokevirtual 633, 3) := dk_182 2 121 (dk_at dksX0_tree_1 16 rfl rfl)
theorem dX0_tree_43 : decode cX0_tree 43 = .ok (.if_icmp .lt 5, 3) := dk_161 0 5 (dk_at dksX0_tree_1 19 rfl rfl)
theorem dX0_tree_46 : decode cX0_tree 46 = .ok (.iconst (-1), 1) := dk_2 (dk_at dksX0_tree_1 22 rfl rfl)
theorem dX0_tree_47 : decode cX0_tree 47 = .ok (.ireturn, 1) := dk_172 (dk_at dksX0_tree_1 23 rfl rfl)
theorem dX0_tree_48 : decode cX0_tree 48 = .ok (.iconst 0, 1) := dk_3 (dk_at dksX0_tree_2 0 rfl rfl)
theorem dX0_tree_49 : decode cX0_tree 49 = .ok (.istore_n 3, 1) := dk_62 (dk_at dksX0_tree_2 1 rfl rfl)
theorem dX0_tree_50 : decode cX0_tree 50 = .ok (.aload_n 0, 1) := dk_42 (dk_at dksX0_tree_2 2 rfl rfl)
theorem dX0_tree_51 : decode cX0_tree 51 = .ok (.getfield 199, 3) := dk_180 0 199 (dk_at dksX0_tree_2 3 rfl rfl)
theorem dX0_tree_54 : decode cX0_tree 54 = .ok (.getfield 305, 3) := dk_180 1 49 (dk_at dksX0_tree_2 6 rfl rfl)
theorem dX0_tree_57 : decode cX0_tree 57 = .ok (.iload_n 3, 1) := dk_29 (dk_at dksX0_tree_2 9 rfl rfl)
theorem dX0_tree_58 : decode cX0_tree 58 = .ok (.iaload, 1) := dk_46 (dk_at dksX0_tree_2 10 rfl rfl)
theorem dX0_tree_59 : decode cX0_tree 59 = .ok (.aload_n 0, 1) := dk_42 (dk_at dksX0_tree_2 11 rfl rfl)
theorem dX0_tree_60 : decode cX0_tree 60 = .ok (.getfield 199, 3) := dk_180 0 199 (dk_at dksX0_tree_2 12 rfl rfl)
theorem dX0_tree_63 : decode cX0_tree 63 = .ok (.getfield 358, 3) := dk_180 1 102 (dk_at dksX0_tree_2 15 rfl rfl)
theorem dX0_tree_66 : decode cX0_tree 66 = .ok (.if_icmp .ne 24, 3) := dk_160 0 24 (dk_at dksX0_tree_2 18 rfl rfl)
theorem dX0_tree_69 : decode cX0_tree 69 = .ok (.aload_n 0, 1) := dk_42 (dk_at dksX0_tree_2 21 rfl rfl)
theorem dX0_tree_70 : decode cX0_tree 70 = .ok (.getfield 164, 3) := dk_180 0 164 (dk_at dksX0_tree_3 0 rfl rfl)
theorem dX0_tree_73 : decode cX0_tree 73 = .ok (.iload_n 3, 1) := dk_29 (dk_at dksX0_tree_3 3 rfl rfl)
theorem dX0_tree_74 : decode cX0_tree 74 = .ok (.iconst 0, 1) := dk_3 (dk_at dksX0_tree_3 4 rfl rfl)
theorem dX0_tree_75 : decode cX0_tree 75 = .ok (.aload_n 0, 1) := dk_42 (dk_at dksX0_tree_3 5 rfl rfl)
theorem dX0_tree_76 : decode cX0_tree 76 = .ok (.getfield 285, 3) := dk_180 1 29 (dk_at dksX0_tree_3 6 rfl rfl)
theorem dX0_tree_79 : decode cX0_tree 79 = .ok (.invokestatic 546, 3) := dk_184 2 34 (dk_at dksX0_tree_3 9 rfl rfl)
theorem dX0_tree_82 : decode cX0_tree 82 = .ok (.iaload, 1) := dk_46 (dk_at dksX0_tree_3 12 rfl rfl)
theorem dX0_tree_83 : decode cX0_tree 83 = .ok (.aload_n 0, 1) := dk_42 (dk_at dksX0_tree_3 13 rfl rfl)
theorem dX0_tree_84 : decode cX0_tree 84 = .ok (.invokevirtual 633, 3) := dk_182 2 121 (dk_at dksX0_tree_3 14 rfl rfl)
theorem dX0_tree_87 : decode cX0_tree 87 = .ok (.if_icmp .eq 9, 3) := dk_159 0 9 (dk_at dksX0_tree_3 17 rfl rfl)
theorem dX0_tree_90 : decode cX0_tree 90 = .ok (.iinc 3 1, 3) := dk_132 3 1 (dk_at dksX0_tree_3 20 rfl rfl)
theorem dX0_tree_93 : decode cX0_tree 93 = .ok (.goto (-43), 3) := dk_167 255 213 (dk_at dksX0_tree_4 0 rfl rfl)
theorem dX0_tree_96 : decode cX0_tree 96 = .ok (.new 642, 3) := dk_187 2 130 (dk_at dksX0_tree_4 3 rfl rfl)
theorem dX0_tree_99 : decode cX0_tree 99 = .ok (.dup, 1) := dk_89 (dk_at dksX0_tree_4 6 rfl rfl)
theorem dX0_tree_100 : decode cX0_tree 100 = .ok (.aload_n 0, 1) := dk_42 (dk_at dksX0_tree_4 7 rfl rfl)
theorem dX0_tree_101 : decode cX0_tree 101 = .ok (.invokespecial 644, 3) := dk_183 2 132 (dk_at dksX0_tree_4 8 rfl rfl)
theorem dX0_tree_104 : decode cX0_tree 104 = .ok (.iload_n 3, 1) := dk_29 (dk_at dksX0_tree_4 11 rfl rfl)
theorem dX0_tree_105 : decode cX0_tree 105 = .ok (.iconst 0, 1) := dk_3 (dk_at dksX0_tree_4 12 rfl rfl)
theorem dX0_tree_106 : decode cX0_tree 106 = .ok (.aload_n 0, 1) := dk_42 (dk_at dksX0_tree_4 13 rfl rfl)
theorem dX0_tree_107 : decode cX0_tree 107 = .ok (.getfield 285, 3) := dk_180 1 29 (dk_at dksX0_tree_4 14 rfl rfl)
theorem dX0_tree_110 : decode cX0_tree 110 = .ok (.invokevirtual 645, 3) := dk_182 2 133 (dk_at dksX0_tree_4 17 rfl rfl)
theorem dX0_tree_113 : decode cX0_tree 113 = .ok (.iload_n 1, 1) := dk_27 (dk_at dksX0_tree_4 20 rfl rfl)
theorem dX0_tree_114 : decode cX0_tree 114 = .ok (.invokevirtual 648, 3) := dk_182 2 136 (dk_at dksX0_tree_4 21 rfl rfl)
theorem dX0_tree_117 : decode cX0_tree 117 = .ok (.astore 4, 2) := dk_58 4 (dk_at dksX0_tree_5 0 rfl rfl)
theorem dX0_tree_119 : decode cX0_tree 119 = .ok (.iload_n 2, 1) := dk_28 (dk_at dksX0_tree_5 2 rfl rfl)
theorem dX0_tree_120 : decode cX0_tree 120 = .ok (.ifCond .ne 11, 3) := dk_154 0 11 (dk_at dksX0_tree_5 3 rfl rfl)
theorem dX0_tree_123 : decode cX0_tree 123 = .ok (.aload 4, 2) := dk_25 4 (dk_at dksX0_tree_5 6 rfl rfl)
theorem dX0_tree_125 : decode cX0_tree 125 = .ok (.getfield 652, 3) := dk_180 2 140 (dk_at dksX0_tree_5 8 rfl rfl)
theorem dX0_tree_128 : decode cX0_tree 128 = .ok (.goto 21, 3) := dk_167 0 21 (dk_at dksX0_tree_5 11 rfl rfl)
theorem dX0_tree_131 : decode cX0_tree 131 = .ok (.iload_n 2, 1) := dk_28 (dk_at dksX0_tree_5 14 rfl rfl)
theorem dX0_tree_132 : decode cX0_tree 132 = .ok (.iconst 1, 1) := dk_4 (dk_at dksX0_tree_5 15 rfl rfl)
theorem dX0_tree_133 : decode cX0_tree 133 = .ok (.if_icmp .ne 11, 3) := dk_160 0 11 (dk_at dksX0_tree_5 16 rfl rfl)
theorem dX0_tree_136 : decode cX0_tree 136 = .ok (.aload 4, 2) := dk_25 4 (dk_at dksX0_tree_5 19 rfl rfl)
theorem dX0_tree_138 : decode cX0_tree 138 = .ok (.getfield 655, 3) := dk_180 2 143 (dk_at dksX0_tree_5 21 rfl rfl)
theorem dX0_tree_141 : decode cX0_tree 141 = .ok (.goto 8, 3) := dk_167 0 8 (dk_at dksX0_tree_6 0 rfl rfl)
theorem dX0_tree_144 : decode cX0_tree 144 = .ok (.aload 4, 2) := dk_25 4 (dk_at dksX0_tree_6 3 rfl rfl)
theorem dX0_tree_146 : decode cX0_tree 146 = .ok (.getfield 658, 3) := dk_180 2 146 (dk_at dksX0_tree_6 5 rfl rfl)
theorem dX0_tree_149 : decode cX0_tree 149 = .ok (.ireturn, 1) := dk_172 (dk_at dksX0_tree_6 8 rfl rfl)
abbrev cX0_leastFrom : ByteArray := prog_1_method_123_code
def yX0_leastFrom : MethodName := ⟨RX0, "leastFrom", "(IIII)I"⟩
def dkwX0_leastFrom_3 : List UInt8 := [54, 5, 132, 6, 1, 167, 255, 215, 21, 5, 172]
abbrev dktX0_leastFrom_3 : List UInt8 := dkwX0_leastFrom_3 ++ []
def dkwX0_leastFrom_2 : List UInt8 := [21, 6, 182, 2, 124, 42, 27, 28, 4, 96, 21, 6, 21, 4, 182, 2, 127, 184, 1, 67, 184, 1, 92]
abbrev dktX0_leastFrom_2 : List UInt8 := dkwX0_leastFrom_2 ++ dktX0_leastFrom_3
def dkwX0_leastFrom_1 : List UInt8 := [18, 12, 172, 18, 12, 54, 5, 29, 54, 6, 21, 6, 21, 4, 163, 0, 40, 21, 5, 42, 27, 28, 29]
abbrev dktX0_leastFrom_1 : List UInt8 := dkwX0_leastFrom_1 ++ dktX0_leastFrom_2
def dkwX0_leastFrom_0 : List UInt8 := [28, 42, 180, 0, 199, 180, 0, 232, 27, 46, 160, 0, 16, 29, 21, 4, 160, 0, 7, 3, 167, 0, 5]
abbrev dktX0_leastFrom_0 : List UInt8 := dkwX0_leastFrom_0 ++ dktX0_leastFrom_1
theorem dksX0_leastFrom_0 : cX0_leastFrom.data.toList.drop 0 = dktX0_leastFrom_0 := by decide +kernel
theorem dksX0_leastFrom_1 : cX0_leastFrom.data.toList.drop 23 = dktX0_leastFrom_1 := dk_seg dksX0_leastFrom_0 23 rfl rfl
theorem dksX0_leastFrom_2 : cX0_leastFrom.data.toList.drop 46 = dktX0_leastFrom_2 := dk_seg dksX0_leastFrom_1 23 rfl rfl
theorem dksX0_leastFrom_3 : cX0_leastFrom.data.toList.drop 69 = dktX0_leastFrom_3 := dk_seg dksX0_leastFrom_2 23 rfl rfl
theorem dX0_leastFrom_0 : decode cX0_leastFrom 0 = .ok (.iload_n 2, 1) := dk_28 (dk_at dksX0_leastFrom_0 0 rfl rfl)
theorem dX0_leastFrom_1 : decode cX0_leastFrom 1 = .ok (.aload_n 0, 1) := dk_42 (dk_at dksX0_leastFrom_0 1 rfl rfl)
theorem dX0_leastFrom_2 : decode cX0_leastFrom 2 = .ok (.getfield 199, 3) := dk_180 0 199 (dk_at dksX0_leastFrom_0 2 rfl rfl)
theorem dX0_leastFrom_5 : decode cX0_leastFrom 5 = .ok (.getfield 232, 3) := dk_180 0 232 (dk_at dksX0_leastFrom_0 5 rfl rfl)
theorem dX0_leastFrom_8 : decode cX0_leastFrom 8 = .ok (.iload_n 1, 1) := dk_27 (dk_at dksX0_leastFrom_0 8 rfl rfl)
theorem dX0_leastFrom_9 : decode cX0_leastFrom 9 = .ok (.iaload, 1) := dk_46 (dk_at dksX0_leastFrom_0 9 rfl rfl)
theorem dX0_leastFrom_10 : decode cX0_leastFrom 10 = .ok (.if_icmp .ne 16, 3) := dk_160 0 16 (dk_at dksX0_leastFrom_0 10 rfl rfl)
theorem dX0_leastFrom_13 : decode cX0_leastFrom 13 = .ok (.iload_n 3, 1) := dk_29 (dk_at dksX0_leastFrom_0 13 rfl rfl)
theorem dX0_leastFrom_14 : decode cX0_leastFrom 14 = .ok (.iload 4, 2) := dk_21 4 (dk_at dksX0_leastFrom_0 14 rfl rfl)
theorem dX0_leastFrom_16 : decode cX0_leastFrom 16 = .ok (.if_icmp .ne 7, 3) := dk_160 0 7 (dk_at dksX0_leastFrom_0 16 rfl rfl)
theorem dX0_leastFrom_19 : decode cX0_leastFrom 19 = .ok (.iconst 0, 1) := dk_3 (dk_at dksX0_leastFrom_0 19 rfl rfl)
theorem dX0_leastFrom_20 : decode cX0_leastFrom 20 = .ok (.goto 5, 3) := dk_167 0 5 (dk_at dksX0_leastFrom_0 20 rfl rfl)
theorem dX0_leastFrom_23 : decode cX0_leastFrom 23 = .ok (.ldc 12, 2) := dk_18 12 (dk_at dksX0_leastFrom_1 0 rfl rfl)
theorem dX0_leastFrom_25 : decode cX0_leastFrom 25 = .ok (.ireturn, 1) := dk_172 (dk_at dksX0_leastFrom_1 2 rfl rfl)
theorem dX0_leastFrom_26 : decode cX0_leastFrom 26 = .ok (.ldc 12, 2) := dk_18 12 (dk_at dksX0_leastFrom_1 3 rfl rfl)
theorem dX0_leastFrom_28 : decode cX0_leastFrom 28 = .ok (.istore 5, 2) := dk_54 5 (dk_at dksX0_leastFrom_1 5 rfl rfl)
theorem dX0_leastFrom_30 : decode cX0_leastFrom 30 = .ok (.iload_n 3, 1) := dk_29 (dk_at dksX0_leastFrom_1 7 rfl rfl)
theorem dX0_leastFrom_31 : decode cX0_leastFrom 31 = .ok (.istore 6, 2) := dk_54 6 (dk_at dksX0_leastFrom_1 8 rfl rfl)
theorem dX0_leastFrom_33 : decode cX0_leastFrom 33 = .ok (.iload 6, 2) := dk_21 6 (dk_at dksX0_leastFrom_1 10 rfl rfl)
theorem dX0_leastFrom_35 : decode cX0_leastFrom 35 = .ok (.iload 4, 2) := dk_21 4 (dk_at dksX0_leastFrom_1 12 rfl rfl)
theorem dX0_leastFrom_37 : decode cX0_leastFrom 37 = .ok (.if_icmp .gt 40, 3) := dk_163 0 40 (dk_at dksX0_leastFrom_1 14 rfl rfl)
theorem dX0_leastFrom_40 : decode cX0_leastFrom 40 = .ok (.iload 5, 2) := dk_21 5 (dk_at dksX0_leastFrom_1 17 rfl rfl)
theorem dX0_leastFrom_42 : decode cX0_leastFrom 42 = .ok (.aload_n 0, 1) := dk_42 (dk_at dksX0_leastFrom_1 19 rfl rfl)
theorem dX0_leastFrom_43 : decode cX0_leastFrom 43 = .ok (.iload_n 1, 1) := dk_27 (dk_at dksX0_leastFrom_1 20 rfl rfl)
theorem dX0_leastFrom_44 : decode cX0_leastFrom 44 = .ok (.iload_n 2, 1) := dk_28 (dk_at dksX0_leastFrom_1 21 rfl rfl)
theorem dX0_leastFrom_45 : decode cX0_leastFrom 45 = .ok (.iload_n 3, 1) := dk_29 (dk_at dksX0_leastFrom_1 22 rfl rfl)
theorem dX0_leastFrom_46 : decode cX0_leastFrom 46 = .ok (.iload 6, 2) := dk_21 6 (dk_at dksX0_leastFrom_2 0 rfl rfl)
theorem dX0_leastFrom_48 : decode cX0_leastFrom 48 = .ok (.invokevirtual 636, 3) := dk_182 2 124 (dk_at dksX0_leastFrom_2 2 rfl rfl)
theorem dX0_leastFrom_51 : decode cX0_leastFrom 51 = .ok (.aload_n 0, 1) := dk_42 (dk_at dksX0_leastFrom_2 5 rfl rfl)
theorem dX0_leastFrom_52 : decode cX0_leastFrom 52 = .ok (.iload_n 1, 1) := dk_27 (dk_at dksX0_leastFrom_2 6 rfl rfl)
theorem dX0_leastFrom_53 : decode cX0_leastFrom 53 = .ok (.iload_n 2, 1) := dk_28 (dk_at dksX0_leastFrom_2 7 rfl rfl)
theorem dX0_leastFrom_54 : decode cX0_leastFrom 54 = .ok (.iconst 1, 1) := dk_4 (dk_at dksX0_leastFrom_2 8 rfl rfl)
theorem dX0_leastFrom_55 : decode cX0_leastFrom 55 = .ok (.iadd, 1) := dk_96 (dk_at dksX0_leastFrom_2 9 rfl rfl)
theorem dX0_leastFrom_56 : decode cX0_leastFrom 56 = .ok (.iload 6, 2) := dk_21 6 (dk_at dksX0_leastFrom_2 10 rfl rfl)
theorem dX0_leastFrom_58 : decode cX0_leastFrom 58 = .ok (.iload 4, 2) := dk_21 4 (dk_at dksX0_leastFrom_2 12 rfl rfl)
theorem dX0_leastFrom_60 : decode cX0_leastFrom 60 = .ok (.invokevirtual 639, 3) := dk_182 2 127 (dk_at dksX0_leastFrom_2 14 rfl rfl)
theorem dX0_leastFrom_63 : decode cX0_leastFrom 63 = .ok (.invokestatic 323, 3) := dk_184 1 67 (dk_at dksX0_leastFrom_2 17 rfl rfl)
theorem dX0_leastFrom_66 : decode cX0_leastFrom 66 = .ok (.invokestatic 348, 3) := dk_184 1 92 (dk_at dksX0_leastFrom_2 20 rfl rfl)
theorem dX0_leastFrom_69 : decode cX0_leastFrom 69 = .ok (.istore 5, 2) := dk_54 5 (dk_at dksX0_leastFrom_3 0 rfl rfl)
theorem dX0_leastFrom_71 : decode cX0_leastFrom 71 = .ok (.iinc 6 1, 3) := dk_132 6 1 (dk_at dksX0_leastFrom_3 2 rfl rfl)
theorem dX0_leastFrom_74 : decode cX0_leastFrom 74 = .ok (.goto (-41), 3) := dk_167 255 215 (dk_at dksX0_leastFrom_3 5 rfl rfl)
theorem dX0_leastFrom_77 : decode cX0_leastFrom 77 = .ok (.iload 5, 2) := dk_21 5 (dk_at dksX0_leastFrom_3 8 rfl rfl)
theorem dX0_leastFrom_79 : decode cX0_leastFrom 79 = .ok (.ireturn, 1) := dk_172 (dk_at dksX0_leastFrom_3 10 rfl rfl)
abbrev cX0_whole : ByteArray := prog_1_method_125_code
def yX0_whole : MethodName := ⟨RX0, "whole", "()I"⟩
def dkwX0_whole_2 : List UInt8 := [153, 0, 5, 27, 172, 132, 1, 255, 167, 255, 221, 16, 254, 172]
abbrev dktX0_whole_2 : List UInt8 := dkwX0_whole_2 ++ []
def dkwX0_whole_1 : List UInt8 := [180, 0, 170, 3, 27, 184, 2, 25, 46, 42, 180, 0, 199, 180, 1, 102, 16, 26, 100, 184, 0, 211]
abbrev dktX0_whole_1 : List UInt8 := dkwX0_whole_1 ++ dktX0_whole_2
def dkwX0_whole_0 : List UInt8 := [42, 180, 0, 199, 199, 0, 5, 2, 172, 42, 182, 2, 98, 42, 180, 1, 29, 60, 27, 155, 0, 37, 42]
abbrev dktX0_whole_0 : List UInt8 := dkwX0_whole_0 ++ dktX0_whole_1
theorem dksX0_whole_0 : cX0_whole.data.toList.drop 0 = dktX0_whole_0 := by decide +kernel
theorem dksX0_whole_1 : cX0_whole.data.toList.drop 23 = dktX0_whole_1 := dk_seg dksX0_whole_0 23 rfl rfl
theorem dksX0_whole_2 : cX0_whole.data.toList.drop 45 = dktX0_whole_2 := dk_seg dksX0_whole_1 22 rfl rfl
theorem dX0_whole_0 : decode cX0_whole 0 = .ok (.aload_n 0, 1) := dk_42 (dk_at dksX0_whole_0 0 rfl rfl)
theorem dX0_whole_1 : decode cX0_whole 1 = .ok (.getfield 199, 3) := dk_180 0 199 (dk_at dksX0_whole_0 1 rfl rfl)
theorem dX0_whole_4 : decode cX0_whole 4 = .ok (.ifnonnull 5, 3) := dk_199 0 5 (dk_at dksX0_whole_0 4 rfl rfl)
theorem dX0_whole_7 : decode cX0_whole 7 = .ok (.iconst (-1), 1) := dk_2 (dk_at dksX0_whole_0 7 rfl rfl)
theorem dX0_whole_8 : decode cX0_whole 8 = .ok (.ireturn, 1) := dk_172 (dk_at dksX0_whole_0 8 rfl rfl)
theorem dX0_whole_9 : decode cX0_whole 9 = .ok (.aload_n 0, 1) := dk_42 (dk_at dksX0_whole_0 9 rfl rfl)
theorem dX0_whole_10 : decode cX0_whole 10 = .ok (.invokevirtual 610, 3) := dk_182 2 98 (dk_at dksX0_whole_0 10 rfl rfl)
theorem dX0_whole_13 : decode cX0_whole 13 = .ok (.aload_n 0, 1) := dk_42 (dk_at dksX0_whole_0 13 rfl rfl)
theorem dX0_whole_14 : decode cX0_whole 14 = .ok (.getfield 285, 3) := dk_180 1 29 (dk_at dksX0_whole_0 14 rfl rfl)
theorem dX0_whole_17 : decode cX0_whole 17 = .ok (.istore_n 1, 1) := dk_60 (dk_at dksX0_whole_0 17 rfl rfl)
theorem dX0_whole_18 : decode cX0_whole 18 = .ok (.iload_n 1, 1) := dk_27 (dk_at dksX0_whole_0 18 rfl rfl)
theorem dX0_whole_19 : decode cX0_whole 19 = .ok (.ifCond .lt 37, 3) := dk_155 0 37 (dk_at dksX0_whole_0 19 rfl rfl)
theorem dX0_whole_22 : decode cX0_whole 22 = .ok (.aload_n 0, 1) := dk_42 (dk_at dksX0_whole_0 22 rfl rfl)
theorem dX0_whole_23 : decode cX0_whole 23 = .ok (.getfield 170, 3) := dk_180 0 170 (dk_at dksX0_whole_1 0 rfl rfl)
theorem dX0_whole_26 : decode cX0_whole 26 = .ok (.iconst 0, 1) := dk_3 (dk_at dksX0_whole_1 3 rfl rfl)
theorem dX0_whole_27 : decode cX0_whole 27 = .ok (.iload_n 1, 1) := dk_27 (dk_at dksX0_whole_1 4 rfl rfl)
theorem dX0_whole_28 : decode cX0_whole 28 = .ok (.invokestatic 537, 3) := dk_184 2 25 (dk_at dksX0_whole_1 5 rfl rfl)
theorem dX0_whole_31 : decode cX0_whole 31 = .ok (.iaload, 1) := dk_46 (dk_at dksX0_whole_1 8 rfl rfl)
theorem dX0_whole_32 : decode cX0_whole 32 = .ok (.aload_n 0, 1) := dk_42 (dk_at dksX0_whole_1 9 rfl rfl)
theorem dX0_whole_33 : decode cX0_whole 33 = .ok (.getfield 199, 3) := dk_180 0 199 (dk_at dksX0_whole_1 10 rfl rfl)
theorem dX0_whole_36 : decode cX0_whole 36 = .ok (.getfield 358, 3) := dk_180 1 102 (dk_at dksX0_whole_1 13 rfl rfl)
theorem dX0_whole_39 : decode cX0_whole 39 = .ok (.bipush 26, 2) := dk_16 26 (dk_at dksX0_whole_1 16 rfl rfl)
theorem dX0_whole_41 : decode cX0_whole 41 = .ok (.isub, 1) := dk_100 (dk_at dksX0_whole_1 18 rfl rfl)
theorem dX0_whole_42 : decode cX0_whole 42 = .ok (.invokestatic 211, 3) := dk_184 0 211 (dk_at dksX0_whole_1 19 rfl rfl)
theorem dX0_whole_45 : decode cX0_whole 45 = .ok (.ifCond .eq 5, 3) := dk_153 0 5 (dk_at dksX0_whole_2 0 rfl rfl)
theorem dX0_whole_48 : decode cX0_whole 48 = .ok (.iload_n 1, 1) := dk_27 (dk_at dksX0_whole_2 3 rfl rfl)
theorem dX0_whole_49 : decode cX0_whole 49 = .ok (.ireturn, 1) := dk_172 (dk_at dksX0_whole_2 4 rfl rfl)
theorem dX0_whole_50 : decode cX0_whole 50 = .ok (.iinc 1 (-1), 3) := dk_132 1 255 (dk_at dksX0_whole_2 5 rfl rfl)
theorem dX0_whole_53 : decode cX0_whole 53 = .ok (.goto (-35), 3) := dk_167 255 221 (dk_at dksX0_whole_2 8 rfl rfl)
theorem dX0_whole_56 : decode cX0_whole 56 = .ok (.bipush (-2), 2) := dk_16 254 (dk_at dksX0_whole_2 11 rfl rfl)
theorem dX0_whole_58 : decode cX0_whole 58 = .ok (.ireturn, 1) := dk_172 (dk_at dksX0_whole_2 13 rfl rfl)
abbrev cX0_mend : ByteArray := prog_1_method_126_code
def yX0_mend : MethodName := ⟨RX0, "mend", "()I"⟩
def dkwX0_mend_2 : List UInt8 := [16, 254, 167, 0, 4, 27, 172]
abbrev dktX0_mend_2 : List UInt8 := dkwX0_mend_2 ++ []
def dkwX0_mend_1 : List UInt8 := [180, 1, 102, 16, 26, 100, 104, 3, 42, 180, 1, 29, 184, 2, 25, 96, 46, 60, 27, 18, 12, 161, 0, 8]
abbrev dktX0_mend_1 : List UInt8 := dkwX0_mend_1 ++ dktX0_mend_2
def dkwX0_mend_0 : List UInt8 := [42, 180, 0, 199, 199, 0, 5, 2, 172, 42, 182, 2, 98, 42, 180, 0, 173, 17, 0, 169, 42, 180, 0, 199]
abbrev dktX0_mend_0 : List UInt8 := dkwX0_mend_0 ++ dktX0_mend_1
theorem dksX0_mend_0 : cX0_mend.data.toList.drop 0 = dktX0_mend_0 := by decide +kernel
theorem dksX0_mend_1 : cX0_mend.data.toList.drop 24 = dktX0_mend_1 := dk_seg dksX0_mend_0 24 rfl rfl
theorem dksX0_mend_2 : cX0_mend.data.toList.drop 48 = dktX0_mend_2 := dk_seg dksX0_mend_1 24 rfl rfl
theorem dX0_mend_0 : decode cX0_mend 0 = .ok (.aload_n 0, 1) := dk_42 (dk_at dksX0_mend_0 0 rfl rfl)
theorem dX0_mend_1 : decode cX0_mend 1 = .ok (.getfield 199, 3) := dk_180 0 199 (dk_at dksX0_mend_0 1 rfl rfl)
theorem dX0_mend_4 : decode cX0_mend 4 = .ok (.ifnonnull 5, 3) := dk_199 0 5 (dk_at dksX0_mend_0 4 rfl rfl)
theorem dX0_mend_7 : decode cX0_mend 7 = .ok (.iconst (-1), 1) := dk_2 (dk_at dksX0_mend_0 7 rfl rfl)
theorem dX0_mend_8 : decode cX0_mend 8 = .ok (.ireturn, 1) := dk_172 (dk_at dksX0_mend_0 8 rfl rfl)
theorem dX0_mend_9 : decode cX0_mend 9 = .ok (.aload_n 0, 1) := dk_42 (dk_at dksX0_mend_0 9 rfl rfl)
theorem dX0_mend_10 : decode cX0_mend 10 = .ok (.invokevirtual 610, 3) := dk_182 2 98 (dk_at dksX0_mend_0 10 rfl rfl)
theorem dX0_mend_13 : decode cX0_mend 13 = .ok (.aload_n 0, 1) := dk_42 (dk_at dksX0_mend_0 13 rfl rfl)
theorem dX0_mend_14 : decode cX0_mend 14 = .ok (.getfield 173, 3) := dk_180 0 173 (dk_at dksX0_mend_0 14 rfl rfl)
theorem dX0_mend_17 : decode cX0_mend 17 = .ok (.sipush 169, 3) := dk_17 0 169 (dk_at dksX0_mend_0 17 rfl rfl)
theorem dX0_mend_20 : decode cX0_mend 20 = .ok (.aload_n 0, 1) := dk_42 (dk_at dksX0_mend_0 20 rfl rfl)
theorem dX0_mend_21 : decode cX0_mend 21 = .ok (.getfield 199, 3) := dk_180 0 199 (dk_at dksX0_mend_0 21 rfl rfl)
theorem dX0_mend_24 : decode cX0_mend 24 = .ok (.getfield 358, 3) := dk_180 1 102 (dk_at dksX0_mend_1 0 rfl rfl)
theorem dX0_mend_27 : decode cX0_mend 27 = .ok (.bipush 26, 2) := dk_16 26 (dk_at dksX0_mend_1 3 rfl rfl)
theorem dX0_mend_29 : decode cX0_mend 29 = .ok (.isub, 1) := dk_100 (dk_at dksX0_mend_1 5 rfl rfl)
theorem dX0_mend_30 : decode cX0_mend 30 = .ok (.imul, 1) := dk_104 (dk_at dksX0_mend_1 6 rfl rfl)
theorem dX0_mend_31 : decode cX0_mend 31 = .ok (.iconst 0, 1) := dk_3 (dk_at dksX0_mend_1 7 rfl rfl)
theorem dX0_mend_32 : decode cX0_mend 32 = .ok (.aload_n 0, 1) := dk_42 (dk_at dksX0_mend_1 8 rfl rfl)
theorem dX0_mend_33 : decode cX0_mend 33 = .ok (.getfield 285, 3) := dk_180 1 29 (dk_at dksX0_mend_1 9 rfl rfl)
theorem dX0_mend_36 : decode cX0_mend 36 = .ok (.invokestatic 537, 3) := dk_184 2 25 (dk_at dksX0_mend_1 12 rfl rfl)
theorem dX0_mend_39 : decode cX0_mend 39 = .ok (.iadd, 1) := dk_96 (dk_at dksX0_mend_1 15 rfl rfl)
theorem dX0_mend_40 : decode cX0_mend 40 = .ok (.iaload, 1) := dk_46 (dk_at dksX0_mend_1 16 rfl rfl)
theorem dX0_mend_41 : decode cX0_mend 41 = .ok (.istore_n 1, 1) := dk_60 (dk_at dksX0_mend_1 17 rfl rfl)
theorem dX0_mend_42 : decode cX0_mend 42 = .ok (.iload_n 1, 1) := dk_27 (dk_at dksX0_mend_1 18 rfl rfl)
theorem dX0_mend_43 : decode cX0_mend 43 = .ok (.ldc 12, 2) := dk_18 12 (dk_at dksX0_mend_1 19 rfl rfl)
theorem dX0_mend_45 : decode cX0_mend 45 = .ok (.if_icmp .lt 8, 3) := dk_161 0 8 (dk_at dksX0_mend_1 21 rfl rfl)
theorem dX0_mend_48 : decode cX0_mend 48 = .ok (.bipush (-2), 2) := dk_16 254 (dk_at dksX0_mend_2 0 rfl rfl)
theorem dX0_mend_50 : decode cX0_mend 50 = .ok (.goto 4, 3) := dk_167 0 4 (dk_at dksX0_mend_2 2 rfl rfl)
theorem dX0_mend_53 : decode cX0_mend 53 = .ok (.iload_n 1, 1) := dk_27 (dk_at dksX0_mend_2 5 rfl rfl)
theorem dX0_mend_54 : decode cX0_mend 54 = .ok (.ireturn, 1) := dk_172 (dk_at dksX0_mend_2 6 rfl rfl)
abbrev cX0_seed : ByteArray := prog_1_method_127_code
def yX0_seed : MethodName := ⟨RX0, "seed", "(I)I"⟩
def dkwX0_seed_0 : List UInt8 := [27, 156, 0, 5, 2, 172, 42, 180, 2, 149, 61, 42, 27, 181, 2, 149, 28, 172]
abbrev dktX0_seed_0 : List UInt8 := dkwX0_seed_0 ++ []
theorem dksX0_seed_0 : cX0_seed.data.toList.drop 0 = dktX0_seed_0 := by decide +kernel
theorem dX0_seed_0 : decode cX0_seed 0 = .ok (.iload_n 1, 1) := dk_27 (dk_at dksX0_seed_0 0 rfl rfl)
theorem dX0_seed_1 : decode cX0_seed 1 = .ok (.ifCond .ge 5, 3) := dk_156 0 5 (dk_at dksX0_seed_0 1 rfl rfl)
theorem dX0_seed_4 : decode cX0_seed 4 = .ok (.iconst (-1), 1) := dk_2 (dk_at dksX0_seed_0 4 rfl rfl)
theorem dX0_seed_5 : decode cX0_seed 5 = .ok (.ireturn, 1) := dk_172 (dk_at dksX0_seed_0 5 rfl rfl)
theorem dX0_seed_6 : decode cX0_seed 6 = .ok (.aload_n 0, 1) := dk_42 (dk_at dksX0_seed_0 6 rfl rfl)
theorem dX0_seed_7 : decode cX0_seed 7 = .ok (.getfield 661, 3) := dk_180 2 149 (dk_at dksX0_seed_0 7 rfl rfl)
theorem dX0_seed_10 : decode cX0_seed 10 = .ok (.istore_n 2, 1) := dk_61 (dk_at dksX0_seed_0 10 rfl rfl)
theorem dX0_seed_11 : decode cX0_seed 11 = .ok (.aload_n 0, 1) := dk_42 (dk_at dksX0_seed_0 11 rfl rfl)
theorem dX0_seed_12 : decode cX0_seed 12 = .ok (.iload_n 1, 1) := dk_27 (dk_at dksX0_seed_0 12 rfl rfl)
theorem dX0_seed_13 : decode cX0_seed 13 = .ok (.putfield 661, 3) := dk_181 2 149 (dk_at dksX0_seed_0 13 rfl rfl)
theorem dX0_seed_16 : decode cX0_seed 16 = .ok (.iload_n 2, 1) := dk_28 (dk_at dksX0_seed_0 16 rfl rfl)
theorem dX0_seed_17 : decode cX0_seed 17 = .ok (.ireturn, 1) := dk_172 (dk_at dksX0_seed_0 17 rfl rfl)
abbrev cX0_spoken : ByteArray := prog_1_method_134_code
def yX0_spoken : MethodName := ⟨RX0, "spoken", "(II)I"⟩
def dkwX0_spoken_4 : List UInt8 := [180, 0, 182, 28, 46, 167, 0, 4, 2, 172]
abbrev dktX0_spoken_4 : List UInt8 := dkwX0_spoken_4 ++ []
def dkwX0_spoken_3 : List UInt8 := [16, 254, 172, 28, 2, 160, 0, 10, 42, 180, 2, 162, 167, 0, 21, 28, 42, 180, 2, 162, 162, 0, 12, 42]
abbrev dktX0_spoken_3 : List UInt8 := dkwX0_spoken_3 ++ dktX0_spoken_4
def dkwX0_spoken_2 : List UInt8 := [54, 4, 21, 4, 27, 162, 0, 14, 42, 182, 2, 184, 62, 132, 4, 1, 167, 255, 242, 29, 154, 0, 6]
abbrev dktX0_spoken_2 : List UInt8 := dkwX0_spoken_2 ++ dktX0_spoken_3
def dkwX0_spoken_1 : List UInt8 := [20, 2, 182, 184, 0, 219, 154, 0, 6, 16, 253, 172, 42, 42, 180, 2, 149, 181, 2, 152, 3, 62, 3]
abbrev dktX0_spoken_1 : List UInt8 := dkwX0_spoken_1 ++ dktX0_spoken_2
def dkwX0_spoken_0 : List UInt8 := [42, 180, 0, 199, 198, 0, 29, 27, 133, 10, 20, 2, 180, 184, 0, 219, 153, 0, 17, 28, 133, 20, 1, 129]
abbrev dktX0_spoken_0 : List UInt8 := dkwX0_spoken_0 ++ dktX0_spoken_1
theorem dksX0_spoken_0 : cX0_spoken.data.toList.drop 0 = dktX0_spoken_0 := by decide +kernel
theorem dksX0_spoken_1 : cX0_spoken.data.toList.drop 24 = dktX0_spoken_1 := dk_seg dksX0_spoken_0 24 rfl rfl
theorem dksX0_spoken_2 : cX0_spoken.data.toList.drop 47 = dktX0_spoken_2 := dk_seg dksX0_spoken_1 23 rfl rfl
theorem dksX0_spoken_3 : cX0_spoken.data.toList.drop 70 = dktX0_spoken_3 := dk_seg dksX0_spoken_2 23 rfl rfl
theorem dksX0_spoken_4 : cX0_spoken.data.toList.drop 94 = dktX0_spoken_4 := dk_seg dksX0_spoken_3 24 rfl rfl
theorem dX0_spoken_0 : decode cX0_spoken 0 = .ok (.aload_n 0, 1) := dk_42 (dk_at dksX0_spoken_0 0 rfl rfl)
theorem dX0_spoken_1 : decode cX0_spoken 1 = .ok (.getfield 199, 3) := dk_180 0 199 (dk_at dksX0_spoken_0 1 rfl rfl)
theorem dX0_spoken_4 : decode cX0_spoken 4 = .ok (.ifnull 29, 3) := dk_198 0 29 (dk_at dksX0_spoken_0 4 rfl rfl)
theorem dX0_spoken_7 : decode cX0_spoken 7 = .ok (.iload_n 1, 1) := dk_27 (dk_at dksX0_spoken_0 7 rfl rfl)
theorem dX0_spoken_8 : decode cX0_spoken 8 = .ok (.i2l, 1) := dk_133 (dk_at dksX0_spoken_0 8 rfl rfl)
theorem dX0_spoken_9 : decode cX0_spoken 9 = .ok (.lconst 1, 1) := dk_10 (dk_at dksX0_spoken_0 9 rfl rfl)
theorem dX0_spoken_10 : decode cX0_spoken 10 = .ok (.ldc2_w 692, 3) := dk_20 2 180 (dk_at dksX0_spoken_0 10 rfl rfl)
theorem dX0_spoken_13 : decode cX0_spoken 13 = .ok (.invokestatic 219, 3) := dk_184 0 219 (dk_at dksX0_spoken_0 13 rfl rfl)
theorem dX0_spoken_16 : decode cX0_spoken 16 = .ok (.ifCond .eq 17, 3) := dk_153 0 17 (dk_at dksX0_spoken_0 16 rfl rfl)
theorem dX0_spoken_19 : decode cX0_spoken 19 = .ok (.iload_n 2, 1) := dk_28 (dk_at dksX0_spoken_0 19 rfl rfl)
theorem dX0_spoken_20 : decode cX0_spoken 20 = .ok (.i2l, 1) := dk_133 (dk_at dksX0_spoken_0 20 rfl rfl)
theorem dX0_spoken_21 : decode cX0_spoken 21 = .ok (.ldc2_w 385, 3) := dk_20 1 129 (dk_at dksX0_spoken_0 21 rfl rfl)
theorem dX0_spoken_24 : decode cX0_spoken 24 = .ok (.ldc2_w 694, 3) := dk_20 2 182 (dk_at dksX0_spoken_1 0 rfl rfl)
theorem dX0_spoken_27 : decode cX0_spoken 27 = .ok (.invokestatic 219, 3) := dk_184 0 219 (dk_at dksX0_spoken_1 3 rfl rfl)
theorem dX0_spoken_30 : decode cX0_spoken 30 = .ok (.ifCond .ne 6, 3) := dk_154 0 6 (dk_at dksX0_spoken_1 6 rfl rfl)
theorem dX0_spoken_33 : decode cX0_spoken 33 = .ok (.bipush (-3), 2) := dk_16 253 (dk_at dksX0_spoken_1 9 rfl rfl)
theorem dX0_spoken_35 : decode cX0_spoken 35 = .ok (.ireturn, 1) := dk_172 (dk_at dksX0_spoken_1 11 rfl rfl)
theorem dX0_spoken_36 : decode cX0_spoken 36 = .ok (.aload_n 0, 1) := dk_42 (dk_at dksX0_spoken_1 12 rfl rfl)
theorem dX0_spoken_37 : decode cX0_spoken 37 = .ok (.aload_n 0, 1) := dk_42 (dk_at dksX0_spoken_1 13 rfl rfl)
theorem dX0_spoken_38 : decode cX0_spoken 38 = .ok (.getfield 661, 3) := dk_180 2 149 (dk_at dksX0_spoken_1 14 rfl rfl)
theorem dX0_spoken_41 : decode cX0_spoken 41 = .ok (.putfield 664, 3) := dk_181 2 152 (dk_at dksX0_spoken_1 17 rfl rfl)
theorem dX0_spoken_44 : decode cX0_spoken 44 = .ok (.iconst 0, 1) := dk_3 (dk_at dksX0_spoken_1 20 rfl rfl)
theorem dX0_spoken_45 : decode cX0_spoken 45 = .ok (.istore_n 3, 1) := dk_62 (dk_at dksX0_spoken_1 21 rfl rfl)
theorem dX0_spoken_46 : decode cX0_spoken 46 = .ok (.iconst 0, 1) := dk_3 (dk_at dksX0_spoken_1 22 rfl rfl)
theorem dX0_spoken_47 : decode cX0_spoken 47 = .ok (.istore 4, 2) := dk_54 4 (dk_at dksX0_spoken_2 0 rfl rfl)
theorem dX0_spoken_49 : decode cX0_spoken 49 = .ok (.iload 4, 2) := dk_21 4 (dk_at dksX0_spoken_2 2 rfl rfl)
theorem dX0_spoken_51 : decode cX0_spoken 51 = .ok (.iload_n 1, 1) := dk_27 (dk_at dksX0_spoken_2 4 rfl rfl)
theorem dX0_spoken_52 : decode cX0_spoken 52 = .ok (.if_icmp .ge 14, 3) := dk_162 0 14 (dk_at dksX0_spoken_2 5 rfl rfl)
theorem dX0_spoken_55 : decode cX0_spoken 55 = .ok (.aload_n 0, 1) := dk_42 (dk_at dksX0_spoken_2 8 rfl rfl)
theorem dX0_spoken_56 : decode cX0_spoken 56 = .ok (.invokevirtual 696, 3) := dk_182 2 184 (dk_at dksX0_spoken_2 9 rfl rfl)
theorem dX0_spoken_59 : decode cX0_spoken 59 = .ok (.istore_n 3, 1) := dk_62 (dk_at dksX0_spoken_2 12 rfl rfl)
theorem dX0_spoken_60 : decode cX0_spoken 60 = .ok (.iinc 4 1, 3) := dk_132 4 1 (dk_at dksX0_spoken_2 13 rfl rfl)
theorem dX0_spoken_63 : decode cX0_spoken 63 = .ok (.goto (-14), 3) := dk_167 255 242 (dk_at dksX0_spoken_2 16 rfl rfl)
theorem dX0_spoken_66 : decode cX0_spoken 66 = .ok (.iload_n 3, 1) := dk_29 (dk_at dksX0_spoken_2 19 rfl rfl)
theorem dX0_spoken_67 : decode cX0_spoken 67 = .ok (.ifCond .ne 6, 3) := dk_154 0 6 (dk_at dksX0_spoken_2 20 rfl rfl)
theorem dX0_spoken_70 : decode cX0_spoken 70 = .ok (.bipush (-2), 2) := dk_16 254 (dk_at dksX0_spoken_3 0 rfl rfl)
theorem dX0_spoken_72 : decode cX0_spoken 72 = .ok (.ireturn, 1) := dk_172 (dk_at dksX0_spoken_3 2 rfl rfl)
theorem dX0_spoken_73 : decode cX0_spoken 73 = .ok (.iload_n 2, 1) := dk_28 (dk_at dksX0_spoken_3 3 rfl rfl)
theorem dX0_spoken_74 : decode cX0_spoken 74 = .ok (.iconst (-1), 1) := dk_2 (dk_at dksX0_spoken_3 4 rfl rfl)
theorem dX0_spoken_75 : decode cX0_spoken 75 = .ok (.if_icmp .ne 10, 3) := dk_160 0 10 (dk_at dksX0_spoken_3 5 rfl rfl)
theorem dX0_spoken_78 : decode cX0_spoken 78 = .ok (.aload_n 0, 1) := dk_42 (dk_at dksX0_spoken_3 8 rfl rfl)
theorem dX0_spoken_79 : decode cX0_spoken 79 = .ok (.getfield 674, 3) := dk_180 2 162 (dk_at dksX0_spoken_3 9 rfl rfl)
theorem dX0_spoken_82 : decode cX0_spoken 82 = .ok (.goto 21, 3) := dk_167 0 21 (dk_at dksX0_spoken_3 12 rfl rfl)
theorem dX0_spoken_85 : decode cX0_spoken 85 = .ok (.iload_n 2, 1) := dk_28 (dk_at dksX0_spoken_3 15 rfl rfl)
theorem dX0_spoken_86 : decode cX0_spoken 86 = .ok (.aload_n 0, 1) := dk_42 (dk_at dksX0_spoken_3 16 rfl rfl)
theorem dX0_spoken_87 : decode cX0_spoken 87 = .ok (.getfield 674, 3) := dk_180 2 162 (dk_at dksX0_spoken_3 17 rfl rfl)
theorem dX0_spoken_90 : decode cX0_spoken 90 = .ok (.if_icmp .ge 12, 3) := dk_162 0 12 (dk_at dksX0_spoken_3 20 rfl rfl)
theorem dX0_spoken_93 : decode cX0_spoken 93 = .ok (.aload_n 0, 1) := dk_42 (dk_at dksX0_spoken_3 23 rfl rfl)
theorem dX0_spoken_94 : decode cX0_spoken 94 = .ok (.getfield 182, 3) := dk_180 0 182 (dk_at dksX0_spoken_4 0 rfl rfl)
theorem dX0_spoken_97 : decode cX0_spoken 97 = .ok (.iload_n 2, 1) := dk_28 (dk_at dksX0_spoken_4 3 rfl rfl)
theorem dX0_spoken_98 : decode cX0_spoken 98 = .ok (.iaload, 1) := dk_46 (dk_at dksX0_spoken_4 4 rfl rfl)
theorem dX0_spoken_99 : decode cX0_spoken 99 = .ok (.goto 4, 3) := dk_167 0 4 (dk_at dksX0_spoken_4 5 rfl rfl)
theorem dX0_spoken_102 : decode cX0_spoken 102 = .ok (.iconst (-1), 1) := dk_2 (dk_at dksX0_spoken_4 8 rfl rfl)
theorem dX0_spoken_103 : decode cX0_spoken 103 = .ok (.ireturn, 1) := dk_172 (dk_at dksX0_spoken_4 9 rfl rfl)
abbrev cX0_speaks : ByteArray := prog_1_method_133_code
def yX0_speaks : MethodName := ⟨RX0, "speaks", "()Z"⟩
def dkwX0_speaks_4 : List UInt8 := [160, 0, 7, 4, 167, 0, 4, 3, 172]
abbrev dktX0_speaks_4 : List UInt8 := dkwX0_speaks_4 ++ []
def dkwX0_speaks_3 : List UInt8 := [182, 2, 174, 182, 2, 177, 154, 0, 5, 3, 172, 132, 1, 1, 167, 255, 195, 42, 182, 2, 165, 2]
abbrev dktX0_speaks_3 : List UInt8 := dkwX0_speaks_3 ++ dktX0_speaks_4
def dkwX0_speaks_2 : List UInt8 := [182, 2, 168, 62, 29, 153, 0, 26, 42, 28, 42, 42, 180, 0, 182, 28, 46, 42, 29, 182, 2, 171]
abbrev dktX0_speaks_2 : List UInt8 := dkwX0_speaks_2 ++ dktX0_speaks_3
def dkwX0_speaks_1 : List UInt8 := [162, 0, 61, 42, 182, 2, 165, 61, 28, 2, 160, 0, 5, 4, 172, 42, 42, 180, 0, 182, 28, 46]
abbrev dktX0_speaks_1 : List UInt8 := dkwX0_speaks_1 ++ dktX0_speaks_2
def dkwX0_speaks_0 : List UInt8 := [42, 180, 0, 182, 3, 42, 180, 0, 199, 180, 1, 102, 79, 42, 4, 181, 2, 162, 3, 60, 27, 16, 30]
abbrev dktX0_speaks_0 : List UInt8 := dkwX0_speaks_0 ++ dktX0_speaks_1
theorem dksX0_speaks_0 : cX0_speaks.data.toList.drop 0 = dktX0_speaks_0 := by decide +kernel
theorem dksX0_speaks_1 : cX0_speaks.data.toList.drop 23 = dktX0_speaks_1 := dk_seg dksX0_speaks_0 23 rfl rfl
theorem dksX0_speaks_2 : cX0_speaks.data.toList.drop 45 = dktX0_speaks_2 := dk_seg dksX0_speaks_1 22 rfl rfl
theorem dksX0_speaks_3 : cX0_speaks.data.toList.drop 67 = dktX0_speaks_3 := dk_seg dksX0_speaks_2 22 rfl rfl
theorem dksX0_speaks_4 : cX0_speaks.data.toList.drop 89 = dktX0_speaks_4 := dk_seg dksX0_speaks_3 22 rfl rfl
theorem dX0_speaks_0 : decode cX0_speaks 0 = .ok (.aload_n 0, 1) := dk_42 (dk_at dksX0_speaks_0 0 rfl rfl)
theorem dX0_speaks_1 : decode cX0_speaks 1 = .ok (.getfield 182, 3) := dk_180 0 182 (dk_at dksX0_speaks_0 1 rfl rfl)
theorem dX0_speaks_4 : decode cX0_speaks 4 = .ok (.iconst 0, 1) := dk_3 (dk_at dksX0_speaks_0 4 rfl rfl)
theorem dX0_speaks_5 : decode cX0_speaks 5 = .ok (.aload_n 0, 1) := dk_42 (dk_at dksX0_speaks_0 5 rfl rfl)
theorem dX0_speaks_6 : decode cX0_speaks 6 = .ok (.getfield 199, 3) := dk_180 0 199 (dk_at dksX0_speaks_0 6 rfl rfl)
theorem dX0_speaks_9 : decode cX0_speaks 9 = .ok (.getfield 358, 3) := dk_180 1 102 (dk_at dksX0_speaks_0 9 rfl rfl)
theorem dX0_speaks_12 : decode cX0_speaks 12 = .ok (.iastore, 1) := dk_79 (dk_at dksX0_speaks_0 12 rfl rfl)
theorem dX0_speaks_13 : decode cX0_speaks 13 = .ok (.aload_n 0, 1) := dk_42 (dk_at dksX0_speaks_0 13 rfl rfl)
theorem dX0_speaks_14 : decode cX0_speaks 14 = .ok (.iconst 1, 1) := dk_4 (dk_at dksX0_speaks_0 14 rfl rfl)
theorem dX0_speaks_15 : decode cX0_speaks 15 = .ok (.putfield 674, 3) := dk_181 2 162 (dk_at dksX0_speaks_0 15 rfl rfl)
theorem dX0_speaks_18 : decode cX0_speaks 18 = .ok (.iconst 0, 1) := dk_3 (dk_at dksX0_speaks_0 18 rfl rfl)
theorem dX0_speaks_19 : decode cX0_speaks 19 = .ok (.istore_n 1, 1) := dk_60 (dk_at dksX0_speaks_0 19 rfl rfl)
theorem dX0_speaks_20 : decode cX0_speaks 20 = .ok (.iload_n 1, 1) := dk_27 (dk_at dksX0_speaks_0 20 rfl rfl)
theorem dX0_speaks_21 : decode cX0_speaks 21 = .ok (.bipush 30, 2) := dk_16 30 (dk_at dksX0_speaks_0 21 rfl rfl)
theorem dX0_speaks_23 : decode cX0_speaks 23 = .ok (.if_icmp .ge 61, 3) := dk_162 0 61 (dk_at dksX0_speaks_1 0 rfl rfl)
theorem dX0_speaks_26 : decode cX0_speaks 26 = .ok (.aload_n 0, 1) := dk_42 (dk_at dksX0_speaks_1 3 rfl rfl)
theorem dX0_speaks_27 : decode cX0_speaks 27 = .ok (.invokevirtual 677, 3) := dk_182 2 165 (dk_at dksX0_speaks_1 4 rfl rfl)
theorem dX0_speaks_30 : decode cX0_speaks 30 = .ok (.istore_n 2, 1) := dk_61 (dk_at dksX0_speaks_1 7 rfl rfl)
theorem dX0_speaks_31 : decode cX0_speaks 31 = .ok (.iload_n 2, 1) := dk_28 (dk_at dksX0_speaks_1 8 rfl rfl)
theorem dX0_speaks_32 : decode cX0_speaks 32 = .ok (.iconst (-1), 1) := dk_2 (dk_at dksX0_speaks_1 9 rfl rfl)
theorem dX0_speaks_33 : decode cX0_speaks 33 = .ok (.if_icmp .ne 5, 3) := dk_160 0 5 (dk_at dksX0_speaks_1 10 rfl rfl)
theorem dX0_speaks_36 : decode cX0_speaks 36 = .ok (.iconst 1, 1) := dk_4 (dk_at dksX0_speaks_1 13 rfl rfl)
theorem dX0_speaks_37 : decode cX0_speaks 37 = .ok (.ireturn, 1) := dk_172 (dk_at dksX0_speaks_1 14 rfl rfl)
theorem dX0_speaks_38 : decode cX0_speaks 38 = .ok (.aload_n 0, 1) := dk_42 (dk_at dksX0_speaks_1 15 rfl rfl)
theorem dX0_speaks_39 : decode cX0_speaks 39 = .ok (.aload_n 0, 1) := dk_42 (dk_at dksX0_speaks_1 16 rfl rfl)
theorem dX0_speaks_40 : decode cX0_speaks 40 = .ok (.getfield 182, 3) := dk_180 0 182 (dk_at dksX0_speaks_1 17 rfl rfl)
theorem dX0_speaks_43 : decode cX0_speaks 43 = .ok (.iload_n 2, 1) := dk_28 (dk_at dksX0_speaks_1 20 rfl rfl)
theorem dX0_speaks_44 : decode cX0_speaks 44 = .ok (.iaload, 1) := dk_46 (dk_at dksX0_speaks_1 21 rfl rfl)
theorem dX0_speaks_45 : decode cX0_speaks 45 = .ok (.invokevirtual 680, 3) := dk_182 2 168 (dk_at dksX0_speaks_2 0 rfl rfl)
theorem dX0_speaks_48 : decode cX0_speaks 48 = .ok (.istore_n 3, 1) := dk_62 (dk_at dksX0_speaks_2 3 rfl rfl)
theorem dX0_speaks_49 : decode cX0_speaks 49 = .ok (.iload_n 3, 1) := dk_29 (dk_at dksX0_speaks_2 4 rfl rfl)
theorem dX0_speaks_50 : decode cX0_speaks 50 = .ok (.ifCond .eq 26, 3) := dk_153 0 26 (dk_at dksX0_speaks_2 5 rfl rfl)
theorem dX0_speaks_53 : decode cX0_speaks 53 = .ok (.aload_n 0, 1) := dk_42 (dk_at dksX0_speaks_2 8 rfl rfl)
theorem dX0_speaks_54 : decode cX0_speaks 54 = .ok (.iload_n 2, 1) := dk_28 (dk_at dksX0_speaks_2 9 rfl rfl)
theorem dX0_speaks_55 : decode cX0_speaks 55 = .ok (.aload_n 0, 1) := dk_42 (dk_at dksX0_speaks_2 10 rfl rfl)
theorem dX0_speaks_56 : decode cX0_speaks 56 = .ok (.aload_n 0, 1) := dk_42 (dk_at dksX0_speaks_2 11 rfl rfl)
theorem dX0_speaks_57 : decode cX0_speaks 57 = .ok (.getfield 182, 3) := dk_180 0 182 (dk_at dksX0_speaks_2 12 rfl rfl)
theorem dX0_speaks_60 : decode cX0_speaks 60 = .ok (.iload_n 2, 1) := dk_28 (dk_at dksX0_speaks_2 15 rfl rfl)
theorem dX0_speaks_61 : decode cX0_speaks 61 = .ok (.iaload, 1) := dk_46 (dk_at dksX0_speaks_2 16 rfl rfl)
theorem dX0_speaks_62 : decode cX0_speaks 62 = .ok (.aload_n 0, 1) := dk_42 (dk_at dksX0_speaks_2 17 rfl rfl)
theorem dX0_speaks_63 : decode cX0_speaks 63 = .ok (.iload_n 3, 1) := dk_29 (dk_at dksX0_speaks_2 18 rfl rfl)
theorem dX0_speaks_64 : decode cX0_speaks 64 = .ok (.invokevirtual 683, 3) := dk_182 2 171 (dk_at dksX0_speaks_2 19 rfl rfl)
theorem dX0_speaks_67 : decode cX0_speaks 67 = .ok (.invokevirtual 686, 3) := dk_182 2 174 (dk_at dksX0_speaks_3 0 rfl rfl)
theorem dX0_speaks_70 : decode cX0_speaks 70 = .ok (.invokevirtual 689, 3) := dk_182 2 177 (dk_at dksX0_speaks_3 3 rfl rfl)
theorem dX0_speaks_73 : decode cX0_speaks 73 = .ok (.ifCond .ne 5, 3) := dk_154 0 5 (dk_at dksX0_speaks_3 6 rfl rfl)
theorem dX0_speaks_76 : decode cX0_speaks 76 = .ok (.iconst 0, 1) := dk_3 (dk_at dksX0_speaks_3 9 rfl rfl)
theorem dX0_speaks_77 : decode cX0_speaks 77 = .ok (.ireturn, 1) := dk_172 (dk_at dksX0_speaks_3 10 rfl rfl)
theorem dX0_speaks_78 : decode cX0_speaks 78 = .ok (.iinc 1 1, 3) := dk_132 1 1 (dk_at dksX0_speaks_3 11 rfl rfl)
theorem dX0_speaks_81 : decode cX0_speaks 81 = .ok (.goto (-61), 3) := dk_167 255 195 (dk_at dksX0_speaks_3 14 rfl rfl)
theorem dX0_speaks_84 : decode cX0_speaks 84 = .ok (.aload_n 0, 1) := dk_42 (dk_at dksX0_speaks_3 17 rfl rfl)
theorem dX0_speaks_85 : decode cX0_speaks 85 = .ok (.invokevirtual 677, 3) := dk_182 2 165 (dk_at dksX0_speaks_3 18 rfl rfl)
theorem dX0_speaks_88 : decode cX0_speaks 88 = .ok (.iconst (-1), 1) := dk_2 (dk_at dksX0_speaks_3 21 rfl rfl)
theorem dX0_speaks_89 : decode cX0_speaks 89 = .ok (.if_icmp .ne 7, 3) := dk_160 0 7 (dk_at dksX0_speaks_4 0 rfl rfl)
theorem dX0_speaks_92 : decode cX0_speaks 92 = .ok (.iconst 1, 1) := dk_4 (dk_at dksX0_speaks_4 3 rfl rfl)
theorem dX0_speaks_93 : decode cX0_speaks 93 = .ok (.goto 4, 3) := dk_167 0 4 (dk_at dksX0_speaks_4 4 rfl rfl)
theorem dX0_speaks_96 : decode cX0_speaks 96 = .ok (.iconst 0, 1) := dk_3 (dk_at dksX0_speaks_4 7 rfl rfl)
theorem dX0_speaks_97 : decode cX0_speaks 97 = .ok (.ireturn, 1) := dk_172 (dk_at dksX0_speaks_4 8 rfl rfl)
abbrev cX0_firstCapital : ByteArray := prog_1_method_129_code
def yX0_firstCapital : MethodName := ⟨RX0, "firstCapital", "()I"⟩
def dkwX0_firstCapital_1 : List UInt8 := [132, 1, 1, 167, 255, 231, 2, 172]
abbrev dktX0_firstCapital_1 : List UInt8 := dkwX0_firstCapital_1 ++ []
def dkwX0_firstCapital_0 : List UInt8 := [3, 60, 27, 42, 180, 2, 162, 162, 0, 23, 42, 180, 0, 182, 27, 46, 184, 1, 55, 153, 0, 5, 27, 172]
abbrev dktX0_firstCapital_0 : List UInt8 := dkwX0_firstCapital_0 ++ dktX0_firstCapital_1
theorem dksX0_firstCapital_0 : cX0_firstCapital.data.toList.drop 0 = dktX0_firstCapital_0 := by decide +kernel
theorem dksX0_firstCapital_1 : cX0_firstCapital.data.toList.drop 24 = dktX0_firstCapital_1 := dk_seg dksX0_firstCapital_0 24 rfl rfl
theorem dX0_firstCapital_0 : decode cX0_firstCapital 0 = .ok (.iconst 0, 1) := dk_3 (dk_at dksX0_firstCapital_0 0 rfl rfl)
theorem dX0_firstCapital_1 : decode cX0_firstCapital 1 = .ok (.istore_n 1, 1) := dk_60 (dk_at dksX0_firstCapital_0 1 rfl rfl)
theorem dX0_firstCapital_2 : decode cX0_firstCapital 2 = .ok (.iload_n 1, 1) := dk_27 (dk_at dksX0_firstCapital_0 2 rfl rfl)
theorem dX0_firstCapital_3 : decode cX0_firstCapital 3 = .ok (.aload_n 0, 1) := dk_42 (dk_at dksX0_firstCapital_0 3 rfl rfl)
theorem dX0_firstCapital_4 : decode cX0_firstCapital 4 = .ok (.getfield 674, 3) := dk_180 2 162 (dk_at dksX0_firstCapital_0 4 rfl rfl)
theorem dX0_firstCapital_7 : decode cX0_firstCapital 7 = .ok (.if_icmp .ge 23, 3) := dk_162 0 23 (dk_at dksX0_firstCapital_0 7 rfl rfl)
theorem dX0_firstCapital_10 : decode cX0_firstCapital 10 = .ok (.aload_n 0, 1) := dk_42 (dk_at dksX0_firstCapital_0 10 rfl rfl)
theorem dX0_firstCapital_11 : decode cX0_firstCapital 11 = .ok (.getfield 182, 3) := dk_180 0 182 (dk_at dksX0_firstCapital_0 11 rfl rfl)
theorem dX0_firstCapital_14 : decode cX0_firstCapital 14 = .ok (.iload_n 1, 1) := dk_27 (dk_at dksX0_firstCapital_0 14 rfl rfl)
theorem dX0_firstCapital_15 : decode cX0_firstCapital 15 = .ok (.iaload, 1) := dk_46 (dk_at dksX0_firstCapital_0 15 rfl rfl)
theorem dX0_firstCapital_16 : decode cX0_firstCapital 16 = .ok (.invokestatic 311, 3) := dk_184 1 55 (dk_at dksX0_firstCapital_0 16 rfl rfl)
theorem dX0_firstCapital_19 : decode cX0_firstCapital 19 = .ok (.ifCond .eq 5, 3) := dk_153 0 5 (dk_at dksX0_firstCapital_0 19 rfl rfl)
theorem dX0_firstCapital_22 : decode cX0_firstCapital 22 = .ok (.iload_n 1, 1) := dk_27 (dk_at dksX0_firstCapital_0 22 rfl rfl)
theorem dX0_firstCapital_23 : decode cX0_firstCapital 23 = .ok (.ireturn, 1) := dk_172 (dk_at dksX0_firstCapital_0 23 rfl rfl)
theorem dX0_firstCapital_24 : decode cX0_firstCapital 24 = .ok (.iinc 1 1, 3) := dk_132 1 1 (dk_at dksX0_firstCapital_1 0 rfl rfl)
theorem dX0_firstCapital_27 : decode cX0_firstCapital 27 = .ok (.goto (-25), 3) := dk_167 255 231 (dk_at dksX0_firstCapital_1 3 rfl rfl)
theorem dX0_firstCapital_30 : decode cX0_firstCapital 30 = .ok (.iconst (-1), 1) := dk_2 (dk_at dksX0_firstCapital_1 6 rfl rfl)
theorem dX0_firstCapital_31 : decode cX0_firstCapital 31 = .ok (.ireturn, 1) := dk_172 (dk_at dksX0_firstCapital_1 7 rfl rfl)
abbrev cX0_rulesMany : ByteArray := prog_1_method_131_code
def yX0_rulesMany : MethodName := ⟨RX0, "rulesMany", "(I)I"⟩
def dkwX0_rulesMany_2 : List UInt8 := [167, 255, 213, 28, 172]
abbrev dktX0_rulesMany_2 : List UInt8 := dkwX0_rulesMany_2 ++ []
def dkwX0_rulesMany_1 : List UInt8 := [42, 180, 0, 199, 180, 1, 49, 29, 46, 27, 160, 0, 7, 4, 167, 0, 4, 3, 96, 61, 132, 3, 1]
abbrev dktX0_rulesMany_1 : List UInt8 := dkwX0_rulesMany_1 ++ dktX0_rulesMany_2
def dkwX0_rulesMany_0 : List UInt8 := [3, 61, 3, 62, 29, 42, 180, 0, 199, 180, 0, 203, 162, 0, 38, 28, 42, 29, 182, 1, 95, 153, 0, 20]
abbrev dktX0_rulesMany_0 : List UInt8 := dkwX0_rulesMany_0 ++ dktX0_rulesMany_1
theorem dksX0_rulesMany_0 : cX0_rulesMany.data.toList.drop 0 = dktX0_rulesMany_0 := by decide +kernel
theorem dksX0_rulesMany_1 : cX0_rulesMany.data.toList.drop 24 = dktX0_rulesMany_1 := dk_seg dksX0_rulesMany_0 24 rfl rfl
theorem dksX0_rulesMany_2 : cX0_rulesMany.data.toList.drop 47 = dktX0_rulesMany_2 := dk_seg dksX0_rulesMany_1 23 rfl rfl
theorem dX0_rulesMany_0 : decode cX0_rulesMany 0 = .ok (.iconst 0, 1) := dk_3 (dk_at dksX0_rulesMany_0 0 rfl rfl)
theorem dX0_rulesMany_1 : decode cX0_rulesMany 1 = .ok (.istore_n 2, 1) := dk_61 (dk_at dksX0_rulesMany_0 1 rfl rfl)
theorem dX0_rulesMany_2 : decode cX0_rulesMany 2 = .ok (.iconst 0, 1) := dk_3 (dk_at dksX0_rulesMany_0 2 rfl rfl)
theorem dX0_rulesMany_3 : decode cX0_rulesMany 3 = .ok (.istore_n 3, 1) := dk_62 (dk_at dksX0_rulesMany_0 3 rfl rfl)
theorem dX0_rulesMany_4 : decode cX0_rulesMany 4 = .ok (.iload_n 3, 1) := dk_29 (dk_at dksX0_rulesMany_0 4 rfl rfl)
theorem dX0_rulesMany_5 : decode cX0_rulesMany 5 = .ok (.aload_n 0, 1) := dk_42 (dk_at dksX0_rulesMany_0 5 rfl rfl)
theorem dX0_rulesMany_6 : decode cX0_rulesMany 6 = .ok (.getfield 199, 3) := dk_180 0 199 (dk_at dksX0_rulesMany_0 6 rfl rfl)
theorem dX0_rulesMany_9 : decode cX0_rulesMany 9 = .ok (.getfield 203, 3) := dk_180 0 203 (dk_at dksX0_rulesMany_0 9 rfl rfl)
theorem dX0_rulesMany_12 : decode cX0_rulesMany 12 = .ok (.if_icmp .ge 38, 3) := dk_162 0 38 (dk_at dksX0_rulesMany_0 12 rfl rfl)
theorem dX0_rulesMany_15 : decode cX0_rulesMany 15 = .ok (.iload_n 2, 1) := dk_28 (dk_at dksX0_rulesMany_0 15 rfl rfl)
theorem dX0_rulesMany_16 : decode cX0_rulesMany 16 = .ok (.aload_n 0, 1) := dk_42 (dk_at dksX0_rulesMany_0 16 rfl rfl)
theorem dX0_rulesMany_17 : decode cX0_rulesMany 17 = .ok (.iload_n 3, 1) := dk_29 (dk_at dksX0_rulesMany_0 17 rfl rfl)
theorem dX0_rulesMany_18 : decode cX0_rulesMany 18 = .ok (.invokevirtual 351, 3) := dk_182 1 95 (dk_at dksX0_rulesMany_0 18 rfl rfl)
theorem dX0_rulesMany_21 : decode cX0_rulesMany 21 = .ok (.ifCond .eq 20, 3) := dk_153 0 20 (dk_at dksX0_rulesMany_0 21 rfl rfl)
theorem dX0_rulesMany_24 : decode cX0_rulesMany 24 = .ok (.aload_n 0, 1) := dk_42 (dk_at dksX0_rulesMany_1 0 rfl rfl)
theorem dX0_rulesMany_25 : decode cX0_rulesMany 25 = .ok (.getfield 199, 3) := dk_180 0 199 (dk_at dksX0_rulesMany_1 1 rfl rfl)
theorem dX0_rulesMany_28 : decode cX0_rulesMany 28 = .ok (.getfield 305, 3) := dk_180 1 49 (dk_at dksX0_rulesMany_1 4 rfl rfl)
theorem dX0_rulesMany_31 : decode cX0_rulesMany 31 = .ok (.iload_n 3, 1) := dk_29 (dk_at dksX0_rulesMany_1 7 rfl rfl)
theorem dX0_rulesMany_32 : decode cX0_rulesMany 32 = .ok (.iaload, 1) := dk_46 (dk_at dksX0_rulesMany_1 8 rfl rfl)
theorem dX0_rulesMany_33 : decode cX0_rulesMany 33 = .ok (.iload_n 1, 1) := dk_27 (dk_at dksX0_rulesMany_1 9 rfl rfl)
theorem dX0_rulesMany_34 : decode cX0_rulesMany 34 = .ok (.if_icmp .ne 7, 3) := dk_160 0 7 (dk_at dksX0_rulesMany_1 10 rfl rfl)
theorem dX0_rulesMany_37 : decode cX0_rulesMany 37 = .ok (.iconst 1, 1) := dk_4 (dk_at dksX0_rulesMany_1 13 rfl rfl)
theorem dX0_rulesMany_38 : decode cX0_rulesMany 38 = .ok (.goto 4, 3) := dk_167 0 4 (dk_at dksX0_rulesMany_1 14 rfl rfl)
theorem dX0_rulesMany_41 : decode cX0_rulesMany 41 = .ok (.iconst 0, 1) := dk_3 (dk_at dksX0_rulesMany_1 17 rfl rfl)
theorem dX0_rulesMany_42 : decode cX0_rulesMany 42 = .ok (.iadd, 1) := dk_96 (dk_at dksX0_rulesMany_1 18 rfl rfl)
theorem dX0_rulesMany_43 : decode cX0_rulesMany 43 = .ok (.istore_n 2, 1) := dk_61 (dk_at dksX0_rulesMany_1 19 rfl rfl)
theorem dX0_rulesMany_44 : decode cX0_rulesMany 44 = .ok (.iinc 3 1, 3) := dk_132 3 1 (dk_at dksX0_rulesMany_1 20 rfl rfl)
theorem dX0_rulesMany_47 : decode cX0_rulesMany 47 = .ok (.goto (-43), 3) := dk_167 255 213 (dk_at dksX0_rulesMany_2 0 rfl rfl)
theorem dX0_rulesMany_50 : decode cX0_rulesMany 50 = .ok (.iload_n 2, 1) := dk_28 (dk_at dksX0_rulesMany_2 3 rfl rfl)
theorem dX0_rulesMany_51 : decode cX0_rulesMany 51 = .ok (.ireturn, 1) := dk_172 (dk_at dksX0_rulesMany_2 4 rfl rfl)
abbrev cX0_drawn : ByteArray := prog_1_method_128_code
def yX0_drawn : MethodName := ⟨RX0, "drawn", "(I)I"⟩
def dkwX0_drawn_1 : List UInt8 := [180, 2, 152, 19, 2, 161, 108, 27, 112, 172]
abbrev dktX0_drawn_1 : List UInt8 := dkwX0_drawn_1 ++ []
def dkwX0_drawn_0 : List UInt8 := [42, 42, 180, 2, 152, 133, 20, 2, 155, 105, 20, 2, 157, 97, 20, 2, 159, 113, 136, 181, 2, 152, 42]
abbrev dktX0_drawn_0 : List UInt8 := dkwX0_drawn_0 ++ dktX0_drawn_1
theorem dksX0_drawn_0 : cX0_drawn.data.toList.drop 0 = dktX0_drawn_0 := by decide +kernel
theorem dksX0_drawn_1 : cX0_drawn.data.toList.drop 23 = dktX0_drawn_1 := dk_seg dksX0_drawn_0 23 rfl rfl
theorem dX0_drawn_0 : decode cX0_drawn 0 = .ok (.aload_n 0, 1) := dk_42 (dk_at dksX0_drawn_0 0 rfl rfl)
theorem dX0_drawn_1 : decode cX0_drawn 1 = .ok (.aload_n 0, 1) := dk_42 (dk_at dksX0_drawn_0 1 rfl rfl)
theorem dX0_drawn_2 : decode cX0_drawn 2 = .ok (.getfield 664, 3) := dk_180 2 152 (dk_at dksX0_drawn_0 2 rfl rfl)
theorem dX0_drawn_5 : decode cX0_drawn 5 = .ok (.i2l, 1) := dk_133 (dk_at dksX0_drawn_0 5 rfl rfl)
theorem dX0_drawn_6 : decode cX0_drawn 6 = .ok (.ldc2_w 667, 3) := dk_20 2 155 (dk_at dksX0_drawn_0 6 rfl rfl)
theorem dX0_drawn_9 : decode cX0_drawn 9 = .ok (.lmul, 1) := dk_105 (dk_at dksX0_drawn_0 9 rfl rfl)
theorem dX0_drawn_10 : decode cX0_drawn 10 = .ok (.ldc2_w 669, 3) := dk_20 2 157 (dk_at dksX0_drawn_0 10 rfl rfl)
theorem dX0_drawn_13 : decode cX0_drawn 13 = .ok (.ladd, 1) := dk_97 (dk_at dksX0_drawn_0 13 rfl rfl)
theorem dX0_drawn_14 : decode cX0_drawn 14 = .ok (.ldc2_w 671, 3) := dk_20 2 159 (dk_at dksX0_drawn_0 14 rfl rfl)
theorem dX0_drawn_17 : decode cX0_drawn 17 = .ok (.lrem, 1) := dk_113 (dk_at dksX0_drawn_0 17 rfl rfl)
theorem dX0_drawn_18 : decode cX0_drawn 18 = .ok (.l2i, 1) := dk_136 (dk_at dksX0_drawn_0 18 rfl rfl)
theorem dX0_drawn_19 : decode cX0_drawn 19 = .ok (.putfield 664, 3) := dk_181 2 152 (dk_at dksX0_drawn_0 19 rfl rfl)
theorem dX0_drawn_22 : decode cX0_drawn 22 = .ok (.aload_n 0, 1) := dk_42 (dk_at dksX0_drawn_0 22 rfl rfl)
theorem dX0_drawn_23 : decode cX0_drawn 23 = .ok (.getfield 664, 3) := dk_180 2 152 (dk_at dksX0_drawn_1 0 rfl rfl)
theorem dX0_drawn_26 : decode cX0_drawn 26 = .ok (.ldc_w 673, 3) := dk_19 2 161 (dk_at dksX0_drawn_1 3 rfl rfl)
theorem dX0_drawn_29 : decode cX0_drawn 29 = .ok (.idiv, 1) := dk_108 (dk_at dksX0_drawn_1 6 rfl rfl)
theorem dX0_drawn_30 : decode cX0_drawn 30 = .ok (.iload_n 1, 1) := dk_27 (dk_at dksX0_drawn_1 7 rfl rfl)
theorem dX0_drawn_31 : decode cX0_drawn 31 = .ok (.irem, 1) := dk_112 (dk_at dksX0_drawn_1 8 rfl rfl)
theorem dX0_drawn_32 : decode cX0_drawn 32 = .ok (.ireturn, 1) := dk_172 (dk_at dksX0_drawn_1 9 rfl rfl)
abbrev cX0_ruleOf : ByteArray := prog_1_method_130_code
def yX0_ruleOf : MethodName := ⟨RX0, "ruleOf", "(II)I"⟩
def dkwX0_ruleOf_2 : List UInt8 := [21, 4, 172, 132, 3, 255, 132, 4, 1, 167, 255, 205, 2, 172]
abbrev dktX0_ruleOf_2 : List UInt8 := dkwX0_ruleOf_2 ++ []
def dkwX0_ruleOf_1 : List UInt8 := [153, 0, 30, 42, 180, 0, 199, 180, 1, 49, 21, 4, 46, 27, 159, 0, 6, 167, 0, 13, 29, 154, 0, 6]
abbrev dktX0_ruleOf_1 : List UInt8 := dkwX0_ruleOf_1 ++ dktX0_ruleOf_2
def dkwX0_ruleOf_0 : List UInt8 := [28, 62, 3, 54, 4, 21, 4, 42, 180, 0, 199, 180, 0, 203, 162, 0, 45, 42, 21, 4, 182, 1, 95]
abbrev dktX0_ruleOf_0 : List UInt8 := dkwX0_ruleOf_0 ++ dktX0_ruleOf_1
theorem dksX0_ruleOf_0 : cX0_ruleOf.data.toList.drop 0 = dktX0_ruleOf_0 := by decide +kernel
theorem dksX0_ruleOf_1 : cX0_ruleOf.data.toList.drop 23 = dktX0_ruleOf_1 := dk_seg dksX0_ruleOf_0 23 rfl rfl
theorem dksX0_ruleOf_2 : cX0_ruleOf.data.toList.drop 47 = dktX0_ruleOf_2 := dk_seg dksX0_ruleOf_1 24 rfl rfl
theorem dX0_ruleOf_0 : decode cX0_ruleOf 0 = .ok (.iload_n 2, 1) := dk_28 (dk_at dksX0_ruleOf_0 0 rfl rfl)
theorem dX0_ruleOf_1 : decode cX0_ruleOf 1 = .ok (.istore_n 3, 1) := dk_62 (dk_at dksX0_ruleOf_0 1 rfl rfl)
theorem dX0_ruleOf_2 : decode cX0_ruleOf 2 = .ok (.iconst 0, 1) := dk_3 (dk_at dksX0_ruleOf_0 2 rfl rfl)
theorem dX0_ruleOf_3 : decode cX0_ruleOf 3 = .ok (.istore 4, 2) := dk_54 4 (dk_at dksX0_ruleOf_0 3 rfl rfl)
theorem dX0_ruleOf_5 : decode cX0_ruleOf 5 = .ok (.iload 4, 2) := dk_21 4 (dk_at dksX0_ruleOf_0 5 rfl rfl)
theorem dX0_ruleOf_7 : decode cX0_ruleOf 7 = .ok (.aload_n 0, 1) := dk_42 (dk_at dksX0_ruleOf_0 7 rfl rfl)
theorem dX0_ruleOf_8 : decode cX0_ruleOf 8 = .ok (.getfield 199, 3) := dk_180 0 199 (dk_at dksX0_ruleOf_0 8 rfl rfl)
theorem dX0_ruleOf_11 : decode cX0_ruleOf 11 = .ok (.getfield 203, 3) := dk_180 0 203 (dk_at dksX0_ruleOf_0 11 rfl rfl)
theorem dX0_ruleOf_14 : decode cX0_ruleOf 14 = .ok (.if_icmp .ge 45, 3) := dk_162 0 45 (dk_at dksX0_ruleOf_0 14 rfl rfl)
theorem dX0_ruleOf_17 : decode cX0_ruleOf 17 = .ok (.aload_n 0, 1) := dk_42 (dk_at dksX0_ruleOf_0 17 rfl rfl)
theorem dX0_ruleOf_18 : decode cX0_ruleOf 18 = .ok (.iload 4, 2) := dk_21 4 (dk_at dksX0_ruleOf_0 18 rfl rfl)
theorem dX0_ruleOf_20 : decode cX0_ruleOf 20 = .ok (.invokevirtual 351, 3) := dk_182 1 95 (dk_at dksX0_ruleOf_0 20 rfl rfl)
theorem dX0_ruleOf_23 : decode cX0_ruleOf 23 = .ok (.ifCond .eq 30, 3) := dk_153 0 30 (dk_at dksX0_ruleOf_1 0 rfl rfl)
theorem dX0_ruleOf_26 : decode cX0_ruleOf 26 = .ok (.aload_n 0, 1) := dk_42 (dk_at dksX0_ruleOf_1 3 rfl rfl)
theorem dX0_ruleOf_27 : decode cX0_ruleOf 27 = .ok (.getfield 199, 3) := dk_180 0 199 (dk_at dksX0_ruleOf_1 4 rfl rfl)
theorem dX0_ruleOf_30 : decode cX0_ruleOf 30 = .ok (.getfield 305, 3) := dk_180 1 49 (dk_at dksX0_ruleOf_1 7 rfl rfl)
theorem dX0_ruleOf_33 : decode cX0_ruleOf 33 = .ok (.iload 4, 2) := dk_21 4 (dk_at dksX0_ruleOf_1 10 rfl rfl)
theorem dX0_ruleOf_35 : decode cX0_ruleOf 35 = .ok (.iaload, 1) := dk_46 (dk_at dksX0_ruleOf_1 12 rfl rfl)
theorem dX0_ruleOf_36 : decode cX0_ruleOf 36 = .ok (.iload_n 1, 1) := dk_27 (dk_at dksX0_ruleOf_1 13 rfl rfl)
theorem dX0_ruleOf_37 : decode cX0_ruleOf 37 = .ok (.if_icmp .eq 6, 3) := dk_159 0 6 (dk_at dksX0_ruleOf_1 14 rfl rfl)
theorem dX0_ruleOf_40 : decode cX0_ruleOf 40 = .ok (.goto 13, 3) := dk_167 0 13 (dk_at dksX0_ruleOf_1 17 rfl rfl)
theorem dX0_ruleOf_43 : decode cX0_ruleOf 43 = .ok (.iload_n 3, 1) := dk_29 (dk_at dksX0_ruleOf_1 20 rfl rfl)
theorem dX0_ruleOf_44 : decode cX0_ruleOf 44 = .ok (.ifCond .ne 6, 3) := dk_154 0 6 (dk_at dksX0_ruleOf_1 21 rfl rfl)
theorem dX0_ruleOf_47 : decode cX0_ruleOf 47 = .ok (.iload 4, 2) := dk_21 4 (dk_at dksX0_ruleOf_2 0 rfl rfl)
theorem dX0_ruleOf_49 : decode cX0_ruleOf 49 = .ok (.ireturn, 1) := dk_172 (dk_at dksX0_ruleOf_2 2 rfl rfl)
theorem dX0_ruleOf_50 : decode cX0_ruleOf 50 = .ok (.iinc 3 (-1), 3) := dk_132 3 255 (dk_at dksX0_ruleOf_2 3 rfl rfl)
theorem dX0_ruleOf_53 : decode cX0_ruleOf 53 = .ok (.iinc 4 1, 3) := dk_132 4 1 (dk_at dksX0_ruleOf_2 6 rfl rfl)
theorem dX0_ruleOf_56 : decode cX0_ruleOf 56 = .ok (.goto (-51), 3) := dk_167 255 205 (dk_at dksX0_ruleOf_2 9 rfl rfl)
theorem dX0_ruleOf_59 : decode cX0_ruleOf 59 = .ok (.iconst (-1), 1) := dk_2 (dk_at dksX0_ruleOf_2 12 rfl rfl)
theorem dX0_ruleOf_60 : decode cX0_ruleOf 60 = .ok (.ireturn, 1) := dk_172 (dk_at dksX0_ruleOf_2 13 rfl rfl)
abbrev cX0_puts : ByteArray := prog_1_method_132_code
def yX0_puts : MethodName := ⟨RX0, "puts", "(II)Z"⟩
def dkwX0_puts_4 : List UInt8 := [132, 4, 1, 167, 255, 220, 42, 29, 181, 2, 162, 4, 172]
abbrev dktX0_puts_4 : List UInt8 := dkwX0_puts_4 ++ []
def dkwX0_puts_3 : List UInt8 := [162, 0, 28, 42, 180, 0, 182, 27, 21, 4, 96, 42, 180, 0, 199, 28, 21, 4, 182, 1, 52, 79]
abbrev dktX0_puts_3 : List UInt8 := dkwX0_puts_3 ++ dktX0_puts_4
def dkwX0_puts_2 : List UInt8 := [180, 2, 162, 27, 100, 4, 100, 184, 1, 171, 3, 54, 4, 21, 4, 42, 180, 0, 199, 180, 0, 232, 28, 46]
abbrev dktX0_puts_2 : List UInt8 := dkwX0_puts_2 ++ dktX0_puts_3
def dkwX0_puts_1 : List UInt8 := [172, 42, 180, 0, 182, 27, 4, 96, 42, 180, 0, 182, 27, 42, 180, 0, 199, 180, 0, 232, 28, 46, 96, 42]
abbrev dktX0_puts_1 : List UInt8 := dkwX0_puts_1 ++ dktX0_puts_2
def dkwX0_puts_0 : List UInt8 := [42, 180, 2, 162, 4, 100, 42, 180, 0, 199, 180, 0, 232, 28, 46, 96, 62, 29, 16, 24, 164, 0, 5, 3]
abbrev dktX0_puts_0 : List UInt8 := dkwX0_puts_0 ++ dktX0_puts_1
theorem dksX0_puts_0 : cX0_puts.data.toList.drop 0 = dktX0_puts_0 := by decide +kernel
theorem dksX0_puts_1 : cX0_puts.data.toList.drop 24 = dktX0_puts_1 := dk_seg dksX0_puts_0 24 rfl rfl
theorem dksX0_puts_2 : cX0_puts.data.toList.drop 48 = dktX0_puts_2 := dk_seg dksX0_puts_1 24 rfl rfl
theorem dksX0_puts_3 : cX0_puts.data.toList.drop 72 = dktX0_puts_3 := dk_seg dksX0_puts_2 24 rfl rfl
theorem dksX0_puts_4 : cX0_puts.data.toList.drop 94 = dktX0_puts_4 := dk_seg dksX0_puts_3 22 rfl rfl
theorem dX0_puts_0 : decode cX0_puts 0 = .ok (.aload_n 0, 1) := dk_42 (dk_at dksX0_puts_0 0 rfl rfl)
theorem dX0_puts_1 : decode cX0_puts 1 = .ok (.getfield 674, 3) := dk_180 2 162 (dk_at dksX0_puts_0 1 rfl rfl)
theorem dX0_puts_4 : decode cX0_puts 4 = .ok (.iconst 1, 1) := dk_4 (dk_at dksX0_puts_0 4 rfl rfl)
theorem dX0_puts_5 : decode cX0_puts 5 = .ok (.isub, 1) := dk_100 (dk_at dksX0_puts_0 5 rfl rfl)
theorem dX0_puts_6 : decode cX0_puts 6 = .ok (.aload_n 0, 1) := dk_42 (dk_at dksX0_puts_0 6 rfl rfl)
theorem dX0_puts_7 : decode cX0_puts 7 = .ok (.getfield 199, 3) := dk_180 0 199 (dk_at dksX0_puts_0 7 rfl rfl)
theorem dX0_puts_10 : decode cX0_puts 10 = .ok (.getfield 232, 3) := dk_180 0 232 (dk_at dksX0_puts_0 10 rfl rfl)
theorem dX0_puts_13 : decode cX0_puts 13 = .ok (.iload_n 2, 1) := dk_28 (dk_at dksX0_puts_0 13 rfl rfl)
theorem dX0_puts_14 : decode cX0_puts 14 = .ok (.iaload, 1) := dk_46 (dk_at dksX0_puts_0 14 rfl rfl)
theorem dX0_puts_15 : decode cX0_puts 15 = .ok (.iadd, 1) := dk_96 (dk_at dksX0_puts_0 15 rfl rfl)
theorem dX0_puts_16 : decode cX0_puts 16 = .ok (.istore_n 3, 1) := dk_62 (dk_at dksX0_puts_0 16 rfl rfl)
theorem dX0_puts_17 : decode cX0_puts 17 = .ok (.iload_n 3, 1) := dk_29 (dk_at dksX0_puts_0 17 rfl rfl)
theorem dX0_puts_18 : decode cX0_puts 18 = .ok (.bipush 24, 2) := dk_16 24 (dk_at dksX0_puts_0 18 rfl rfl)
theorem dX0_puts_20 : decode cX0_puts 20 = .ok (.if_icmp .le 5, 3) := dk_164 0 5 (dk_at dksX0_puts_0 20 rfl rfl)
theorem dX0_puts_23 : decode cX0_puts 23 = .ok (.iconst 0, 1) := dk_3 (dk_at dksX0_puts_0 23 rfl rfl)
theorem dX0_puts_24 : decode cX0_puts 24 = .ok (.ireturn, 1) := dk_172 (dk_at dksX0_puts_1 0 rfl rfl)
theorem dX0_puts_25 : decode cX0_puts 25 = .ok (.aload_n 0, 1) := dk_42 (dk_at dksX0_puts_1 1 rfl rfl)
theorem dX0_puts_26 : decode cX0_puts 26 = .ok (.getfield 182, 3) := dk_180 0 182 (dk_at dksX0_puts_1 2 rfl rfl)
theorem dX0_puts_29 : decode cX0_puts 29 = .ok (.iload_n 1, 1) := dk_27 (dk_at dksX0_puts_1 5 rfl rfl)
theorem dX0_puts_30 : decode cX0_puts 30 = .ok (.iconst 1, 1) := dk_4 (dk_at dksX0_puts_1 6 rfl rfl)
theorem dX0_puts_31 : decode cX0_puts 31 = .ok (.iadd, 1) := dk_96 (dk_at dksX0_puts_1 7 rfl rfl)
theorem dX0_puts_32 : decode cX0_puts 32 = .ok (.aload_n 0, 1) := dk_42 (dk_at dksX0_puts_1 8 rfl rfl)
theorem dX0_puts_33 : decode cX0_puts 33 = .ok (.getfield 182, 3) := dk_180 0 182 (dk_at dksX0_puts_1 9 rfl rfl)
theorem dX0_puts_36 : decode cX0_puts 36 = .ok (.iload_n 1, 1) := dk_27 (dk_at dksX0_puts_1 12 rfl rfl)
theorem dX0_puts_37 : decode cX0_puts 37 = .ok (.aload_n 0, 1) := dk_42 (dk_at dksX0_puts_1 13 rfl rfl)
theorem dX0_puts_38 : decode cX0_puts 38 = .ok (.getfield 199, 3) := dk_180 0 199 (dk_at dksX0_puts_1 14 rfl rfl)
theorem dX0_puts_41 : decode cX0_puts 41 = .ok (.getfield 232, 3) := dk_180 0 232 (dk_at dksX0_puts_1 17 rfl rfl)
theorem dX0_puts_44 : decode cX0_puts 44 = .ok (.iload_n 2, 1) := dk_28 (dk_at dksX0_puts_1 20 rfl rfl)
theorem dX0_puts_45 : decode cX0_puts 45 = .ok (.iaload, 1) := dk_46 (dk_at dksX0_puts_1 21 rfl rfl)
theorem dX0_puts_46 : decode cX0_puts 46 = .ok (.iadd, 1) := dk_96 (dk_at dksX0_puts_1 22 rfl rfl)
theorem dX0_puts_47 : decode cX0_puts 47 = .ok (.aload_n 0, 1) := dk_42 (dk_at dksX0_puts_1 23 rfl rfl)
theorem dX0_puts_48 : decode cX0_puts 48 = .ok (.getfield 674, 3) := dk_180 2 162 (dk_at dksX0_puts_2 0 rfl rfl)
theorem dX0_puts_51 : decode cX0_puts 51 = .ok (.iload_n 1, 1) := dk_27 (dk_at dksX0_puts_2 3 rfl rfl)
theorem dX0_puts_52 : decode cX0_puts 52 = .ok (.isub, 1) := dk_100 (dk_at dksX0_puts_2 4 rfl rfl)
theorem dX0_puts_53 : decode cX0_puts 53 = .ok (.iconst 1, 1) := dk_4 (dk_at dksX0_puts_2 5 rfl rfl)
theorem dX0_puts_54 : decode cX0_puts 54 = .ok (.isub, 1) := dk_100 (dk_at dksX0_puts_2 6 rfl rfl)
theorem dX0_puts_55 : decode cX0_puts 55 = .ok (.invokestatic 427, 3) := dk_184 1 171 (dk_at dksX0_puts_2 7 rfl rfl)
theorem dX0_puts_58 : decode cX0_puts 58 = .ok (.iconst 0, 1) := dk_3 (dk_at dksX0_puts_2 10 rfl rfl)
theorem dX0_puts_59 : decode cX0_puts 59 = .ok (.istore 4, 2) := dk_54 4 (dk_at dksX0_puts_2 11 rfl rfl)
theorem dX0_puts_61 : decode cX0_puts 61 = .ok (.iload 4, 2) := dk_21 4 (dk_at dksX0_puts_2 13 rfl rfl)
theorem dX0_puts_63 : decode cX0_puts 63 = .ok (.aload_n 0, 1) := dk_42 (dk_at dksX0_puts_2 15 rfl rfl)
theorem dX0_puts_64 : decode cX0_puts 64 = .ok (.getfield 199, 3) := dk_180 0 199 (dk_at dksX0_puts_2 16 rfl rfl)
theorem dX0_puts_67 : decode cX0_puts 67 = .ok (.getfield 232, 3) := dk_180 0 232 (dk_at dksX0_puts_2 19 rfl rfl)
theorem dX0_puts_70 : decode cX0_puts 70 = .ok (.iload_n 2, 1) := dk_28 (dk_at dksX0_puts_2 22 rfl rfl)
theorem dX0_puts_71 : decode cX0_puts 71 = .ok (.iaload, 1) := dk_46 (dk_at dksX0_puts_2 23 rfl rfl)
theorem dX0_puts_72 : decode cX0_puts 72 = .ok (.if_icmp .ge 28, 3) := dk_162 0 28 (dk_at dksX0_puts_3 0 rfl rfl)
theorem dX0_puts_75 : decode cX0_puts 75 = .ok (.aload_n 0, 1) := dk_42 (dk_at dksX0_puts_3 3 rfl rfl)
theorem dX0_puts_76 : decode cX0_puts 76 = .ok (.getfield 182, 3) := dk_180 0 182 (dk_at dksX0_puts_3 4 rfl rfl)
theorem dX0_puts_79 : decode cX0_puts 79 = .ok (.iload_n 1, 1) := dk_27 (dk_at dksX0_puts_3 7 rfl rfl)
theorem dX0_puts_80 : decode cX0_puts 80 = .ok (.iload 4, 2) := dk_21 4 (dk_at dksX0_puts_3 8 rfl rfl)
theorem dX0_puts_82 : decode cX0_puts 82 = .ok (.iadd, 1) := dk_96 (dk_at dksX0_puts_3 10 rfl rfl)
theorem dX0_puts_83 : decode cX0_puts 83 = .ok (.aload_n 0, 1) := dk_42 (dk_at dksX0_puts_3 11 rfl rfl)
theorem dX0_puts_84 : decode cX0_puts 84 = .ok (.getfield 199, 3) := dk_180 0 199 (dk_at dksX0_puts_3 12 rfl rfl)
theorem dX0_puts_87 : decode cX0_puts 87 = .ok (.iload_n 2, 1) := dk_28 (dk_at dksX0_puts_3 15 rfl rfl)
theorem dX0_puts_88 : decode cX0_puts 88 = .ok (.iload 4, 2) := dk_21 4 (dk_at dksX0_puts_3 16 rfl rfl)
theorem dX0_puts_90 : decode cX0_puts 90 = .ok (.invokevirtual 308, 3) := dk_182 1 52 (dk_at dksX0_puts_3 18 rfl rfl)
theorem dX0_puts_93 : decode cX0_puts 93 = .ok (.iastore, 1) := dk_79 (dk_at dksX0_puts_3 21 rfl rfl)
theorem dX0_puts_94 : decode cX0_puts 94 = .ok (.iinc 4 1, 3) := dk_132 4 1 (dk_at dksX0_puts_4 0 rfl rfl)
theorem dX0_puts_97 : decode cX0_puts 97 = .ok (.goto (-36), 3) := dk_167 255 220 (dk_at dksX0_puts_4 3 rfl rfl)
theorem dX0_puts_100 : decode cX0_puts 100 = .ok (.aload_n 0, 1) := dk_42 (dk_at dksX0_puts_4 6 rfl rfl)
theorem dX0_puts_101 : decode cX0_puts 101 = .ok (.iload_n 3, 1) := dk_29 (dk_at dksX0_puts_4 7 rfl rfl)
theorem dX0_puts_102 : decode cX0_puts 102 = .ok (.putfield 674, 3) := dk_181 2 162 (dk_at dksX0_puts_4 8 rfl rfl)
theorem dX0_puts_105 : decode cX0_puts 105 = .ok (.iconst 1, 1) := dk_4 (dk_at dksX0_puts_4 11 rfl rfl)
theorem dX0_puts_106 : decode cX0_puts 106 = .ok (.ireturn, 1) := dk_172 (dk_at dksX0_puts_4 12 rfl rfl)
abbrev cX0_count : ByteArray := prog_1_method_135_code
def yX0_count : MethodName := ⟨RX0, "count", "(I)I"⟩
def dkwX0_count_5 : List UInt8 := [180, 0, 251, 172, 2, 172]
abbrev dktX0_count_5 : List UInt8 := dkwX0_count_5 ++ []
def dkwX0_count_4 : List UInt8 := [172, 42, 180, 0, 235, 172, 42, 180, 0, 23, 172, 42, 180, 1, 32, 172, 42, 180, 2, 149, 172, 42]
abbrev dktX0_count_4 : List UInt8 := dkwX0_count_4 ++ dktX0_count_5
def dkwX0_count_3 : List UInt8 := [199, 0, 7, 2, 167, 0, 10, 42, 180, 0, 199, 180, 1, 102, 172, 42, 180, 1, 29, 172, 42, 180, 0, 208]
abbrev dktX0_count_3 : List UInt8 := dkwX0_count_3 ++ dktX0_count_4
def dkwX0_count_2 : List UInt8 := [42, 180, 0, 199, 199, 0, 7, 3, 167, 0, 10, 42, 180, 0, 199, 180, 0, 203, 172, 42, 180, 0, 199]
abbrev dktX0_count_2 : List UInt8 := dkwX0_count_2 ++ dktX0_count_3
def dkwX0_count_1 : List UInt8 := [170, 0, 0, 0, 0, 0, 124, 0, 0, 0, 0, 0, 0, 0, 8, 0, 0, 0, 51, 0, 0, 0, 70, 0, 0, 0, 89, 0, 0, 0, 94, 0, 0, 0, 99, 0, 0, 0, 104, 0, 0, 0, 109, 0, 0, 0, 114, 0, 0, 0, 119]
abbrev dktX0_count_1 : List UInt8 := dkwX0_count_1 ++ dktX0_count_2
def dkwX0_count_0 : List UInt8 := [27]
abbrev dktX0_count_0 : List UInt8 := dkwX0_count_0 ++ dktX0_count_1
theorem dksX0_count_0 : cX0_count.data.toList.drop 0 = dktX0_count_0 := by decide +kernel
theorem dksX0_count_1 : cX0_count.data.toList.drop 1 = dktX0_count_1 := dk_seg dksX0_count_0 1 rfl rfl
theorem dksX0_count_2 : cX0_count.data.toList.drop 52 = dktX0_count_2 := dk_seg dksX0_count_1 51 rfl rfl
theorem dksX0_count_3 : cX0_count.data.toList.drop 75 = dktX0_count_3 := dk_seg dksX0_count_2 23 rfl rfl
theorem dksX0_count_4 : cX0_count.data.toList.drop 99 = dktX0_count_4 := dk_seg dksX0_count_3 24 rfl rfl
theorem dksX0_count_5 : cX0_count.data.toList.drop 121 = dktX0_count_5 := dk_seg dksX0_count_4 22 rfl rfl
theorem dX0_count_0 : decode cX0_count 0 = .ok (.iload_n 1, 1) := dk_27 (dk_at dksX0_count_0 0 rfl rfl)
theorem dX0_count_1 : decode cX0_count 1 = .ok (.tableswitch 124 0 8 #[51, 70, 89, 94, 99, 104, 109, 114, 119], 51) := by decide +kernel
theorem dX0_count_52 : decode cX0_count 52 = .ok (.aload_n 0, 1) := dk_42 (dk_at dksX0_count_2 0 rfl rfl)
theorem dX0_count_53 : decode cX0_count 53 = .ok (.getfield 199, 3) := dk_180 0 199 (dk_at dksX0_count_2 1 rfl rfl)
theorem dX0_count_56 : decode cX0_count 56 = .ok (.ifnonnull 7, 3) := dk_199 0 7 (dk_at dksX0_count_2 4 rfl rfl)
theorem dX0_count_59 : decode cX0_count 59 = .ok (.iconst 0, 1) := dk_3 (dk_at dksX0_count_2 7 rfl rfl)
theorem dX0_count_60 : decode cX0_count 60 = .ok (.goto 10, 3) := dk_167 0 10 (dk_at dksX0_count_2 8 rfl rfl)
theorem dX0_count_63 : decode cX0_count 63 = .ok (.aload_n 0, 1) := dk_42 (dk_at dksX0_count_2 11 rfl rfl)
theorem dX0_count_64 : decode cX0_count 64 = .ok (.getfield 199, 3) := dk_180 0 199 (dk_at dksX0_count_2 12 rfl rfl)
theorem dX0_count_67 : decode cX0_count 67 = .ok (.getfield 203, 3) := dk_180 0 203 (dk_at dksX0_count_2 15 rfl rfl)
theorem dX0_count_70 : decode cX0_count 70 = .ok (.ireturn, 1) := dk_172 (dk_at dksX0_count_2 18 rfl rfl)
theorem dX0_count_71 : decode cX0_count 71 = .ok (.aload_n 0, 1) := dk_42 (dk_at dksX0_count_2 19 rfl rfl)
theorem dX0_count_72 : decode cX0_count 72 = .ok (.getfield 199, 3) := dk_180 0 199 (dk_at dksX0_count_2 20 rfl rfl)
theorem dX0_count_75 : decode cX0_count 75 = .ok (.ifnonnull 7, 3) := dk_199 0 7 (dk_at dksX0_count_3 0 rfl rfl)
theorem dX0_count_78 : decode cX0_count 78 = .ok (.iconst (-1), 1) := dk_2 (dk_at dksX0_count_3 3 rfl rfl)
theorem dX0_count_79 : decode cX0_count 79 = .ok (.goto 10, 3) := dk_167 0 10 (dk_at dksX0_count_3 4 rfl rfl)
theorem dX0_count_82 : decode cX0_count 82 = .ok (.aload_n 0, 1) := dk_42 (dk_at dksX0_count_3 7 rfl rfl)
theorem dX0_count_83 : decode cX0_count 83 = .ok (.getfield 199, 3) := dk_180 0 199 (dk_at dksX0_count_3 8 rfl rfl)
theorem dX0_count_86 : decode cX0_count 86 = .ok (.getfield 358, 3) := dk_180 1 102 (dk_at dksX0_count_3 11 rfl rfl)
theorem dX0_count_89 : decode cX0_count 89 = .ok (.ireturn, 1) := dk_172 (dk_at dksX0_count_3 14 rfl rfl)
theorem dX0_count_90 : decode cX0_count 90 = .ok (.aload_n 0, 1) := dk_42 (dk_at dksX0_count_3 15 rfl rfl)
theorem dX0_count_91 : decode cX0_count 91 = .ok (.getfield 285, 3) := dk_180 1 29 (dk_at dksX0_count_3 16 rfl rfl)
theorem dX0_count_94 : decode cX0_count 94 = .ok (.ireturn, 1) := dk_172 (dk_at dksX0_count_3 19 rfl rfl)
theorem dX0_count_95 : decode cX0_count 95 = .ok (.aload_n 0, 1) := dk_42 (dk_at dksX0_count_3 20 rfl rfl)
theorem dX0_count_96 : decode cX0_count 96 = .ok (.getfield 208, 3) := dk_180 0 208 (dk_at dksX0_count_3 21 rfl rfl)
theorem dX0_count_99 : decode cX0_count 99 = .ok (.ireturn, 1) := dk_172 (dk_at dksX0_count_4 0 rfl rfl)
theorem dX0_count_100 : decode cX0_count 100 = .ok (.aload_n 0, 1) := dk_42 (dk_at dksX0_count_4 1 rfl rfl)
theorem dX0_count_101 : decode cX0_count 101 = .ok (.getfield 235, 3) := dk_180 0 235 (dk_at dksX0_count_4 2 rfl rfl)
theorem dX0_count_104 : decode cX0_count 104 = .ok (.ireturn, 1) := dk_172 (dk_at dksX0_count_4 5 rfl rfl)
theorem dX0_count_105 : decode cX0_count 105 = .ok (.aload_n 0, 1) := dk_42 (dk_at dksX0_count_4 6 rfl rfl)
theorem dX0_count_106 : decode cX0_count 106 = .ok (.getfield 23, 3) := dk_180 0 23 (dk_at dksX0_count_4 7 rfl rfl)
theorem dX0_count_109 : decode cX0_count 109 = .ok (.ireturn, 1) := dk_172 (dk_at dksX0_count_4 10 rfl rfl)
theorem dX0_count_110 : decode cX0_count 110 = .ok (.aload_n 0, 1) := dk_42 (dk_at dksX0_count_4 11 rfl rfl)
theorem dX0_count_111 : decode cX0_count 111 = .ok (.getfield 288, 3) := dk_180 1 32 (dk_at dksX0_count_4 12 rfl rfl)
theorem dX0_count_114 : decode cX0_count 114 = .ok (.ireturn, 1) := dk_172 (dk_at dksX0_count_4 15 rfl rfl)
theorem dX0_count_115 : decode cX0_count 115 = .ok (.aload_n 0, 1) := dk_42 (dk_at dksX0_count_4 16 rfl rfl)
theorem dX0_count_116 : decode cX0_count 116 = .ok (.getfield 661, 3) := dk_180 2 149 (dk_at dksX0_count_4 17 rfl rfl)
theorem dX0_count_119 : decode cX0_count 119 = .ok (.ireturn, 1) := dk_172 (dk_at dksX0_count_4 20 rfl rfl)
theorem dX0_count_120 : decode cX0_count 120 = .ok (.aload_n 0, 1) := dk_42 (dk_at dksX0_count_4 21 rfl rfl)
theorem dX0_count_121 : decode cX0_count 121 = .ok (.getfield 251, 3) := dk_180 0 251 (dk_at dksX0_count_5 0 rfl rfl)
theorem dX0_count_124 : decode cX0_count 124 = .ok (.ireturn, 1) := dk_172 (dk_at dksX0_count_5 3 rfl rfl)
theorem dX0_count_125 : decode cX0_count 125 = .ok (.iconst (-1), 1) := dk_2 (dk_at dksX0_count_5 4 rfl rfl)
theorem dX0_count_126 : decode cX0_count 126 = .ok (.ireturn, 1) := dk_172 (dk_at dksX0_count_5 5 rfl rfl)
abbrev cX0_image : ByteArray := prog_1_method_136_code
def yX0_image : MethodName := ⟨RX0, "image", "(I)I"⟩
def dkwX0_image_5 : List UInt8 := [180, 0, 187, 27, 44, 83, 42, 180, 1, 29, 172]
abbrev dktX0_image_5 : List UInt8 := dkwX0_image_5 ++ []
def dkwX0_image_4 : List UInt8 := [192, 2, 196, 181, 2, 197, 44, 42, 180, 1, 32, 181, 2, 198, 44, 42, 180, 2, 149, 181, 2, 199, 42]
abbrev dktX0_image_4 : List UInt8 := dkwX0_image_4 ++ dktX0_image_5
def dkwX0_image_3 : List UInt8 := [180, 0, 27, 181, 2, 193, 44, 42, 180, 0, 235, 181, 2, 194, 44, 42, 180, 0, 32, 182, 2, 195]
abbrev dktX0_image_3 : List UInt8 := dkwX0_image_3 ++ dktX0_image_4
def dkwX0_image_2 : List UInt8 := [192, 1, 230, 181, 2, 190, 44, 42, 180, 1, 29, 181, 2, 191, 44, 42, 180, 0, 23, 181, 2, 192, 44, 42]
abbrev dktX0_image_2 : List UInt8 := dkwX0_image_2 ++ dktX0_image_3
def dkwX0_image_1 : List UInt8 := [180, 0, 199, 181, 2, 188, 44, 42, 180, 0, 208, 181, 2, 189, 44, 42, 180, 0, 19, 182, 1, 229]
abbrev dktX0_image_1 : List UInt8 := dkwX0_image_1 ++ dktX0_image_2
def dkwX0_image_0 : List UInt8 := [27, 133, 9, 20, 2, 116, 184, 0, 219, 154, 0, 5, 2, 172, 187, 0, 185, 89, 183, 2, 187, 77, 44, 42]
abbrev dktX0_image_0 : List UInt8 := dkwX0_image_0 ++ dktX0_image_1
theorem dksX0_image_0 : cX0_image.data.toList.drop 0 = dktX0_image_0 := by decide +kernel
theorem dksX0_image_1 : cX0_image.data.toList.drop 24 = dktX0_image_1 := dk_seg dksX0_image_0 24 rfl rfl
theorem dksX0_image_2 : cX0_image.data.toList.drop 46 = dktX0_image_2 := dk_seg dksX0_image_1 22 rfl rfl
theorem dksX0_image_3 : cX0_image.data.toList.drop 70 = dktX0_image_3 := dk_seg dksX0_image_2 24 rfl rfl
theorem dksX0_image_4 : cX0_image.data.toList.drop 92 = dktX0_image_4 := dk_seg dksX0_image_3 22 rfl rfl
theorem dksX0_image_5 : cX0_image.data.toList.drop 115 = dktX0_image_5 := dk_seg dksX0_image_4 23 rfl rfl
theorem dX0_image_0 : decode cX0_image 0 = .ok (.iload_n 1, 1) := dk_27 (dk_at dksX0_image_0 0 rfl rfl)
theorem dX0_image_1 : decode cX0_image 1 = .ok (.i2l, 1) := dk_133 (dk_at dksX0_image_0 1 rfl rfl)
theorem dX0_image_2 : decode cX0_image 2 = .ok (.lconst 0, 1) := dk_9 (dk_at dksX0_image_0 2 rfl rfl)
theorem dX0_image_3 : decode cX0_image 3 = .ok (.ldc2_w 628, 3) := dk_20 2 116 (dk_at dksX0_image_0 3 rfl rfl)
theorem dX0_image_6 : decode cX0_image 6 = .ok (.invokestatic 219, 3) := dk_184 0 219 (dk_at dksX0_image_0 6 rfl rfl)
theorem dX0_image_9 : decode cX0_image 9 = .ok (.ifCond .ne 5, 3) := dk_154 0 5 (dk_at dksX0_image_0 9 rfl rfl)
theorem dX0_image_12 : decode cX0_image 12 = .ok (.iconst (-1), 1) := dk_2 (dk_at dksX0_image_0 12 rfl rfl)
theorem dX0_image_13 : decode cX0_image 13 = .ok (.ireturn, 1) := dk_172 (dk_at dksX0_image_0 13 rfl rfl)
theorem dX0_image_14 : decode cX0_image 14 = .ok (.new 185, 3) := dk_187 0 185 (dk_at dksX0_image_0 14 rfl rfl)
theorem dX0_image_17 : decode cX0_image 17 = .ok (.dup, 1) := dk_89 (dk_at dksX0_image_0 17 rfl rfl)
theorem dX0_image_18 : decode cX0_image 18 = .ok (.invokespecial 699, 3) := dk_183 2 187 (dk_at dksX0_image_0 18 rfl rfl)
theorem dX0_image_21 : decode cX0_image 21 = .ok (.astore_n 2, 1) := dk_77 (dk_at dksX0_image_0 21 rfl rfl)
theorem dX0_image_22 : decode cX0_image 22 = .ok (.aload_n 2, 1) := dk_44 (dk_at dksX0_image_0 22 rfl rfl)
theorem dX0_image_23 : decode cX0_image 23 = .ok (.aload_n 0, 1) := dk_42 (dk_at dksX0_image_0 23 rfl rfl)
theorem dX0_image_24 : decode cX0_image 24 = .ok (.getfield 199, 3) := dk_180 0 199 (dk_at dksX0_image_1 0 rfl rfl)
theorem dX0_image_27 : decode cX0_image 27 = .ok (.putfield 700, 3) := dk_181 2 188 (dk_at dksX0_image_1 3 rfl rfl)
theorem dX0_image_30 : decode cX0_image 30 = .ok (.aload_n 2, 1) := dk_44 (dk_at dksX0_image_1 6 rfl rfl)
theorem dX0_image_31 : decode cX0_image 31 = .ok (.aload_n 0, 1) := dk_42 (dk_at dksX0_image_1 7 rfl rfl)
theorem dX0_image_32 : decode cX0_image 32 = .ok (.getfield 208, 3) := dk_180 0 208 (dk_at dksX0_image_1 8 rfl rfl)
theorem dX0_image_35 : decode cX0_image 35 = .ok (.putfield 701, 3) := dk_181 2 189 (dk_at dksX0_image_1 11 rfl rfl)
theorem dX0_image_38 : decode cX0_image 38 = .ok (.aload_n 2, 1) := dk_44 (dk_at dksX0_image_1 14 rfl rfl)
theorem dX0_image_39 : decode cX0_image 39 = .ok (.aload_n 0, 1) := dk_42 (dk_at dksX0_image_1 15 rfl rfl)
theorem dX0_image_40 : decode cX0_image 40 = .ok (.getfield 19, 3) := dk_180 0 19 (dk_at dksX0_image_1 16 rfl rfl)
theorem dX0_image_43 : decode cX0_image 43 = .ok (.invokevirtual 485, 3) := dk_182 1 229 (dk_at dksX0_image_1 19 rfl rfl)
theorem dX0_image_46 : decode cX0_image 46 = .ok (.checkcast 486, 3) := dk_192 1 230 (dk_at dksX0_image_2 0 rfl rfl)
theorem dX0_image_49 : decode cX0_image 49 = .ok (.putfield 702, 3) := dk_181 2 190 (dk_at dksX0_image_2 3 rfl rfl)
theorem dX0_image_52 : decode cX0_image 52 = .ok (.aload_n 2, 1) := dk_44 (dk_at dksX0_image_2 6 rfl rfl)
theorem dX0_image_53 : decode cX0_image 53 = .ok (.aload_n 0, 1) := dk_42 (dk_at dksX0_image_2 7 rfl rfl)
theorem dX0_image_54 : decode cX0_image 54 = .ok (.getfield 285, 3) := dk_180 1 29 (dk_at dksX0_image_2 8 rfl rfl)
theorem dX0_image_57 : decode cX0_image 57 = .ok (.putfield 703, 3) := dk_181 2 191 (dk_at dksX0_image_2 11 rfl rfl)
theorem dX0_image_60 : decode cX0_image 60 = .ok (.aload_n 2, 1) := dk_44 (dk_at dksX0_image_2 14 rfl rfl)
theorem dX0_image_61 : decode cX0_image 61 = .ok (.aload_n 0, 1) := dk_42 (dk_at dksX0_image_2 15 rfl rfl)
theorem dX0_image_62 : decode cX0_image 62 = .ok (.getfield 23, 3) := dk_180 0 23 (dk_at dksX0_image_2 16 rfl rfl)
theorem dX0_image_65 : decode cX0_image 65 = .ok (.putfield 704, 3) := dk_181 2 192 (dk_at dksX0_image_2 19 rfl rfl)
theorem dX0_image_68 : decode cX0_image 68 = .ok (.aload_n 2, 1) := dk_44 (dk_at dksX0_image_2 22 rfl rfl)
theorem dX0_image_69 : decode cX0_image 69 = .ok (.aload_n 0, 1) := dk_42 (dk_at dksX0_image_2 23 rfl rfl)
theorem dX0_image_70 : decode cX0_image 70 = .ok (.getfield 27, 3) := dk_180 0 27 (dk_at dksX0_image_3 0 rfl rfl)
theorem dX0_image_73 : decode cX0_image 73 = .ok (.putfield 705, 3) := dk_181 2 193 (dk_at dksX0_image_3 3 rfl rfl)
theorem dX0_image_76 : decode cX0_image 76 = .ok (.aload_n 2, 1) := dk_44 (dk_at dksX0_image_3 6 rfl rfl)
theorem dX0_image_77 : decode cX0_image 77 = .ok (.aload_n 0, 1) := dk_42 (dk_at dksX0_image_3 7 rfl rfl)
theorem dX0_image_78 : decode cX0_image 78 = .ok (.getfield 235, 3) := dk_180 0 235 (dk_at dksX0_image_3 8 rfl rfl)
theorem dX0_image_81 : decode cX0_image 81 = .ok (.putfield 706, 3) := dk_181 2 194 (dk_at dksX0_image_3 11 rfl rfl)
theorem dX0_image_84 : decode cX0_image 84 = .ok (.aload_n 2, 1) := dk_44 (dk_at dksX0_image_3 14 rfl rfl)
theorem dX0_image_85 : decode cX0_image 85 = .ok (.aload_n 0, 1) := dk_42 (dk_at dksX0_image_3 15 rfl rfl)
theorem dX0_image_86 : decode cX0_image 86 = .ok (.getfield 32, 3) := dk_180 0 32 (dk_at dksX0_image_3 16 rfl rfl)
theorem dX0_image_89 : decode cX0_image 89 = .ok (.invokevirtual 707, 3) := dk_182 2 195 (dk_at dksX0_image_3 19 rfl rfl)
theorem dX0_image_92 : decode cX0_image 92 = .ok (.checkcast 708, 3) := dk_192 2 196 (dk_at dksX0_image_4 0 rfl rfl)
theorem dX0_image_95 : decode cX0_image 95 = .ok (.putfield 709, 3) := dk_181 2 197 (dk_at dksX0_image_4 3 rfl rfl)
theorem dX0_image_98 : decode cX0_image 98 = .ok (.aload_n 2, 1) := dk_44 (dk_at dksX0_image_4 6 rfl rfl)
theorem dX0_image_99 : decode cX0_image 99 = .ok (.aload_n 0, 1) := dk_42 (dk_at dksX0_image_4 7 rfl rfl)
theorem dX0_image_100 : decode cX0_image 100 = .ok (.getfield 288, 3) := dk_180 1 32 (dk_at dksX0_image_4 8 rfl rfl)
theorem dX0_image_103 : decode cX0_image 103 = .ok (.putfield 710, 3) := dk_181 2 198 (dk_at dksX0_image_4 11 rfl rfl)
theorem dX0_image_106 : decode cX0_image 106 = .ok (.aload_n 2, 1) := dk_44 (dk_at dksX0_image_4 14 rfl rfl)
theorem dX0_image_107 : decode cX0_image 107 = .ok (.aload_n 0, 1) := dk_42 (dk_at dksX0_image_4 15 rfl rfl)
theorem dX0_image_108 : decode cX0_image 108 = .ok (.getfield 661, 3) := dk_180 2 149 (dk_at dksX0_image_4 16 rfl rfl)
theorem dX0_image_111 : decode cX0_image 111 = .ok (.putfield 711, 3) := dk_181 2 199 (dk_at dksX0_image_4 19 rfl rfl)
theorem dX0_image_114 : decode cX0_image 114 = .ok (.aload_n 0, 1) := dk_42 (dk_at dksX0_image_4 22 rfl rfl)
theorem dX0_image_115 : decode cX0_image 115 = .ok (.getfield 187, 3) := dk_180 0 187 (dk_at dksX0_image_5 0 rfl rfl)
theorem dX0_image_118 : decode cX0_image 118 = .ok (.iload_n 1, 1) := dk_27 (dk_at dksX0_image_5 3 rfl rfl)
theorem dX0_image_119 : decode cX0_image 119 = .ok (.aload_n 2, 1) := dk_44 (dk_at dksX0_image_5 4 rfl rfl)
theorem dX0_image_120 : decode cX0_image 120 = .ok (.aastore, 1) := dk_83 (dk_at dksX0_image_5 5 rfl rfl)
theorem dX0_image_121 : decode cX0_image 121 = .ok (.aload_n 0, 1) := dk_42 (dk_at dksX0_image_5 6 rfl rfl)
theorem dX0_image_122 : decode cX0_image 122 = .ok (.getfield 285, 3) := dk_180 1 29 (dk_at dksX0_image_5 7 rfl rfl)
theorem dX0_image_125 : decode cX0_image 125 = .ok (.ireturn, 1) := dk_172 (dk_at dksX0_image_5 10 rfl rfl)
abbrev cX0_back : ByteArray := prog_1_method_137_code
def yX0_back : MethodName := ⟨RX0, "back", "(I)I"⟩
def dkwX0_back_5 : List UInt8 := [181, 2, 149, 42, 180, 1, 29, 172]
abbrev dktX0_back_5 : List UInt8 := dkwX0_back_5 ++ []
def dkwX0_back_4 : List UInt8 := [182, 2, 195, 192, 2, 196, 181, 0, 32, 42, 44, 180, 2, 198, 181, 1, 32, 42, 44, 180, 2, 199]
abbrev dktX0_back_4 : List UInt8 := dkwX0_back_4 ++ dktX0_back_5
def dkwX0_back_3 : List UInt8 := [181, 0, 23, 42, 44, 180, 2, 193, 181, 0, 27, 42, 44, 180, 2, 194, 181, 0, 235, 42, 44, 180, 2, 197]
abbrev dktX0_back_3 : List UInt8 := dkwX0_back_3 ++ dktX0_back_4
def dkwX0_back_2 : List UInt8 := [182, 1, 229, 192, 1, 230, 181, 0, 19, 42, 44, 180, 2, 191, 181, 1, 29, 42, 44, 180, 2, 192]
abbrev dktX0_back_2 : List UInt8 := dkwX0_back_2 ++ dktX0_back_3
def dkwX0_back_1 : List UInt8 := [180, 0, 187, 27, 50, 77, 42, 44, 180, 2, 188, 44, 180, 2, 189, 182, 1, 25, 87, 42, 44, 180, 2, 190]
abbrev dktX0_back_1 : List UInt8 := dkwX0_back_1 ++ dktX0_back_2
def dkwX0_back_0 : List UInt8 := [27, 133, 9, 20, 2, 116, 184, 0, 219, 153, 0, 12, 42, 180, 0, 187, 27, 50, 199, 0, 5, 2, 172, 42]
abbrev dktX0_back_0 : List UInt8 := dkwX0_back_0 ++ dktX0_back_1
theorem dksX0_back_0 : cX0_back.data.toList.drop 0 = dktX0_back_0 := by decide +kernel
theorem dksX0_back_1 : cX0_back.data.toList.drop 24 = dktX0_back_1 := dk_seg dksX0_back_0 24 rfl rfl
theorem dksX0_back_2 : cX0_back.data.toList.drop 48 = dktX0_back_2 := dk_seg dksX0_back_1 24 rfl rfl
theorem dksX0_back_3 : cX0_back.data.toList.drop 70 = dktX0_back_3 := dk_seg dksX0_back_2 22 rfl rfl
theorem dksX0_back_4 : cX0_back.data.toList.drop 94 = dktX0_back_4 := dk_seg dksX0_back_3 24 rfl rfl
theorem dksX0_back_5 : cX0_back.data.toList.drop 116 = dktX0_back_5 := dk_seg dksX0_back_4 22 rfl rfl
theorem dX0_back_0 : decode cX0_back 0 = .ok (.iload_n 1, 1) := dk_27 (dk_at dksX0_back_0 0 rfl rfl)
theorem dX0_back_1 : decode cX0_back 1 = .ok (.i2l, 1) := dk_133 (dk_at dksX0_back_0 1 rfl rfl)
theorem dX0_back_2 : decode cX0_back 2 = .ok (.lconst 0, 1) := dk_9 (dk_at dksX0_back_0 2 rfl rfl)
theorem dX0_back_3 : decode cX0_back 3 = .ok (.ldc2_w 628, 3) := dk_20 2 116 (dk_at dksX0_back_0 3 rfl rfl)
theorem dX0_back_6 : decode cX0_back 6 = .ok (.invokestatic 219, 3) := dk_184 0 219 (dk_at dksX0_back_0 6 rfl rfl)
theorem dX0_back_9 : decode cX0_back 9 = .ok (.ifCond .eq 12, 3) := dk_153 0 12 (dk_at dksX0_back_0 9 rfl rfl)
theorem dX0_back_12 : decode cX0_back 12 = .ok (.aload_n 0, 1) := dk_42 (dk_at dksX0_back_0 12 rfl rfl)
theorem dX0_back_13 : decode cX0_back 13 = .ok (.getfield 187, 3) := dk_180 0 187 (dk_at dksX0_back_0 13 rfl rfl)
theorem dX0_back_16 : decode cX0_back 16 = .ok (.iload_n 1, 1) := dk_27 (dk_at dksX0_back_0 16 rfl rfl)
theorem dX0_back_17 : decode cX0_back 17 = .ok (.aaload, 1) := dk_50 (dk_at dksX0_back_0 17 rfl rfl)
theorem dX0_back_18 : decode cX0_back 18 = .ok (.ifnonnull 5, 3) := dk_199 0 5 (dk_at dksX0_back_0 18 rfl rfl)
theorem dX0_back_21 : decode cX0_back 21 = .ok (.iconst (-1), 1) := dk_2 (dk_at dksX0_back_0 21 rfl rfl)
theorem dX0_back_22 : decode cX0_back 22 = .ok (.ireturn, 1) := dk_172 (dk_at dksX0_back_0 22 rfl rfl)
theorem dX0_back_23 : decode cX0_back 23 = .ok (.aload_n 0, 1) := dk_42 (dk_at dksX0_back_0 23 rfl rfl)
theorem dX0_back_24 : decode cX0_back 24 = .ok (.getfield 187, 3) := dk_180 0 187 (dk_at dksX0_back_1 0 rfl rfl)
theorem dX0_back_27 : decode cX0_back 27 = .ok (.iload_n 1, 1) := dk_27 (dk_at dksX0_back_1 3 rfl rfl)
theorem dX0_back_28 : decode cX0_back 28 = .ok (.aaload, 1) := dk_50 (dk_at dksX0_back_1 4 rfl rfl)
theorem dX0_back_29 : decode cX0_back 29 = .ok (.astore_n 2, 1) := dk_77 (dk_at dksX0_back_1 5 rfl rfl)
theorem dX0_back_30 : decode cX0_back 30 = .ok (.aload_n 0, 1) := dk_42 (dk_at dksX0_back_1 6 rfl rfl)
theorem dX0_back_31 : decode cX0_back 31 = .ok (.aload_n 2, 1) := dk_44 (dk_at dksX0_back_1 7 rfl rfl)
theorem dX0_back_32 : decode cX0_back 32 = .ok (.getfield 700, 3) := dk_180 2 188 (dk_at dksX0_back_1 8 rfl rfl)
theorem dX0_back_35 : decode cX0_back 35 = .ok (.aload_n 2, 1) := dk_44 (dk_at dksX0_back_1 11 rfl rfl)
theorem dX0_back_36 : decode cX0_back 36 = .ok (.getfield 701, 3) := dk_180 2 189 (dk_at dksX0_back_1 12 rfl rfl)
theorem dX0_back_39 : decode cX0_back 39 = .ok (.invokevirtual 281, 3) := dk_182 1 25 (dk_at dksX0_back_1 15 rfl rfl)
theorem dX0_back_42 : decode cX0_back 42 = .ok (.pop, 1) := dk_87 (dk_at dksX0_back_1 18 rfl rfl)
theorem dX0_back_43 : decode cX0_back 43 = .ok (.aload_n 0, 1) := dk_42 (dk_at dksX0_back_1 19 rfl rfl)
theorem dX0_back_44 : decode cX0_back 44 = .ok (.aload_n 2, 1) := dk_44 (dk_at dksX0_back_1 20 rfl rfl)
theorem dX0_back_45 : decode cX0_back 45 = .ok (.getfield 702, 3) := dk_180 2 190 (dk_at dksX0_back_1 21 rfl rfl)
theorem dX0_back_48 : decode cX0_back 48 = .ok (.invokevirtual 485, 3) := dk_182 1 229 (dk_at dksX0_back_2 0 rfl rfl)
theorem dX0_back_51 : decode cX0_back 51 = .ok (.checkcast 486, 3) := dk_192 1 230 (dk_at dksX0_back_2 3 rfl rfl)
theorem dX0_back_54 : decode cX0_back 54 = .ok (.putfield 19, 3) := dk_181 0 19 (dk_at dksX0_back_2 6 rfl rfl)
theorem dX0_back_57 : decode cX0_back 57 = .ok (.aload_n 0, 1) := dk_42 (dk_at dksX0_back_2 9 rfl rfl)
theorem dX0_back_58 : decode cX0_back 58 = .ok (.aload_n 2, 1) := dk_44 (dk_at dksX0_back_2 10 rfl rfl)
theorem dX0_back_59 : decode cX0_back 59 = .ok (.getfield 703, 3) := dk_180 2 191 (dk_at dksX0_back_2 11 rfl rfl)
theorem dX0_back_62 : decode cX0_back 62 = .ok (.putfield 285, 3) := dk_181 1 29 (dk_at dksX0_back_2 14 rfl rfl)
theorem dX0_back_65 : decode cX0_back 65 = .ok (.aload_n 0, 1) := dk_42 (dk_at dksX0_back_2 17 rfl rfl)
theorem dX0_back_66 : decode cX0_back 66 = .ok (.aload_n 2, 1) := dk_44 (dk_at dksX0_back_2 18 rfl rfl)
theorem dX0_back_67 : decode cX0_back 67 = .ok (.getfield 704, 3) := dk_180 2 192 (dk_at dksX0_back_2 19 rfl rfl)
theorem dX0_back_70 : decode cX0_back 70 = .ok (.putfield 23, 3) := dk_181 0 23 (dk_at dksX0_back_3 0 rfl rfl)
theorem dX0_back_73 : decode cX0_back 73 = .ok (.aload_n 0, 1) := dk_42 (dk_at dksX0_back_3 3 rfl rfl)
theorem dX0_back_74 : decode cX0_back 74 = .ok (.aload_n 2, 1) := dk_44 (dk_at dksX0_back_3 4 rfl rfl)
theorem dX0_back_75 : decode cX0_back 75 = .ok (.getfield 705, 3) := dk_180 2 193 (dk_at dksX0_back_3 5 rfl rfl)
theorem dX0_back_78 : decode cX0_back 78 = .ok (.putfield 27, 3) := dk_181 0 27 (dk_at dksX0_back_3 8 rfl rfl)
theorem dX0_back_81 : decode cX0_back 81 = .ok (.aload_n 0, 1) := dk_42 (dk_at dksX0_back_3 11 rfl rfl)
theorem dX0_back_82 : decode cX0_back 82 = .ok (.aload_n 2, 1) := dk_44 (dk_at dksX0_back_3 12 rfl rfl)
theorem dX0_back_83 : decode cX0_back 83 = .ok (.getfield 706, 3) := dk_180 2 194 (dk_at dksX0_back_3 13 rfl rfl)
theorem dX0_back_86 : decode cX0_back 86 = .ok (.putfield 235, 3) := dk_181 0 235 (dk_at dksX0_back_3 16 rfl rfl)
theorem dX0_back_89 : decode cX0_back 89 = .ok (.aload_n 0, 1) := dk_42 (dk_at dksX0_back_3 19 rfl rfl)
theorem dX0_back_90 : decode cX0_back 90 = .ok (.aload_n 2, 1) := dk_44 (dk_at dksX0_back_3 20 rfl rfl)
theorem dX0_back_91 : decode cX0_back 91 = .ok (.getfield 709, 3) := dk_180 2 197 (dk_at dksX0_back_3 21 rfl rfl)
theorem dX0_back_94 : decode cX0_back 94 = .ok (.invokevirtual 707, 3) := dk_182 2 195 (dk_at dksX0_back_4 0 rfl rfl)
theorem dX0_back_97 : decode cX0_back 97 = .ok (.checkcast 708, 3) := dk_192 2 196 (dk_at dksX0_back_4 3 rfl rfl)
theorem dX0_back_100 : decode cX0_back 100 = .ok (.putfield 32, 3) := dk_181 0 32 (dk_at dksX0_back_4 6 rfl rfl)
theorem dX0_back_103 : decode cX0_back 103 = .ok (.aload_n 0, 1) := dk_42 (dk_at dksX0_back_4 9 rfl rfl)
theorem dX0_back_104 : decode cX0_back 104 = .ok (.aload_n 2, 1) := dk_44 (dk_at dksX0_back_4 10 rfl rfl)
theorem dX0_back_105 : decode cX0_back 105 = .ok (.getfield 710, 3) := dk_180 2 198 (dk_at dksX0_back_4 11 rfl rfl)
theorem dX0_back_108 : decode cX0_back 108 = .ok (.putfield 288, 3) := dk_181 1 32 (dk_at dksX0_back_4 14 rfl rfl)
theorem dX0_back_111 : decode cX0_back 111 = .ok (.aload_n 0, 1) := dk_42 (dk_at dksX0_back_4 17 rfl rfl)
theorem dX0_back_112 : decode cX0_back 112 = .ok (.aload_n 2, 1) := dk_44 (dk_at dksX0_back_4 18 rfl rfl)
theorem dX0_back_113 : decode cX0_back 113 = .ok (.getfield 711, 3) := dk_180 2 199 (dk_at dksX0_back_4 19 rfl rfl)
theorem dX0_back_116 : decode cX0_back 116 = .ok (.putfield 661, 3) := dk_181 2 149 (dk_at dksX0_back_5 0 rfl rfl)
theorem dX0_back_119 : decode cX0_back 119 = .ok (.aload_n 0, 1) := dk_42 (dk_at dksX0_back_5 3 rfl rfl)
theorem dX0_back_120 : decode cX0_back 120 = .ok (.getfield 285, 3) := dk_180 1 29 (dk_at dksX0_back_5 4 rfl rfl)
theorem dX0_back_123 : decode cX0_back 123 = .ok (.ireturn, 1) := dk_172 (dk_at dksX0_back_5 7 rfl rfl)
theorem q200 : (Jvm.Cond.initialized "PackedForest") ∈ lw_all := lw_g (lw_at lw_m1 1 rfl) rfl
theorem q216 : (Jvm.Cond.instantiable "PackedForest" (66 : Nat)) ∈ lw_all := lw_g (lw_at lw_m1 17 rfl) rfl
theorem q218 : (Jvm.Cond.instanceMethod ({ cls := "PackedForest", name := "<init>", desc := "()V" } : Jvm.MethodName)) ∈ lw_all := lw_g (lw_at lw_m1 19 rfl) rfl
theorem q219 : (Jvm.Cond.code ({ cls := "PackedForest", name := "<init>", desc := "()V" } : Jvm.MethodName) prog_1_method_7_code (1 : Nat) (Option.none : Option Jvm.ClassFile.FieldType)) ∈ lw_all := lw_g (lw_at lw_m1 20 rfl) rfl
theorem q220 : (Jvm.Cond.methodLink "PackedForest" (13 : Nat) ({ cls := "java/lang/Object", name := "<init>", desc := "()V" } : Jvm.MethodName)) ∈ lw_all := lw_g (lw_at lw_m1 21 rfl) rfl
theorem q223 : (Jvm.Cond.classLink "PackedForest" (30 : Nat) "PackedForest$Act") ∈ lw_all := lw_g (lw_at lw_m1 24 rfl) rfl
theorem q225 : (Jvm.Cond.classLink "PackedForest" (36 : Nat) "PackedForest$Holder") ∈ lw_all := lw_g (lw_at lw_m1 26 rfl) rfl
theorem q227 : (Jvm.Cond.classLink "PackedForest" (42 : Nat) "PackedForest$Fault") ∈ lw_all := lw_g (lw_at lw_m1 28 rfl) rfl
theorem q266 : (Jvm.Cond.methodLink "PackedForest" (44 : Nat) ({ cls := "PackedForest$Fault", name := "<init>", desc := "()V" } : Jvm.MethodName)) ∈ lw_all := lw_g (lw_at lw_m1 67 rfl) rfl
theorem q280 : (Jvm.Cond.fieldLinkNest "PackedForest" (298 : Nat) "PackedForest$Fault" "kind" "I" "PackedForest") ∈ lw_tbl := lw_at lw_m1 81 rfl
theorem q282 : (Jvm.Cond.fieldLinkNest "PackedForest" (295 : Nat) "PackedForest$Fault" "place" "I" "PackedForest") ∈ lw_tbl := lw_at lw_m1 83 rfl
theorem q302 : (Jvm.Cond.constant "PackedForest" (78 : Nat) (60840 : Int32)) ∈ lw_all := lw_g (lw_at lw_m1 103 rfl) rfl
theorem q303 : (Jvm.Cond.privateMethod ({ cls := "PackedForest", name := "partDerives", desc := "(IIII)I" } : Jvm.MethodName)) ∈ lw_tbl := lw_at lw_m1 104 rfl
theorem q304 : (Jvm.Cond.instanceMethod ({ cls := "PackedForest", name := "partDerives", desc := "(IIII)I" } : Jvm.MethodName)) ∈ lw_all := lw_g (lw_at lw_m1 105 rfl) rfl
theorem q305 : (Jvm.Cond.code ({ cls := "PackedForest", name := "partDerives", desc := "(IIII)I" } : Jvm.MethodName) prog_1_method_92_code (6 : Nat) (Option.some Jvm.ClassFile.FieldType.int)) ∈ lw_all := lw_g (lw_at lw_m1 106 rfl) rfl
theorem q306 : (Jvm.Cond.methodLink "PackedForest" (308 : Nat) ({ cls := "PackedForest$Grammar", name := "at", desc := "(II)I" } : Jvm.MethodName)) ∈ lw_all := lw_g (lw_at lw_m1 107 rfl) rfl
theorem q310 : (Jvm.Cond.methodLink "PackedForest" (311 : Nat) ({ cls := "PackedForest", name := "isCapital", desc := "(I)Z" } : Jvm.MethodName)) ∈ lw_all := lw_g (lw_at lw_m1 111 rfl) rfl
theorem q311 : (Jvm.Cond.static ({ cls := "PackedForest", name := "isCapital", desc := "(I)Z" } : Jvm.MethodName)) ∈ lw_all := lw_g (lw_at lw_m1 112 rfl) rfl
theorem q312 : (Jvm.Cond.code ({ cls := "PackedForest", name := "isCapital", desc := "(I)Z" } : Jvm.MethodName) prog_1_method_11_code (1 : Nat) (Option.some Jvm.ClassFile.FieldType.boolean)) ∈ lw_all := lw_g (lw_at lw_m1 113 rfl) rfl
theorem q313 : (Jvm.Cond.methodLink "PackedForest" (537 : Nat) ({ cls := "PackedForest", name := "spanOf", desc := "(II)I" } : Jvm.MethodName)) ∈ lw_all := lw_g (lw_at lw_m1 114 rfl) rfl
theorem q314 : (Jvm.Cond.static ({ cls := "PackedForest", name := "spanOf", desc := "(II)I" } : Jvm.MethodName)) ∈ lw_all := lw_g (lw_at lw_m1 115 rfl) rfl
theorem q315 : (Jvm.Cond.code ({ cls := "PackedForest", name := "spanOf", desc := "(II)I" } : Jvm.MethodName) prog_1_method_88_code (2 : Nat) (Option.some Jvm.ClassFile.FieldType.int)) ∈ lw_all := lw_g (lw_at lw_m1 116 rfl) rfl
theorem q316 : (Jvm.Cond.methodLink "PackedForest" (211 : Nat) ({ cls := "PackedForest", name := "has", desc := "(II)Z" } : Jvm.MethodName)) ∈ lw_all := lw_g (lw_at lw_m1 117 rfl) rfl
theorem q317 : (Jvm.Cond.static ({ cls := "PackedForest", name := "has", desc := "(II)Z" } : Jvm.MethodName)) ∈ lw_all := lw_g (lw_at lw_m1 118 rfl) rfl
theorem q318 : (Jvm.Cond.code ({ cls := "PackedForest", name := "has", desc := "(II)Z" } : Jvm.MethodName) prog_1_method_2_code (2 : Nat) (Option.some Jvm.ClassFile.FieldType.boolean)) ∈ lw_all := lw_g (lw_at lw_m1 119 rfl) rfl
theorem q319 : (Jvm.Cond.methodLink "PackedForest" (543 : Nat) ({ cls := "PackedForest", name := "isHere", desc := "(III)Z" } : Jvm.MethodName)) ∈ lw_all := lw_g (lw_at lw_m1 120 rfl) rfl
theorem q320 : (Jvm.Cond.privateMethod ({ cls := "PackedForest", name := "isHere", desc := "(III)Z" } : Jvm.MethodName)) ∈ lw_tbl := lw_at lw_m1 121 rfl
theorem q321 : (Jvm.Cond.instanceMethod ({ cls := "PackedForest", name := "isHere", desc := "(III)Z" } : Jvm.MethodName)) ∈ lw_all := lw_g (lw_at lw_m1 122 rfl) rfl
theorem q322 : (Jvm.Cond.code ({ cls := "PackedForest", name := "isHere", desc := "(III)Z" } : Jvm.MethodName) prog_1_method_90_code (4 : Nat) (Option.some Jvm.ClassFile.FieldType.boolean)) ∈ lw_all := lw_g (lw_at lw_m1 123 rfl) rfl
theorem q323 : (Jvm.Cond.privateMethod ({ cls := "PackedForest", name := "partLives", desc := "(IIII)I" } : Jvm.MethodName)) ∈ lw_tbl := lw_at lw_m1 124 rfl
theorem q324 : (Jvm.Cond.instanceMethod ({ cls := "PackedForest", name := "partLives", desc := "(IIII)I" } : Jvm.MethodName)) ∈ lw_all := lw_g (lw_at lw_m1 125 rfl) rfl
theorem q325 : (Jvm.Cond.code ({ cls := "PackedForest", name := "partLives", desc := "(IIII)I" } : Jvm.MethodName) prog_1_method_93_code (7 : Nat) (Option.some Jvm.ClassFile.FieldType.int)) ∈ lw_all := lw_g (lw_at lw_m1 126 rfl) rfl
theorem q326 : (Jvm.Cond.methodLink "PackedForest" (546 : Nat) ({ cls := "PackedForest", name := "pieceOf", desc := "(III)I" } : Jvm.MethodName)) ∈ lw_all := lw_g (lw_at lw_m1 127 rfl) rfl
theorem q327 : (Jvm.Cond.static ({ cls := "PackedForest", name := "pieceOf", desc := "(III)I" } : Jvm.MethodName)) ∈ lw_all := lw_g (lw_at lw_m1 128 rfl) rfl
theorem q328 : (Jvm.Cond.code ({ cls := "PackedForest", name := "pieceOf", desc := "(III)I" } : Jvm.MethodName) prog_1_method_89_code (3 : Nat) (Option.some Jvm.ClassFile.FieldType.int)) ∈ lw_all := lw_g (lw_at lw_m1 129 rfl) rfl
theorem q329 : (Jvm.Cond.methodLink "PackedForest" (549 : Nat) ({ cls := "PackedForest", name := "canBeBelow", desc := "(III)Z" } : Jvm.MethodName)) ∈ lw_all := lw_g (lw_at lw_m1 130 rfl) rfl
theorem q330 : (Jvm.Cond.privateMethod ({ cls := "PackedForest", name := "canBeBelow", desc := "(III)Z" } : Jvm.MethodName)) ∈ lw_tbl := lw_at lw_m1 131 rfl
theorem q331 : (Jvm.Cond.instanceMethod ({ cls := "PackedForest", name := "canBeBelow", desc := "(III)Z" } : Jvm.MethodName)) ∈ lw_all := lw_g (lw_at lw_m1 132 rfl) rfl
theorem q332 : (Jvm.Cond.code ({ cls := "PackedForest", name := "canBeBelow", desc := "(III)Z" } : Jvm.MethodName) prog_1_method_91_code (4 : Nat) (Option.some Jvm.ClassFile.FieldType.boolean)) ∈ lw_all := lw_g (lw_at lw_m1 133 rfl) rfl
theorem q333 : (Jvm.Cond.methodLink "PackedForest" (351 : Nat) ({ cls := "PackedForest", name := "isOn", desc := "(I)Z" } : Jvm.MethodName)) ∈ lw_all := lw_g (lw_at lw_m1 134 rfl) rfl
theorem q334 : (Jvm.Cond.privateMethod ({ cls := "PackedForest", name := "isOn", desc := "(I)Z" } : Jvm.MethodName)) ∈ lw_tbl := lw_at lw_m1 135 rfl
theorem q335 : (Jvm.Cond.instanceMethod ({ cls := "PackedForest", name := "isOn", desc := "(I)Z" } : Jvm.MethodName)) ∈ lw_all := lw_g (lw_at lw_m1 136 rfl) rfl
theorem q336 : (Jvm.Cond.code ({ cls := "PackedForest", name := "isOn", desc := "(I)Z" } : Jvm.MethodName) prog_1_method_9_code (2 : Nat) (Option.some Jvm.ClassFile.FieldType.boolean)) ∈ lw_all := lw_g (lw_at lw_m1 137 rfl) rfl
theorem q337 : (Jvm.Cond.methodLink "PackedForest" (540 : Nat) ({ cls := "PackedForest", name := "isForbidden", desc := "(III)Z" } : Jvm.MethodName)) ∈ lw_all := lw_g (lw_at lw_m1 138 rfl) rfl
theorem q338 : (Jvm.Cond.privateMethod ({ cls := "PackedForest", name := "isForbidden", desc := "(III)Z" } : Jvm.MethodName)) ∈ lw_tbl := lw_at lw_m1 139 rfl
theorem q339 : (Jvm.Cond.instanceMethod ({ cls := "PackedForest", name := "isForbidden", desc := "(III)Z" } : Jvm.MethodName)) ∈ lw_all := lw_g (lw_at lw_m1 140 rfl) rfl
theorem q340 : (Jvm.Cond.code ({ cls := "PackedForest", name := "isForbidden", desc := "(III)Z" } : Jvm.MethodName) prog_1_method_16_code (5 : Nat) (Option.some Jvm.ClassFile.FieldType.boolean)) ∈ lw_all := lw_g (lw_at lw_m1 141 rfl) rfl
theorem q341 : (Jvm.Cond.interfaceEntry "PackedForest" (246 : Nat)) ∈ lw_tbl := lw_at lw_m1 142 rfl
theorem q342 : (Jvm.Cond.methodLink "PackedForest" (246 : Nat) ({ cls := "PackedForest$Bar", name := "bars", desc := "(III)Z" } : Jvm.MethodName)) ∈ lw_all := lw_g (lw_at lw_m1 143 rfl) rfl
theorem q345 : (Jvm.Cond.privateMethod ({ cls := "PackedForest", name := "partTrees", desc := "(IIII)I" } : Jvm.MethodName)) ∈ lw_tbl := lw_at lw_m1 146 rfl
theorem q346 : (Jvm.Cond.instanceMethod ({ cls := "PackedForest", name := "partTrees", desc := "(IIII)I" } : Jvm.MethodName)) ∈ lw_all := lw_g (lw_at lw_m1 147 rfl) rfl
theorem q347 : (Jvm.Cond.code ({ cls := "PackedForest", name := "partTrees", desc := "(IIII)I" } : Jvm.MethodName) prog_1_method_94_code (8 : Nat) (Option.some Jvm.ClassFile.FieldType.int)) ∈ lw_all := lw_g (lw_at lw_m1 148 rfl) rfl
theorem q348 : (Jvm.Cond.methodLink "PackedForest" (552 : Nat) ({ cls := "PackedForest", name := "more", desc := "(II)I" } : Jvm.MethodName)) ∈ lw_all := lw_g (lw_at lw_m1 149 rfl) rfl
theorem q349 : (Jvm.Cond.static ({ cls := "PackedForest", name := "more", desc := "(II)I" } : Jvm.MethodName)) ∈ lw_all := lw_g (lw_at lw_m1 150 rfl) rfl
theorem q350 : (Jvm.Cond.code ({ cls := "PackedForest", name := "more", desc := "(II)I" } : Jvm.MethodName) prog_1_method_3_code (2 : Nat) (Option.some Jvm.ClassFile.FieldType.int)) ∈ lw_all := lw_g (lw_at lw_m1 151 rfl) rfl
theorem q351 : (Jvm.Cond.constant "PackedForest" (5 : Nat) (2147483647 : Int32)) ∈ lw_all := lw_g (lw_at lw_m1 152 rfl) rfl
theorem q352 : (Jvm.Cond.privateMethod ({ cls := "PackedForest", name := "partLeast", desc := "(IIII)I" } : Jvm.MethodName)) ∈ lw_tbl := lw_at lw_m1 153 rfl
theorem q353 : (Jvm.Cond.instanceMethod ({ cls := "PackedForest", name := "partLeast", desc := "(IIII)I" } : Jvm.MethodName)) ∈ lw_all := lw_g (lw_at lw_m1 154 rfl) rfl
theorem q354 : (Jvm.Cond.code ({ cls := "PackedForest", name := "partLeast", desc := "(IIII)I" } : Jvm.MethodName) prog_1_method_95_code (8 : Nat) (Option.some Jvm.ClassFile.FieldType.int)) ∈ lw_all := lw_g (lw_at lw_m1 155 rfl) rfl
theorem q355 : (Jvm.Cond.constant "PackedForest" (12 : Nat) (2000000000 : Int32)) ∈ lw_all := lw_g (lw_at lw_m1 156 rfl) rfl
theorem q356 : (Jvm.Cond.methodLink "PackedForest" (348 : Nat) ({ cls := "PackedForest", name := "lesser", desc := "(II)I" } : Jvm.MethodName)) ∈ lw_all := lw_g (lw_at lw_m1 157 rfl) rfl
theorem q357 : (Jvm.Cond.static ({ cls := "PackedForest", name := "lesser", desc := "(II)I" } : Jvm.MethodName)) ∈ lw_all := lw_g (lw_at lw_m1 158 rfl) rfl
theorem q358 : (Jvm.Cond.code ({ cls := "PackedForest", name := "lesser", desc := "(II)I" } : Jvm.MethodName) prog_1_method_5_code (2 : Nat) (Option.some Jvm.ClassFile.FieldType.int)) ∈ lw_all := lw_g (lw_at lw_m1 159 rfl) rfl
theorem q359 : (Jvm.Cond.methodLink "PackedForest" (6 : Nat) ({ cls := "java/lang/Math", name := "min", desc := "(II)I" } : Jvm.MethodName)) ∈ lw_all := lw_g (lw_at lw_m1 160 rfl) rfl
theorem q362 : (Jvm.Cond.privateMethod ({ cls := "PackedForest", name := "partCost", desc := "(IIII)I" } : Jvm.MethodName)) ∈ lw_tbl := lw_at lw_m1 163 rfl
theorem q363 : (Jvm.Cond.instanceMethod ({ cls := "PackedForest", name := "partCost", desc := "(IIII)I" } : Jvm.MethodName)) ∈ lw_all := lw_g (lw_at lw_m1 164 rfl) rfl
theorem q364 : (Jvm.Cond.code ({ cls := "PackedForest", name := "partCost", desc := "(IIII)I" } : Jvm.MethodName) prog_1_method_96_code (7 : Nat) (Option.some Jvm.ClassFile.FieldType.int)) ∈ lw_all := lw_g (lw_at lw_m1 165 rfl) rfl
theorem q365 : (Jvm.Cond.methodLink "PackedForest" (555 : Nat) ({ cls := "java/lang/Math", name := "max", desc := "(II)I" } : Jvm.MethodName)) ∈ lw_all := lw_g (lw_at lw_m1 166 rfl) rfl
theorem q368 : (Jvm.Cond.static ({ cls := "PackedForest", name := "or", desc := "(II)I" } : Jvm.MethodName)) ∈ lw_all := lw_g (lw_at lw_m1 169 rfl) rfl
theorem q369 : (Jvm.Cond.code ({ cls := "PackedForest", name := "or", desc := "(II)I" } : Jvm.MethodName) prog_1_method_86_code (2 : Nat) (Option.some Jvm.ClassFile.FieldType.int)) ∈ lw_all := lw_g (lw_at lw_m1 170 rfl) rfl
theorem q370 : (Jvm.Cond.static ({ cls := "PackedForest", name := "and", desc := "(II)I" } : Jvm.MethodName)) ∈ lw_all := lw_g (lw_at lw_m1 171 rfl) rfl
theorem q371 : (Jvm.Cond.code ({ cls := "PackedForest", name := "and", desc := "(II)I" } : Jvm.MethodName) prog_1_method_87_code (2 : Nat) (Option.some Jvm.ClassFile.FieldType.int)) ∈ lw_all := lw_g (lw_at lw_m1 172 rfl) rfl
theorem q372 : (Jvm.Cond.static ({ cls := "PackedForest", name := "together", desc := "(II)I" } : Jvm.MethodName)) ∈ lw_all := lw_g (lw_at lw_m1 173 rfl) rfl
theorem q373 : (Jvm.Cond.code ({ cls := "PackedForest", name := "together", desc := "(II)I" } : Jvm.MethodName) prog_1_method_6_code (2 : Nat) (Option.some Jvm.ClassFile.FieldType.int)) ∈ lw_all := lw_g (lw_at lw_m1 174 rfl) rfl
theorem q374 : (Jvm.Cond.static ({ cls := "PackedForest", name := "times", desc := "(II)I" } : Jvm.MethodName)) ∈ lw_all := lw_g (lw_at lw_m1 175 rfl) rfl
theorem q375 : (Jvm.Cond.code ({ cls := "PackedForest", name := "times", desc := "(II)I" } : Jvm.MethodName) prog_1_method_4_code (2 : Nat) (Option.some Jvm.ClassFile.FieldType.int)) ∈ lw_all := lw_g (lw_at lw_m1 176 rfl) rfl
theorem q376 : (Jvm.Cond.static ({ cls := "PackedForest", name := "plain", desc := "(II)I" } : Jvm.MethodName)) ∈ lw_all := lw_g (lw_at lw_m1 177 rfl) rfl
theorem q377 : (Jvm.Cond.code ({ cls := "PackedForest", name := "plain", desc := "(II)I" } : Jvm.MethodName) prog_1_method_114_code (2 : Nat) (Option.some Jvm.ClassFile.FieldType.int)) ∈ lw_all := lw_g (lw_at lw_m1 178 rfl) rfl
theorem q378 : (Jvm.Cond.static ({ cls := "PackedForest", name := "timesPlain", desc := "(II)I" } : Jvm.MethodName)) ∈ lw_all := lw_g (lw_at lw_m1 179 rfl) rfl
theorem q379 : (Jvm.Cond.code ({ cls := "PackedForest", name := "timesPlain", desc := "(II)I" } : Jvm.MethodName) prog_1_method_115_code (2 : Nat) (Option.some Jvm.ClassFile.FieldType.int)) ∈ lw_all := lw_g (lw_at lw_m1 180 rfl) rfl
theorem q380 : (Jvm.Cond.classLink "PackedForest" (185 : Nat) "PackedForest$Image") ∈ lw_all := lw_g (lw_at lw_m1 181 rfl) rfl
theorem q383 : (Jvm.Cond.privateMethod ({ cls := "PackedForest", name := "isOutranked", desc := "(III)Z" } : Jvm.MethodName)) ∈ lw_tbl := lw_at lw_m1 184 rfl
theorem q384 : (Jvm.Cond.instanceMethod ({ cls := "PackedForest", name := "isOutranked", desc := "(III)Z" } : Jvm.MethodName)) ∈ lw_all := lw_g (lw_at lw_m1 185 rfl) rfl
theorem q385 : (Jvm.Cond.code ({ cls := "PackedForest", name := "isOutranked", desc := "(III)Z" } : Jvm.MethodName) prog_1_method_12_code (4 : Nat) (Option.some Jvm.ClassFile.FieldType.boolean)) ∈ lw_all := lw_g (lw_at lw_m1 186 rfl) rfl
theorem q386 : (Jvm.Cond.methodLink "PackedForest" (194 : Nat) ({ cls := "PackedForest$Holder", name := "<init>", desc := "(LPackedForest$Bar;)V" } : Jvm.MethodName)) ∈ lw_all := lw_g (lw_at lw_m1 187 rfl) rfl
theorem q391 : (Jvm.Cond.fieldLinkNest "PackedForest" (242 : Nat) "PackedForest$Holder" "bar" "LPackedForest$Bar;" "PackedForest") ∈ lw_tbl := lw_at lw_m1 192 rfl
theorem q397 : (Jvm.Cond.privateMethod ({ cls := "PackedForest", name := "isOnSide", desc := "(III)Z" } : Jvm.MethodName)) ∈ lw_tbl := lw_at lw_m1 198 rfl
theorem q398 : (Jvm.Cond.instanceMethod ({ cls := "PackedForest", name := "isOnSide", desc := "(III)Z" } : Jvm.MethodName)) ∈ lw_all := lw_g (lw_at lw_m1 199 rfl) rfl
theorem q399 : (Jvm.Cond.code ({ cls := "PackedForest", name := "isOnSide", desc := "(III)Z" } : Jvm.MethodName) prog_1_method_13_code (4 : Nat) (Option.some Jvm.ClassFile.FieldType.boolean)) ∈ lw_all := lw_g (lw_at lw_m1 200 rfl) rfl
theorem q400 : (Jvm.Cond.privateMethod ({ cls := "PackedForest", name := "isBanned", desc := "(III)Z" } : Jvm.MethodName)) ∈ lw_tbl := lw_at lw_m1 201 rfl
theorem q401 : (Jvm.Cond.instanceMethod ({ cls := "PackedForest", name := "isBanned", desc := "(III)Z" } : Jvm.MethodName)) ∈ lw_all := lw_g (lw_at lw_m1 202 rfl) rfl
theorem q402 : (Jvm.Cond.code ({ cls := "PackedForest", name := "isBanned", desc := "(III)Z" } : Jvm.MethodName) prog_1_method_15_code (4 : Nat) (Option.some Jvm.ClassFile.FieldType.boolean)) ∈ lw_all := lw_g (lw_at lw_m1 203 rfl) rfl
theorem q403 : (Jvm.Cond.methodLink "PackedForest" (238 : Nat) ({ cls := "PackedForest", name := "banOf", desc := "(III)I" } : Jvm.MethodName)) ∈ lw_all := lw_g (lw_at lw_m1 204 rfl) rfl
theorem q404 : (Jvm.Cond.privateMethod ({ cls := "PackedForest", name := "banOf", desc := "(III)I" } : Jvm.MethodName)) ∈ lw_tbl := lw_at lw_m1 205 rfl
theorem q405 : (Jvm.Cond.instanceMethod ({ cls := "PackedForest", name := "banOf", desc := "(III)I" } : Jvm.MethodName)) ∈ lw_all := lw_g (lw_at lw_m1 206 rfl) rfl
theorem q406 : (Jvm.Cond.code ({ cls := "PackedForest", name := "banOf", desc := "(III)I" } : Jvm.MethodName) prog_1_method_14_code (5 : Nat) (Option.some Jvm.ClassFile.FieldType.int)) ∈ lw_all := lw_g (lw_at lw_m1 207 rfl) rfl
theorem q408 : (Jvm.Cond.fieldLink "PackedForest" (199 : Nat) "PackedForest" "grammar" "LPackedForest$Grammar;") ∈ lw_all := lw_g (lw_at lw_m1 209 rfl) rfl
theorem q409 : (Jvm.Cond.fieldLink "PackedForest" (208 : Nat) "PackedForest" "struck" "I") ∈ lw_all := lw_g (lw_at lw_m1 210 rfl) rfl
theorem q410 : (Jvm.Cond.fieldLink "PackedForest" (19 : Nat) "PackedForest" "text" "[I") ∈ lw_all := lw_g (lw_at lw_m1 211 rfl) rfl
theorem q411 : (Jvm.Cond.fieldLink "PackedForest" (285 : Nat) "PackedForest" "textMany" "I") ∈ lw_all := lw_g (lw_at lw_m1 212 rfl) rfl
theorem q412 : (Jvm.Cond.fieldLink "PackedForest" (23 : Nat) "PackedForest" "filters" "I") ∈ lw_all := lw_g (lw_at lw_m1 213 rfl) rfl
theorem q413 : (Jvm.Cond.fieldLink "PackedForest" (27 : Nat) "PackedForest" "bans" "[I") ∈ lw_all := lw_g (lw_at lw_m1 214 rfl) rfl
theorem q414 : (Jvm.Cond.fieldLink "PackedForest" (235 : Nat) "PackedForest" "banMany" "I") ∈ lw_all := lw_g (lw_at lw_m1 215 rfl) rfl
theorem q415 : (Jvm.Cond.fieldLink "PackedForest" (32 : Nat) "PackedForest" "acts" "[LPackedForest$Act;") ∈ lw_all := lw_g (lw_at lw_m1 216 rfl) rfl
theorem q416 : (Jvm.Cond.fieldLink "PackedForest" (288 : Nat) "PackedForest" "stepMany" "I") ∈ lw_all := lw_g (lw_at lw_m1 217 rfl) rfl
theorem q417 : (Jvm.Cond.fieldLink "PackedForest" (661 : Nat) "PackedForest" "x" "I") ∈ lw_all := lw_g (lw_at lw_m1 218 rfl) rfl
theorem q418 : (Jvm.Cond.fieldLink "PackedForest" (38 : Nat) "PackedForest" "bars" "[LPackedForest$Holder;") ∈ lw_all := lw_g (lw_at lw_m1 219 rfl) rfl
theorem q420 : (Jvm.Cond.fieldLink "PackedForest" (45 : Nat) "PackedForest" "fault" "LPackedForest$Fault;") ∈ lw_all := lw_g (lw_at lw_m1 221 rfl) rfl
theorem q422 : (Jvm.Cond.fieldLink "PackedForest" (49 : Nat) "PackedForest" "tape" "[B") ∈ lw_all := lw_g (lw_at lw_m1 223 rfl) rfl
theorem q424 : (Jvm.Cond.fieldLink "PackedForest" (251 : Nat) "PackedForest" "taped" "I") ∈ lw_all := lw_g (lw_at lw_m1 225 rfl) rfl
theorem q425 : (Jvm.Cond.fieldLink "PackedForest" (314 : Nat) "PackedForest" "empties" "I") ∈ lw_all := lw_g (lw_at lw_m1 226 rfl) rfl
theorem q426 : (Jvm.Cond.fieldLink "PackedForest" (320 : Nat) "PackedForest" "ending" "I") ∈ lw_all := lw_g (lw_at lw_m1 227 rfl) rfl
theorem q427 : (Jvm.Cond.fieldLink "PackedForest" (330 : Nat) "PackedForest" "reached" "I") ∈ lw_all := lw_g (lw_at lw_m1 228 rfl) rfl
theorem q428 : (Jvm.Cond.fieldLink "PackedForest" (361 : Nat) "PackedForest" "loops" "I") ∈ lw_all := lw_g (lw_at lw_m1 229 rfl) rfl
theorem q429 : (Jvm.Cond.fieldLink "PackedForest" (364 : Nat) "PackedForest" "recurs" "I") ∈ lw_all := lw_g (lw_at lw_m1 230 rfl) rfl
theorem q430 : (Jvm.Cond.fieldLink "PackedForest" (53 : Nat) "PackedForest" "firstOf" "[I") ∈ lw_all := lw_g (lw_at lw_m1 231 rfl) rfl
theorem q431 : (Jvm.Cond.fieldLink "PackedForest" (56 : Nat) "PackedForest" "followOf" "[I") ∈ lw_all := lw_g (lw_at lw_m1 232 rfl) rfl
theorem q432 : (Jvm.Cond.fieldLink "PackedForest" (59 : Nat) "PackedForest" "shortOf" "[I") ∈ lw_all := lw_g (lw_at lw_m1 233 rfl) rfl
theorem q433 : (Jvm.Cond.fieldLink "PackedForest" (62 : Nat) "PackedForest" "points" "[J") ∈ lw_all := lw_g (lw_at lw_m1 234 rfl) rfl
theorem q434 : (Jvm.Cond.fieldLink "PackedForest" (66 : Nat) "PackedForest" "goesTo" "[I") ∈ lw_all := lw_g (lw_at lw_m1 235 rfl) rfl
theorem q435 : (Jvm.Cond.fieldLink "PackedForest" (399 : Nat) "PackedForest" "stateMany" "I") ∈ lw_all := lw_g (lw_at lw_m1 236 rfl) rfl
theorem q436 : (Jvm.Cond.fieldLink "PackedForest" (258 : Nat) "PackedForest" "isStacked" "Z") ∈ lw_all := lw_g (lw_at lw_m1 237 rfl) rfl
theorem q437 : (Jvm.Cond.fieldLink "PackedForest" (262 : Nat) "PackedForest" "isCharted" "Z") ∈ lw_all := lw_g (lw_at lw_m1 238 rfl) rfl
theorem q438 : (Jvm.Cond.fieldLink "PackedForest" (69 : Nat) "PackedForest" "fromOf" "[I") ∈ lw_all := lw_g (lw_at lw_m1 239 rfl) rfl
theorem q439 : (Jvm.Cond.fieldLink "PackedForest" (72 : Nat) "PackedForest" "byOf" "[I") ∈ lw_all := lw_g (lw_at lw_m2 0 rfl) rfl
theorem q440 : (Jvm.Cond.fieldLink "PackedForest" (75 : Nat) "PackedForest" "toOf" "[I") ∈ lw_all := lw_g (lw_at lw_m2 1 rfl) rfl
theorem q441 : (Jvm.Cond.fieldLink "PackedForest" (79 : Nat) "PackedForest" "linkOf" "[I") ∈ lw_all := lw_g (lw_at lw_m2 2 rfl) rfl
theorem q442 : (Jvm.Cond.fieldLink "PackedForest" (82 : Nat) "PackedForest" "aliveOf" "[I") ∈ lw_all := lw_g (lw_at lw_m2 3 rfl) rfl
theorem q443 : (Jvm.Cond.fieldLink "PackedForest" (85 : Nat) "PackedForest" "maskOf" "[I") ∈ lw_all := lw_g (lw_at lw_m2 4 rfl) rfl
theorem q444 : (Jvm.Cond.fieldLink "PackedForest" (88 : Nat) "PackedForest" "maskThen" "[I") ∈ lw_all := lw_g (lw_at lw_m2 5 rfl) rfl
theorem q445 : (Jvm.Cond.fieldLink "PackedForest" (503 : Nat) "PackedForest" "goingMany" "I") ∈ lw_all := lw_g (lw_at lw_m2 6 rfl) rfl
theorem q446 : (Jvm.Cond.fieldLink "PackedForest" (91 : Nat) "PackedForest" "row" "[I") ∈ lw_all := lw_g (lw_at lw_m2 7 rfl) rfl
theorem q447 : (Jvm.Cond.fieldLink "PackedForest" (94 : Nat) "PackedForest" "rowThen" "[I") ∈ lw_all := lw_g (lw_at lw_m2 8 rfl) rfl
theorem q448 : (Jvm.Cond.fieldLink "PackedForest" (101 : Nat) "PackedForest" "derivesPart" "LPackedForest$Part;") ∈ lw_all := lw_g (lw_at lw_m2 9 rfl) rfl
theorem q449 : (Jvm.Cond.fieldLink "PackedForest" (106 : Nat) "PackedForest" "livesPart" "LPackedForest$Part;") ∈ lw_all := lw_g (lw_at lw_m2 10 rfl) rfl
theorem q450 : (Jvm.Cond.fieldLink "PackedForest" (110 : Nat) "PackedForest" "treesPart" "LPackedForest$Part;") ∈ lw_all := lw_g (lw_at lw_m2 11 rfl) rfl
theorem q451 : (Jvm.Cond.fieldLink "PackedForest" (114 : Nat) "PackedForest" "leastPart" "LPackedForest$Part;") ∈ lw_all := lw_g (lw_at lw_m2 12 rfl) rfl
theorem q452 : (Jvm.Cond.fieldLink "PackedForest" (118 : Nat) "PackedForest" "costPart" "LPackedForest$Part;") ∈ lw_all := lw_g (lw_at lw_m2 13 rfl) rfl
theorem q453 : (Jvm.Cond.fieldLink "PackedForest" (125 : Nat) "PackedForest" "orFold" "LPackedForest$Fold;") ∈ lw_all := lw_g (lw_at lw_m2 14 rfl) rfl
theorem q454 : (Jvm.Cond.fieldLink "PackedForest" (130 : Nat) "PackedForest" "andFold" "LPackedForest$Fold;") ∈ lw_all := lw_g (lw_at lw_m2 15 rfl) rfl
theorem q455 : (Jvm.Cond.fieldLink "PackedForest" (134 : Nat) "PackedForest" "lesserFold" "LPackedForest$Fold;") ∈ lw_all := lw_g (lw_at lw_m2 16 rfl) rfl
theorem q456 : (Jvm.Cond.fieldLink "PackedForest" (138 : Nat) "PackedForest" "togetherFold" "LPackedForest$Fold;") ∈ lw_all := lw_g (lw_at lw_m2 17 rfl) rfl
theorem q457 : (Jvm.Cond.fieldLink "PackedForest" (142 : Nat) "PackedForest" "moreFold" "LPackedForest$Fold;") ∈ lw_all := lw_g (lw_at lw_m2 18 rfl) rfl
theorem q458 : (Jvm.Cond.fieldLink "PackedForest" (146 : Nat) "PackedForest" "timesFold" "LPackedForest$Fold;") ∈ lw_all := lw_g (lw_at lw_m2 19 rfl) rfl
theorem q459 : (Jvm.Cond.fieldLink "PackedForest" (150 : Nat) "PackedForest" "plainFold" "LPackedForest$Fold;") ∈ lw_all := lw_g (lw_at lw_m2 20 rfl) rfl
theorem q460 : (Jvm.Cond.fieldLink "PackedForest" (154 : Nat) "PackedForest" "timesPlainFold" "LPackedForest$Fold;") ∈ lw_all := lw_g (lw_at lw_m2 21 rfl) rfl
theorem q462 : (Jvm.Cond.fieldLink "PackedForest" (157 : Nat) "PackedForest" "livesOf" "[Z") ∈ lw_all := lw_g (lw_at lw_m2 23 rfl) rfl
theorem q463 : (Jvm.Cond.fieldLink "PackedForest" (161 : Nat) "PackedForest" "treesOf" "[I") ∈ lw_all := lw_g (lw_at lw_m2 24 rfl) rfl
theorem q465 : (Jvm.Cond.fieldLink "PackedForest" (164 : Nat) "PackedForest" "leastOf" "[I") ∈ lw_all := lw_g (lw_at lw_m2 26 rfl) rfl
theorem q466 : (Jvm.Cond.fieldLink "PackedForest" (167 : Nat) "PackedForest" "isPiece" "[Z") ∈ lw_all := lw_g (lw_at lw_m2 27 rfl) rfl
theorem q467 : (Jvm.Cond.fieldLink "PackedForest" (170 : Nat) "PackedForest" "derivesOf" "[I") ∈ lw_all := lw_g (lw_at lw_m2 28 rfl) rfl
theorem q468 : (Jvm.Cond.fieldLink "PackedForest" (173 : Nat) "PackedForest" "costOf" "[I") ∈ lw_all := lw_g (lw_at lw_m2 29 rfl) rfl
theorem q469 : (Jvm.Cond.fieldLink "PackedForest" (176 : Nat) "PackedForest" "belowOf" "[I") ∈ lw_all := lw_g (lw_at lw_m2 30 rfl) rfl
theorem q470 : (Jvm.Cond.fieldLink "PackedForest" (179 : Nat) "PackedForest" "waiting" "[I") ∈ lw_all := lw_g (lw_at lw_m2 31 rfl) rfl
theorem q471 : (Jvm.Cond.fieldLink "PackedForest" (593 : Nat) "PackedForest" "waitMany" "I") ∈ lw_all := lw_g (lw_at lw_m2 32 rfl) rfl
theorem q472 : (Jvm.Cond.fieldLink "PackedForest" (616 : Nat) "PackedForest" "nodes" "I") ∈ lw_all := lw_g (lw_at lw_m2 33 rfl) rfl
theorem q473 : (Jvm.Cond.fieldLink "PackedForest" (619 : Nat) "PackedForest" "ambiguous" "I") ∈ lw_all := lw_g (lw_at lw_m2 34 rfl) rfl
theorem q474 : (Jvm.Cond.fieldLink "PackedForest" (622 : Nat) "PackedForest" "narrow" "I") ∈ lw_all := lw_g (lw_at lw_m2 35 rfl) rfl
theorem q475 : (Jvm.Cond.fieldLink "PackedForest" (664 : Nat) "PackedForest" "drawX" "I") ∈ lw_all := lw_g (lw_at lw_m2 36 rfl) rfl
theorem q476 : (Jvm.Cond.fieldLink "PackedForest" (182 : Nat) "PackedForest" "spoken" "[I") ∈ lw_all := lw_g (lw_at lw_m2 37 rfl) rfl
theorem q477 : (Jvm.Cond.fieldLink "PackedForest" (674 : Nat) "PackedForest" "spokenMany" "I") ∈ lw_all := lw_g (lw_at lw_m2 38 rfl) rfl
theorem q478 : (Jvm.Cond.fieldLink "PackedForest" (187 : Nat) "PackedForest" "images" "[LPackedForest$Image;") ∈ lw_all := lw_g (lw_at lw_m2 39 rfl) rfl
theorem q479 : (Jvm.Cond.lays "PackedForest" "PackedForest" "grammar" "LPackedForest$Grammar;") ∈ lw_all := lw_g (lw_at lw_m2 40 rfl) rfl
theorem q480 : (Jvm.Cond.soleField "PackedForest" "grammar") ∈ lw_all := lw_g (lw_at lw_m2 41 rfl) rfl
theorem q481 : (Jvm.Cond.lays "PackedForest" "PackedForest" "struck" "I") ∈ lw_all := lw_g (lw_at lw_m2 42 rfl) rfl
theorem q482 : (Jvm.Cond.soleField "PackedForest" "struck") ∈ lw_all := lw_g (lw_at lw_m2 43 rfl) rfl
theorem q483 : (Jvm.Cond.lays "PackedForest" "PackedForest" "text" "[I") ∈ lw_all := lw_g (lw_at lw_m2 44 rfl) rfl
theorem q484 : (Jvm.Cond.soleField "PackedForest" "text") ∈ lw_all := lw_g (lw_at lw_m2 45 rfl) rfl
theorem q485 : (Jvm.Cond.lays "PackedForest" "PackedForest" "textMany" "I") ∈ lw_all := lw_g (lw_at lw_m2 46 rfl) rfl
theorem q486 : (Jvm.Cond.soleField "PackedForest" "textMany") ∈ lw_all := lw_g (lw_at lw_m2 47 rfl) rfl
theorem q487 : (Jvm.Cond.lays "PackedForest" "PackedForest" "filters" "I") ∈ lw_all := lw_g (lw_at lw_m2 48 rfl) rfl
theorem q488 : (Jvm.Cond.soleField "PackedForest" "filters") ∈ lw_all := lw_g (lw_at lw_m2 49 rfl) rfl
theorem q489 : (Jvm.Cond.lays "PackedForest" "PackedForest" "bans" "[I") ∈ lw_all := lw_g (lw_at lw_m2 50 rfl) rfl
theorem q490 : (Jvm.Cond.soleField "PackedForest" "bans") ∈ lw_all := lw_g (lw_at lw_m2 51 rfl) rfl
theorem q491 : (Jvm.Cond.lays "PackedForest" "PackedForest" "banMany" "I") ∈ lw_all := lw_g (lw_at lw_m2 52 rfl) rfl
theorem q492 : (Jvm.Cond.soleField "PackedForest" "banMany") ∈ lw_all := lw_g (lw_at lw_m2 53 rfl) rfl
theorem q493 : (Jvm.Cond.lays "PackedForest" "PackedForest" "acts" "[LPackedForest$Act;") ∈ lw_all := lw_g (lw_at lw_m2 54 rfl) rfl
theorem q494 : (Jvm.Cond.soleField "PackedForest" "acts") ∈ lw_all := lw_g (lw_at lw_m2 55 rfl) rfl
theorem q495 : (Jvm.Cond.lays "PackedForest" "PackedForest" "stepMany" "I") ∈ lw_all := lw_g (lw_at lw_m2 56 rfl) rfl
theorem q496 : (Jvm.Cond.soleField "PackedForest" "stepMany") ∈ lw_all := lw_g (lw_at lw_m2 57 rfl) rfl
theorem q497 : (Jvm.Cond.lays "PackedForest" "PackedForest" "x" "I") ∈ lw_all := lw_g (lw_at lw_m2 58 rfl) rfl
theorem q498 : (Jvm.Cond.soleField "PackedForest" "x") ∈ lw_all := lw_g (lw_at lw_m2 59 rfl) rfl
theorem q499 : (Jvm.Cond.laysFinal "PackedForest" "PackedForest" "bars" "[LPackedForest$Holder;") ∈ lw_all := lw_g (lw_at lw_m2 60 rfl) rfl
theorem q500 : (Jvm.Cond.soleField "PackedForest" "bars") ∈ lw_all := lw_g (lw_at lw_m2 61 rfl) rfl
theorem q501 : (Jvm.Cond.laysFinal "PackedForest" "PackedForest" "fault" "LPackedForest$Fault;") ∈ lw_all := lw_g (lw_at lw_m2 62 rfl) rfl
theorem q502 : (Jvm.Cond.soleField "PackedForest" "fault") ∈ lw_all := lw_g (lw_at lw_m2 63 rfl) rfl
theorem q503 : (Jvm.Cond.laysFinal "PackedForest" "PackedForest" "tape" "[B") ∈ lw_all := lw_g (lw_at lw_m2 64 rfl) rfl
theorem q504 : (Jvm.Cond.soleField "PackedForest" "tape") ∈ lw_all := lw_g (lw_at lw_m2 65 rfl) rfl
theorem q505 : (Jvm.Cond.lays "PackedForest" "PackedForest" "taped" "I") ∈ lw_all := lw_g (lw_at lw_m2 66 rfl) rfl
theorem q506 : (Jvm.Cond.soleField "PackedForest" "taped") ∈ lw_all := lw_g (lw_at lw_m2 67 rfl) rfl
theorem q507 : (Jvm.Cond.lays "PackedForest" "PackedForest" "empties" "I") ∈ lw_all := lw_g (lw_at lw_m2 68 rfl) rfl
theorem q508 : (Jvm.Cond.soleField "PackedForest" "empties") ∈ lw_all := lw_g (lw_at lw_m2 69 rfl) rfl
theorem q509 : (Jvm.Cond.lays "PackedForest" "PackedForest" "ending" "I") ∈ lw_all := lw_g (lw_at lw_m2 70 rfl) rfl
theorem q510 : (Jvm.Cond.soleField "PackedForest" "ending") ∈ lw_all := lw_g (lw_at lw_m2 71 rfl) rfl
theorem q511 : (Jvm.Cond.lays "PackedForest" "PackedForest" "reached" "I") ∈ lw_all := lw_g (lw_at lw_m2 72 rfl) rfl
theorem q512 : (Jvm.Cond.soleField "PackedForest" "reached") ∈ lw_all := lw_g (lw_at lw_m2 73 rfl) rfl
theorem q513 : (Jvm.Cond.lays "PackedForest" "PackedForest" "loops" "I") ∈ lw_all := lw_g (lw_at lw_m2 74 rfl) rfl
theorem q514 : (Jvm.Cond.soleField "PackedForest" "loops") ∈ lw_all := lw_g (lw_at lw_m2 75 rfl) rfl
theorem q515 : (Jvm.Cond.lays "PackedForest" "PackedForest" "recurs" "I") ∈ lw_all := lw_g (lw_at lw_m2 76 rfl) rfl
theorem q516 : (Jvm.Cond.soleField "PackedForest" "recurs") ∈ lw_all := lw_g (lw_at lw_m2 77 rfl) rfl
theorem q517 : (Jvm.Cond.laysFinal "PackedForest" "PackedForest" "firstOf" "[I") ∈ lw_all := lw_g (lw_at lw_m2 78 rfl) rfl
theorem q518 : (Jvm.Cond.soleField "PackedForest" "firstOf") ∈ lw_all := lw_g (lw_at lw_m2 79 rfl) rfl
theorem q519 : (Jvm.Cond.laysFinal "PackedForest" "PackedForest" "followOf" "[I") ∈ lw_all := lw_g (lw_at lw_m2 80 rfl) rfl
theorem q520 : (Jvm.Cond.soleField "PackedForest" "followOf") ∈ lw_all := lw_g (lw_at lw_m2 81 rfl) rfl
theorem q521 : (Jvm.Cond.laysFinal "PackedForest" "PackedForest" "shortOf" "[I") ∈ lw_all := lw_g (lw_at lw_m2 82 rfl) rfl
theorem q522 : (Jvm.Cond.soleField "PackedForest" "shortOf") ∈ lw_all := lw_g (lw_at lw_m2 83 rfl) rfl
theorem q523 : (Jvm.Cond.laysFinal "PackedForest" "PackedForest" "points" "[J") ∈ lw_all := lw_g (lw_at lw_m2 84 rfl) rfl
theorem q524 : (Jvm.Cond.soleField "PackedForest" "points") ∈ lw_all := lw_g (lw_at lw_m2 85 rfl) rfl
theorem q525 : (Jvm.Cond.laysFinal "PackedForest" "PackedForest" "goesTo" "[I") ∈ lw_all := lw_g (lw_at lw_m2 86 rfl) rfl
theorem q526 : (Jvm.Cond.soleField "PackedForest" "goesTo") ∈ lw_all := lw_g (lw_at lw_m2 87 rfl) rfl
theorem q527 : (Jvm.Cond.lays "PackedForest" "PackedForest" "stateMany" "I") ∈ lw_all := lw_g (lw_at lw_m2 88 rfl) rfl
theorem q528 : (Jvm.Cond.soleField "PackedForest" "stateMany") ∈ lw_all := lw_g (lw_at lw_m2 89 rfl) rfl
theorem q529 : (Jvm.Cond.lays "PackedForest" "PackedForest" "isStacked" "Z") ∈ lw_all := lw_g (lw_at lw_m2 90 rfl) rfl
theorem q530 : (Jvm.Cond.soleField "PackedForest" "isStacked") ∈ lw_all := lw_g (lw_at lw_m2 91 rfl) rfl
theorem q531 : (Jvm.Cond.lays "PackedForest" "PackedForest" "isCharted" "Z") ∈ lw_all := lw_g (lw_at lw_m2 92 rfl) rfl
theorem q532 : (Jvm.Cond.soleField "PackedForest" "isCharted") ∈ lw_all := lw_g (lw_at lw_m2 93 rfl) rfl
theorem q533 : (Jvm.Cond.laysFinal "PackedForest" "PackedForest" "fromOf" "[I") ∈ lw_all := lw_g (lw_at lw_m2 94 rfl) rfl
theorem q534 : (Jvm.Cond.soleField "PackedForest" "fromOf") ∈ lw_all := lw_g (lw_at lw_m2 95 rfl) rfl
theorem q535 : (Jvm.Cond.laysFinal "PackedForest" "PackedForest" "byOf" "[I") ∈ lw_all := lw_g (lw_at lw_m2 96 rfl) rfl
theorem q536 : (Jvm.Cond.soleField "PackedForest" "byOf") ∈ lw_all := lw_g (lw_at lw_m2 97 rfl) rfl
theorem q537 : (Jvm.Cond.laysFinal "PackedForest" "PackedForest" "toOf" "[I") ∈ lw_all := lw_g (lw_at lw_m2 98 rfl) rfl
theorem q538 : (Jvm.Cond.soleField "PackedForest" "toOf") ∈ lw_all := lw_g (lw_at lw_m2 99 rfl) rfl
theorem q539 : (Jvm.Cond.laysFinal "PackedForest" "PackedForest" "linkOf" "[I") ∈ lw_all := lw_g (lw_at lw_m2 100 rfl) rfl
theorem q540 : (Jvm.Cond.soleField "PackedForest" "linkOf") ∈ lw_all := lw_g (lw_at lw_m2 101 rfl) rfl
theorem q541 : (Jvm.Cond.laysFinal "PackedForest" "PackedForest" "aliveOf" "[I") ∈ lw_all := lw_g (lw_at lw_m2 102 rfl) rfl
theorem q542 : (Jvm.Cond.soleField "PackedForest" "aliveOf") ∈ lw_all := lw_g (lw_at lw_m2 103 rfl) rfl
theorem q543 : (Jvm.Cond.laysFinal "PackedForest" "PackedForest" "maskOf" "[I") ∈ lw_all := lw_g (lw_at lw_m2 104 rfl) rfl
theorem q544 : (Jvm.Cond.soleField "PackedForest" "maskOf") ∈ lw_all := lw_g (lw_at lw_m2 105 rfl) rfl
theorem q545 : (Jvm.Cond.laysFinal "PackedForest" "PackedForest" "maskThen" "[I") ∈ lw_all := lw_g (lw_at lw_m2 106 rfl) rfl
theorem q546 : (Jvm.Cond.soleField "PackedForest" "maskThen") ∈ lw_all := lw_g (lw_at lw_m2 107 rfl) rfl
theorem q547 : (Jvm.Cond.lays "PackedForest" "PackedForest" "goingMany" "I") ∈ lw_all := lw_g (lw_at lw_m2 108 rfl) rfl
theorem q548 : (Jvm.Cond.soleField "PackedForest" "goingMany") ∈ lw_all := lw_g (lw_at lw_m2 109 rfl) rfl
theorem q549 : (Jvm.Cond.lays "PackedForest" "PackedForest" "row" "[I") ∈ lw_all := lw_g (lw_at lw_m2 110 rfl) rfl
theorem q550 : (Jvm.Cond.soleField "PackedForest" "row") ∈ lw_all := lw_g (lw_at lw_m2 111 rfl) rfl
theorem q551 : (Jvm.Cond.lays "PackedForest" "PackedForest" "rowThen" "[I") ∈ lw_all := lw_g (lw_at lw_m2 112 rfl) rfl
theorem q552 : (Jvm.Cond.soleField "PackedForest" "rowThen") ∈ lw_all := lw_g (lw_at lw_m2 113 rfl) rfl
theorem q553 : (Jvm.Cond.laysFinal "PackedForest" "PackedForest" "derivesPart" "LPackedForest$Part;") ∈ lw_all := lw_g (lw_at lw_m2 114 rfl) rfl
theorem q554 : (Jvm.Cond.soleField "PackedForest" "derivesPart") ∈ lw_all := lw_g (lw_at lw_m2 115 rfl) rfl
theorem q555 : (Jvm.Cond.laysFinal "PackedForest" "PackedForest" "livesPart" "LPackedForest$Part;") ∈ lw_all := lw_g (lw_at lw_m2 116 rfl) rfl
theorem q556 : (Jvm.Cond.soleField "PackedForest" "livesPart") ∈ lw_all := lw_g (lw_at lw_m2 117 rfl) rfl
theorem q557 : (Jvm.Cond.laysFinal "PackedForest" "PackedForest" "treesPart" "LPackedForest$Part;") ∈ lw_all := lw_g (lw_at lw_m2 118 rfl) rfl
theorem q558 : (Jvm.Cond.soleField "PackedForest" "treesPart") ∈ lw_all := lw_g (lw_at lw_m2 119 rfl) rfl
theorem q559 : (Jvm.Cond.laysFinal "PackedForest" "PackedForest" "leastPart" "LPackedForest$Part;") ∈ lw_all := lw_g (lw_at lw_m2 120 rfl) rfl
theorem q560 : (Jvm.Cond.soleField "PackedForest" "leastPart") ∈ lw_all := lw_g (lw_at lw_m2 121 rfl) rfl
theorem q561 : (Jvm.Cond.laysFinal "PackedForest" "PackedForest" "costPart" "LPackedForest$Part;") ∈ lw_all := lw_g (lw_at lw_m2 122 rfl) rfl
theorem q562 : (Jvm.Cond.soleField "PackedForest" "costPart") ∈ lw_all := lw_g (lw_at lw_m2 123 rfl) rfl
theorem q563 : (Jvm.Cond.laysFinal "PackedForest" "PackedForest" "orFold" "LPackedForest$Fold;") ∈ lw_all := lw_g (lw_at lw_m2 124 rfl) rfl
theorem q564 : (Jvm.Cond.soleField "PackedForest" "orFold") ∈ lw_all := lw_g (lw_at lw_m2 125 rfl) rfl
theorem q565 : (Jvm.Cond.laysFinal "PackedForest" "PackedForest" "andFold" "LPackedForest$Fold;") ∈ lw_all := lw_g (lw_at lw_m2 126 rfl) rfl
theorem q566 : (Jvm.Cond.soleField "PackedForest" "andFold") ∈ lw_all := lw_g (lw_at lw_m2 127 rfl) rfl
theorem q567 : (Jvm.Cond.laysFinal "PackedForest" "PackedForest" "lesserFold" "LPackedForest$Fold;") ∈ lw_all := lw_g (lw_at lw_m2 128 rfl) rfl
theorem q568 : (Jvm.Cond.soleField "PackedForest" "lesserFold") ∈ lw_all := lw_g (lw_at lw_m2 129 rfl) rfl
theorem q569 : (Jvm.Cond.laysFinal "PackedForest" "PackedForest" "togetherFold" "LPackedForest$Fold;") ∈ lw_all := lw_g (lw_at lw_m2 130 rfl) rfl
theorem q570 : (Jvm.Cond.soleField "PackedForest" "togetherFold") ∈ lw_all := lw_g (lw_at lw_m2 131 rfl) rfl
theorem q571 : (Jvm.Cond.laysFinal "PackedForest" "PackedForest" "moreFold" "LPackedForest$Fold;") ∈ lw_all := lw_g (lw_at lw_m2 132 rfl) rfl
theorem q572 : (Jvm.Cond.soleField "PackedForest" "moreFold") ∈ lw_all := lw_g (lw_at lw_m2 133 rfl) rfl
theorem q573 : (Jvm.Cond.laysFinal "PackedForest" "PackedForest" "timesFold" "LPackedForest$Fold;") ∈ lw_all := lw_g (lw_at lw_m2 134 rfl) rfl
theorem q574 : (Jvm.Cond.soleField "PackedForest" "timesFold") ∈ lw_all := lw_g (lw_at lw_m2 135 rfl) rfl
theorem q575 : (Jvm.Cond.laysFinal "PackedForest" "PackedForest" "plainFold" "LPackedForest$Fold;") ∈ lw_all := lw_g (lw_at lw_m2 136 rfl) rfl
theorem q576 : (Jvm.Cond.soleField "PackedForest" "plainFold") ∈ lw_all := lw_g (lw_at lw_m2 137 rfl) rfl
theorem q577 : (Jvm.Cond.laysFinal "PackedForest" "PackedForest" "timesPlainFold" "LPackedForest$Fold;") ∈ lw_all := lw_g (lw_at lw_m2 138 rfl) rfl
theorem q578 : (Jvm.Cond.soleField "PackedForest" "timesPlainFold") ∈ lw_all := lw_g (lw_at lw_m2 139 rfl) rfl
theorem q579 : (Jvm.Cond.laysFinal "PackedForest" "PackedForest" "livesOf" "[Z") ∈ lw_all := lw_g (lw_at lw_m2 140 rfl) rfl
theorem q580 : (Jvm.Cond.soleField "PackedForest" "livesOf") ∈ lw_all := lw_g (lw_at lw_m2 141 rfl) rfl
theorem q581 : (Jvm.Cond.laysFinal "PackedForest" "PackedForest" "treesOf" "[I") ∈ lw_all := lw_g (lw_at lw_m2 142 rfl) rfl
theorem q582 : (Jvm.Cond.soleField "PackedForest" "treesOf") ∈ lw_all := lw_g (lw_at lw_m2 143 rfl) rfl
theorem q583 : (Jvm.Cond.laysFinal "PackedForest" "PackedForest" "leastOf" "[I") ∈ lw_all := lw_g (lw_at lw_m2 144 rfl) rfl
theorem q584 : (Jvm.Cond.soleField "PackedForest" "leastOf") ∈ lw_all := lw_g (lw_at lw_m2 145 rfl) rfl
theorem q585 : (Jvm.Cond.laysFinal "PackedForest" "PackedForest" "isPiece" "[Z") ∈ lw_all := lw_g (lw_at lw_m2 146 rfl) rfl
theorem q586 : (Jvm.Cond.soleField "PackedForest" "isPiece") ∈ lw_all := lw_g (lw_at lw_m2 147 rfl) rfl
theorem q587 : (Jvm.Cond.laysFinal "PackedForest" "PackedForest" "derivesOf" "[I") ∈ lw_all := lw_g (lw_at lw_m2 148 rfl) rfl
theorem q588 : (Jvm.Cond.soleField "PackedForest" "derivesOf") ∈ lw_all := lw_g (lw_at lw_m2 149 rfl) rfl
theorem q589 : (Jvm.Cond.laysFinal "PackedForest" "PackedForest" "costOf" "[I") ∈ lw_all := lw_g (lw_at lw_m2 150 rfl) rfl
theorem q590 : (Jvm.Cond.soleField "PackedForest" "costOf") ∈ lw_all := lw_g (lw_at lw_m2 151 rfl) rfl
theorem q591 : (Jvm.Cond.laysFinal "PackedForest" "PackedForest" "belowOf" "[I") ∈ lw_all := lw_g (lw_at lw_m2 152 rfl) rfl
theorem q592 : (Jvm.Cond.soleField "PackedForest" "belowOf") ∈ lw_all := lw_g (lw_at lw_m2 153 rfl) rfl
theorem q593 : (Jvm.Cond.laysFinal "PackedForest" "PackedForest" "waiting" "[I") ∈ lw_all := lw_g (lw_at lw_m2 154 rfl) rfl
theorem q594 : (Jvm.Cond.soleField "PackedForest" "waiting") ∈ lw_all := lw_g (lw_at lw_m2 155 rfl) rfl
theorem q595 : (Jvm.Cond.lays "PackedForest" "PackedForest" "waitMany" "I") ∈ lw_all := lw_g (lw_at lw_m2 156 rfl) rfl
theorem q596 : (Jvm.Cond.soleField "PackedForest" "waitMany") ∈ lw_all := lw_g (lw_at lw_m2 157 rfl) rfl
theorem q597 : (Jvm.Cond.lays "PackedForest" "PackedForest" "nodes" "I") ∈ lw_all := lw_g (lw_at lw_m2 158 rfl) rfl
theorem q598 : (Jvm.Cond.soleField "PackedForest" "nodes") ∈ lw_all := lw_g (lw_at lw_m2 159 rfl) rfl
theorem q599 : (Jvm.Cond.lays "PackedForest" "PackedForest" "ambiguous" "I") ∈ lw_all := lw_g (lw_at lw_m2 160 rfl) rfl
theorem q600 : (Jvm.Cond.soleField "PackedForest" "ambiguous") ∈ lw_all := lw_g (lw_at lw_m2 161 rfl) rfl
theorem q601 : (Jvm.Cond.lays "PackedForest" "PackedForest" "narrow" "I") ∈ lw_all := lw_g (lw_at lw_m2 162 rfl) rfl
theorem q602 : (Jvm.Cond.soleField "PackedForest" "narrow") ∈ lw_all := lw_g (lw_at lw_m2 163 rfl) rfl
theorem q603 : (Jvm.Cond.lays "PackedForest" "PackedForest" "drawX" "I") ∈ lw_all := lw_g (lw_at lw_m2 164 rfl) rfl
theorem q604 : (Jvm.Cond.soleField "PackedForest" "drawX") ∈ lw_all := lw_g (lw_at lw_m2 165 rfl) rfl
theorem q605 : (Jvm.Cond.laysFinal "PackedForest" "PackedForest" "spoken" "[I") ∈ lw_all := lw_g (lw_at lw_m2 166 rfl) rfl
theorem q606 : (Jvm.Cond.soleField "PackedForest" "spoken") ∈ lw_all := lw_g (lw_at lw_m2 167 rfl) rfl
theorem q607 : (Jvm.Cond.lays "PackedForest" "PackedForest" "spokenMany" "I") ∈ lw_all := lw_g (lw_at lw_m2 168 rfl) rfl
theorem q608 : (Jvm.Cond.soleField "PackedForest" "spokenMany") ∈ lw_all := lw_g (lw_at lw_m2 169 rfl) rfl
theorem q609 : (Jvm.Cond.laysFinal "PackedForest" "PackedForest" "images" "[LPackedForest$Image;") ∈ lw_all := lw_g (lw_at lw_m2 170 rfl) rfl
theorem q610 : (Jvm.Cond.soleField "PackedForest" "images") ∈ lw_all := lw_g (lw_at lw_m2 171 rfl) rfl
theorem q611 : (Jvm.Cond.superclass "PackedForest" "java/lang/Object") ∈ lw_all := lw_g (lw_at lw_m2 172 rfl) rfl
theorem q613 : (Jvm.Cond.instanceMethod ({ cls := "PackedForest", name := "feed", desc := "(IIIII)I" } : Jvm.MethodName)) ∈ lw_all := lw_g (lw_at lw_m2 174 rfl) rfl
theorem q614 : (Jvm.Cond.selects "PackedForest" ({ cls := "PackedForest", name := "feed", desc := "(IIIII)I" } : Jvm.MethodName) ({ cls := "PackedForest", name := "feed", desc := "(IIIII)I" } : Jvm.MethodName)) ∈ lw_all := lw_g (lw_at lw_m2 175 rfl) rfl
theorem q615 : (Jvm.Cond.code ({ cls := "PackedForest", name := "feed", desc := "(IIIII)I" } : Jvm.MethodName) prog_1_method_17_code (6 : Nat) (Option.some Jvm.ClassFile.FieldType.int)) ∈ lw_all := lw_g (lw_at lw_m2 176 rfl) rfl
theorem q616 : (Jvm.Cond.methodLink "PackedForest" (254 : Nat) ({ cls := "PackedForest", name := "four", desc := "(I)V" } : Jvm.MethodName)) ∈ lw_all := lw_g (lw_at lw_m2 177 rfl) rfl
theorem q617 : (Jvm.Cond.privateMethod ({ cls := "PackedForest", name := "four", desc := "(I)V" } : Jvm.MethodName)) ∈ lw_tbl := lw_at lw_m2 178 rfl
theorem q618 : (Jvm.Cond.instanceMethod ({ cls := "PackedForest", name := "four", desc := "(I)V" } : Jvm.MethodName)) ∈ lw_all := lw_g (lw_at lw_m2 179 rfl) rfl
theorem q619 : (Jvm.Cond.code ({ cls := "PackedForest", name := "four", desc := "(I)V" } : Jvm.MethodName) prog_1_method_18_code (3 : Nat) (Option.none : Option Jvm.ClassFile.FieldType)) ∈ lw_all := lw_g (lw_at lw_m2 180 rfl) rfl
theorem q621 : (Jvm.Cond.instanceMethod ({ cls := "PackedForest", name := "end", desc := "(I)I" } : Jvm.MethodName)) ∈ lw_all := lw_g (lw_at lw_m2 182 rfl) rfl
theorem q622 : (Jvm.Cond.selects "PackedForest" ({ cls := "PackedForest", name := "end", desc := "(I)I" } : Jvm.MethodName) ({ cls := "PackedForest", name := "end", desc := "(I)I" } : Jvm.MethodName)) ∈ lw_all := lw_g (lw_at lw_m2 183 rfl) rfl
theorem q623 : (Jvm.Cond.code ({ cls := "PackedForest", name := "end", desc := "(I)I" } : Jvm.MethodName) prog_1_method_19_code (2 : Nat) (Option.some Jvm.ClassFile.FieldType.int)) ∈ lw_all := lw_g (lw_at lw_m2 184 rfl) rfl
theorem q625 : (Jvm.Cond.instanceMethod ({ cls := "PackedForest", name := "grammar", desc := "()I" } : Jvm.MethodName)) ∈ lw_all := lw_g (lw_at lw_m2 186 rfl) rfl
theorem q626 : (Jvm.Cond.selects "PackedForest" ({ cls := "PackedForest", name := "grammar", desc := "()I" } : Jvm.MethodName) ({ cls := "PackedForest", name := "grammar", desc := "()I" } : Jvm.MethodName)) ∈ lw_all := lw_g (lw_at lw_m2 187 rfl) rfl
theorem q627 : (Jvm.Cond.codeWith ({ cls := "PackedForest", name := "grammar", desc := "()I" } : Jvm.MethodName) prog_1_method_22_code (3 : Nat) (Option.some Jvm.ClassFile.FieldType.int) [((0 : Nat), (5 : Nat), (8 : Nat), (42 : Nat))]) ∈ lw_all := lw_g (lw_at lw_m2 188 rfl) rfl
theorem q628 : (Jvm.Cond.methodLink "PackedForest" (291 : Nat) ({ cls := "PackedForest", name := "toldHere", desc := "()I" } : Jvm.MethodName)) ∈ lw_all := lw_g (lw_at lw_m2 189 rfl) rfl
theorem q629 : (Jvm.Cond.privateMethod ({ cls := "PackedForest", name := "toldHere", desc := "()I" } : Jvm.MethodName)) ∈ lw_tbl := lw_at lw_m2 190 rfl
theorem q630 : (Jvm.Cond.instanceMethod ({ cls := "PackedForest", name := "toldHere", desc := "()I" } : Jvm.MethodName)) ∈ lw_all := lw_g (lw_at lw_m2 191 rfl) rfl
theorem q631 : (Jvm.Cond.code ({ cls := "PackedForest", name := "toldHere", desc := "()I" } : Jvm.MethodName) prog_1_method_21_code (4 : Nat) (Option.some Jvm.ClassFile.FieldType.int)) ∈ lw_all := lw_g (lw_at lw_m2 192 rfl) rfl
theorem q632 : (Jvm.Cond.classLink "PackedForest" (272 : Nat) "PackedForest$Reader") ∈ lw_all := lw_g (lw_at lw_m2 193 rfl) rfl
theorem q634 : (Jvm.Cond.methodLinkNest "PackedForest" (274 : Nat) ({ cls := "PackedForest$Reader", name := "<init>", desc := "(LPackedForest;)V" } : Jvm.MethodName) "PackedForest") ∈ lw_tbl := lw_at lw_m2 195 rfl
theorem q645 : (Jvm.Cond.fieldLinkNest "PackedForest" (203 : Nat) "PackedForest$Grammar" "many" "I" "PackedForest") ∈ lw_tbl := lw_at lw_m2 206 rfl
theorem q647 : (Jvm.Cond.fieldLinkNest "PackedForest" (223 : Nat) "PackedForest$Grammar" "lefts" "I" "PackedForest") ∈ lw_tbl := lw_at lw_m2 208 rfl
theorem q649 : (Jvm.Cond.fieldLinkNest "PackedForest" (358 : Nat) "PackedForest$Grammar" "start" "I" "PackedForest") ∈ lw_tbl := lw_at lw_m2 210 rfl
theorem q652 : (Jvm.Cond.fieldLinkNest "PackedForest" (305 : Nat) "PackedForest$Grammar" "left" "[I" "PackedForest") ∈ lw_tbl := lw_at lw_m2 213 rfl
theorem q656 : (Jvm.Cond.fieldLinkNest "PackedForest" (232 : Nat) "PackedForest$Grammar" "size" "[I" "PackedForest") ∈ lw_tbl := lw_at lw_m2 217 rfl
theorem q659 : (Jvm.Cond.fieldLinkNest "PackedForest" (226 : Nat) "PackedForest$Grammar" "rank" "[I" "PackedForest") ∈ lw_tbl := lw_at lw_m2 220 rfl
theorem q662 : (Jvm.Cond.fieldLinkNest "PackedForest" (229 : Nat) "PackedForest$Grammar" "side" "[I" "PackedForest") ∈ lw_tbl := lw_at lw_m2 223 rfl
theorem q696 : (Jvm.Cond.methodLink "PackedForest" (277 : Nat) ({ cls := "PackedForest$Reader", name := "told", desc := "()LPackedForest$Grammar;" } : Jvm.MethodName)) ∈ lw_all := lw_g (lw_at lw_m3 17 rfl) rfl
theorem q719 : (Jvm.Cond.static ({ cls := "PackedForest", name := "in", desc := "(JJJ)Z" } : Jvm.MethodName)) ∈ lw_all := lw_g (lw_at lw_m3 40 rfl) rfl
theorem q720 : (Jvm.Cond.code ({ cls := "PackedForest", name := "in", desc := "(JJJ)Z" } : Jvm.MethodName) prog_1_method_1_code (6 : Nat) (Option.some Jvm.ClassFile.FieldType.boolean)) ∈ lw_all := lw_g (lw_at lw_m3 41 rfl) rfl
theorem q754 : (Jvm.Cond.methodLink "PackedForest" (281 : Nat) ({ cls := "PackedForest", name := "settles", desc := "(LPackedForest$Grammar;I)Z" } : Jvm.MethodName)) ∈ lw_all := lw_g (lw_at lw_m3 75 rfl) rfl
theorem q755 : (Jvm.Cond.privateMethod ({ cls := "PackedForest", name := "settles", desc := "(LPackedForest$Grammar;I)Z" } : Jvm.MethodName)) ∈ lw_tbl := lw_at lw_m3 76 rfl
theorem q756 : (Jvm.Cond.instanceMethod ({ cls := "PackedForest", name := "settles", desc := "(LPackedForest$Grammar;I)Z" } : Jvm.MethodName)) ∈ lw_all := lw_g (lw_at lw_m3 77 rfl) rfl
theorem q757 : (Jvm.Cond.code ({ cls := "PackedForest", name := "settles", desc := "(LPackedForest$Grammar;I)Z" } : Jvm.MethodName) prog_1_method_20_code (3 : Nat) (Option.some Jvm.ClassFile.FieldType.boolean)) ∈ lw_all := lw_g (lw_at lw_m3 78 rfl) rfl
theorem q758 : (Jvm.Cond.methodLink "PackedForest" (265 : Nat) ({ cls := "PackedForest", name := "gathersFacts", desc := "()V" } : Jvm.MethodName)) ∈ lw_all := lw_g (lw_at lw_m3 79 rfl) rfl
theorem q759 : (Jvm.Cond.privateMethod ({ cls := "PackedForest", name := "gathersFacts", desc := "()V" } : Jvm.MethodName)) ∈ lw_tbl := lw_at lw_m3 80 rfl
theorem q760 : (Jvm.Cond.instanceMethod ({ cls := "PackedForest", name := "gathersFacts", desc := "()V" } : Jvm.MethodName)) ∈ lw_all := lw_g (lw_at lw_m3 81 rfl) rfl
theorem q761 : (Jvm.Cond.code ({ cls := "PackedForest", name := "gathersFacts", desc := "()V" } : Jvm.MethodName) prog_1_method_35_code (3 : Nat) (Option.none : Option Jvm.ClassFile.FieldType)) ∈ lw_all := lw_g (lw_at lw_m3 82 rfl) rfl
theorem q762 : (Jvm.Cond.constant "PackedForest" (367 : Nat) (67108864 : Int32)) ∈ lw_all := lw_g (lw_at lw_m3 83 rfl) rfl
theorem q763 : (Jvm.Cond.methodLink "PackedForest" (368 : Nat) ({ cls := "PackedForest", name := "adds", desc := "(I)Z" } : Jvm.MethodName)) ∈ lw_all := lw_g (lw_at lw_m3 84 rfl) rfl
theorem q764 : (Jvm.Cond.privateMethod ({ cls := "PackedForest", name := "adds", desc := "(I)Z" } : Jvm.MethodName)) ∈ lw_tbl := lw_at lw_m3 85 rfl
theorem q765 : (Jvm.Cond.instanceMethod ({ cls := "PackedForest", name := "adds", desc := "(I)Z" } : Jvm.MethodName)) ∈ lw_all := lw_g (lw_at lw_m3 86 rfl) rfl
theorem q766 : (Jvm.Cond.code ({ cls := "PackedForest", name := "adds", desc := "(I)Z" } : Jvm.MethodName) prog_1_method_31_code (5 : Nat) (Option.some Jvm.ClassFile.FieldType.boolean)) ∈ lw_all := lw_g (lw_at lw_m3 87 rfl) rfl
theorem q767 : (Jvm.Cond.methodLink "PackedForest" (326 : Nat) ({ cls := "java/lang/Integer", name := "bitCount", desc := "(I)I" } : Jvm.MethodName)) ∈ lw_all := lw_g (lw_at lw_m3 88 rfl) rfl
theorem q768 : (Jvm.Cond.methodLink "PackedForest" (333 : Nat) ({ cls := "PackedForest", name := "areEmpty", desc := "(III)Z" } : Jvm.MethodName)) ∈ lw_all := lw_g (lw_at lw_m3 89 rfl) rfl
theorem q769 : (Jvm.Cond.privateMethod ({ cls := "PackedForest", name := "areEmpty", desc := "(III)Z" } : Jvm.MethodName)) ∈ lw_tbl := lw_at lw_m3 90 rfl
theorem q770 : (Jvm.Cond.instanceMethod ({ cls := "PackedForest", name := "areEmpty", desc := "(III)Z" } : Jvm.MethodName)) ∈ lw_all := lw_g (lw_at lw_m3 91 rfl) rfl
theorem q771 : (Jvm.Cond.code ({ cls := "PackedForest", name := "areEmpty", desc := "(III)Z" } : Jvm.MethodName) prog_1_method_26_code (5 : Nat) (Option.some Jvm.ClassFile.FieldType.boolean)) ∈ lw_all := lw_g (lw_at lw_m3 92 rfl) rfl
theorem q772 : (Jvm.Cond.methodLink "PackedForest" (317 : Nat) ({ cls := "PackedForest", name := "isEmpty", desc := "(I)Z" } : Jvm.MethodName)) ∈ lw_all := lw_g (lw_at lw_m3 93 rfl) rfl
theorem q773 : (Jvm.Cond.privateMethod ({ cls := "PackedForest", name := "isEmpty", desc := "(I)Z" } : Jvm.MethodName)) ∈ lw_tbl := lw_at lw_m3 94 rfl
theorem q774 : (Jvm.Cond.instanceMethod ({ cls := "PackedForest", name := "isEmpty", desc := "(I)Z" } : Jvm.MethodName)) ∈ lw_all := lw_g (lw_at lw_m3 95 rfl) rfl
theorem q775 : (Jvm.Cond.code ({ cls := "PackedForest", name := "isEmpty", desc := "(I)Z" } : Jvm.MethodName) prog_1_method_25_code (2 : Nat) (Option.some Jvm.ClassFile.FieldType.boolean)) ∈ lw_all := lw_g (lw_at lw_m3 96 rfl) rfl
theorem q776 : (Jvm.Cond.methodLink "PackedForest" (336 : Nat) ({ cls := "PackedForest", name := "doEnd", desc := "(I)Z" } : Jvm.MethodName)) ∈ lw_all := lw_g (lw_at lw_m3 97 rfl) rfl
theorem q777 : (Jvm.Cond.privateMethod ({ cls := "PackedForest", name := "doEnd", desc := "(I)Z" } : Jvm.MethodName)) ∈ lw_tbl := lw_at lw_m3 98 rfl
theorem q778 : (Jvm.Cond.instanceMethod ({ cls := "PackedForest", name := "doEnd", desc := "(I)Z" } : Jvm.MethodName)) ∈ lw_all := lw_g (lw_at lw_m3 99 rfl) rfl
theorem q779 : (Jvm.Cond.code ({ cls := "PackedForest", name := "doEnd", desc := "(I)Z" } : Jvm.MethodName) prog_1_method_27_code (3 : Nat) (Option.some Jvm.ClassFile.FieldType.boolean)) ∈ lw_all := lw_g (lw_at lw_m3 100 rfl) rfl
theorem q780 : (Jvm.Cond.methodLink "PackedForest" (339 : Nat) ({ cls := "PackedForest", name := "rightCapitals", desc := "(I)I" } : Jvm.MethodName)) ∈ lw_all := lw_g (lw_at lw_m3 101 rfl) rfl
theorem q781 : (Jvm.Cond.privateMethod ({ cls := "PackedForest", name := "rightCapitals", desc := "(I)I" } : Jvm.MethodName)) ∈ lw_tbl := lw_at lw_m3 102 rfl
theorem q782 : (Jvm.Cond.instanceMethod ({ cls := "PackedForest", name := "rightCapitals", desc := "(I)I" } : Jvm.MethodName)) ∈ lw_all := lw_g (lw_at lw_m3 103 rfl) rfl
theorem q783 : (Jvm.Cond.code ({ cls := "PackedForest", name := "rightCapitals", desc := "(I)I" } : Jvm.MethodName) prog_1_method_28_code (4 : Nat) (Option.some Jvm.ClassFile.FieldType.int)) ∈ lw_all := lw_g (lw_at lw_m3 104 rfl) rfl
theorem q784 : (Jvm.Cond.methodLink "PackedForest" (342 : Nat) ({ cls := "PackedForest", name := "firstsFrom", desc := "(II)I" } : Jvm.MethodName)) ∈ lw_all := lw_g (lw_at lw_m3 105 rfl) rfl
theorem q785 : (Jvm.Cond.privateMethod ({ cls := "PackedForest", name := "firstsFrom", desc := "(II)I" } : Jvm.MethodName)) ∈ lw_tbl := lw_at lw_m3 106 rfl
theorem q786 : (Jvm.Cond.instanceMethod ({ cls := "PackedForest", name := "firstsFrom", desc := "(II)I" } : Jvm.MethodName)) ∈ lw_all := lw_g (lw_at lw_m3 107 rfl) rfl
theorem q787 : (Jvm.Cond.code ({ cls := "PackedForest", name := "firstsFrom", desc := "(II)I" } : Jvm.MethodName) prog_1_method_29_code (6 : Nat) (Option.some Jvm.ClassFile.FieldType.int)) ∈ lw_all := lw_g (lw_at lw_m3 108 rfl) rfl
theorem q788 : (Jvm.Cond.methodLink "PackedForest" (345 : Nat) ({ cls := "PackedForest", name := "shortBy", desc := "(I)I" } : Jvm.MethodName)) ∈ lw_all := lw_g (lw_at lw_m3 109 rfl) rfl
theorem q789 : (Jvm.Cond.privateMethod ({ cls := "PackedForest", name := "shortBy", desc := "(I)I" } : Jvm.MethodName)) ∈ lw_tbl := lw_at lw_m3 110 rfl
theorem q790 : (Jvm.Cond.instanceMethod ({ cls := "PackedForest", name := "shortBy", desc := "(I)I" } : Jvm.MethodName)) ∈ lw_all := lw_g (lw_at lw_m3 111 rfl) rfl
theorem q791 : (Jvm.Cond.code ({ cls := "PackedForest", name := "shortBy", desc := "(I)I" } : Jvm.MethodName) prog_1_method_30_code (4 : Nat) (Option.some Jvm.ClassFile.FieldType.int)) ∈ lw_all := lw_g (lw_at lw_m3 112 rfl) rfl
theorem q792 : (Jvm.Cond.methodLink "PackedForest" (323 : Nat) ({ cls := "PackedForest", name := "together", desc := "(II)I" } : Jvm.MethodName)) ∈ lw_all := lw_g (lw_at lw_m3 113 rfl) rfl
theorem q793 : (Jvm.Cond.methodLink "PackedForest" (371 : Nat) ({ cls := "PackedForest", name := "addsFollow", desc := "(I)Z" } : Jvm.MethodName)) ∈ lw_all := lw_g (lw_at lw_m3 114 rfl) rfl
theorem q794 : (Jvm.Cond.privateMethod ({ cls := "PackedForest", name := "addsFollow", desc := "(I)Z" } : Jvm.MethodName)) ∈ lw_tbl := lw_at lw_m3 115 rfl
theorem q795 : (Jvm.Cond.instanceMethod ({ cls := "PackedForest", name := "addsFollow", desc := "(I)Z" } : Jvm.MethodName)) ∈ lw_all := lw_g (lw_at lw_m3 116 rfl) rfl
theorem q796 : (Jvm.Cond.code ({ cls := "PackedForest", name := "addsFollow", desc := "(I)Z" } : Jvm.MethodName) prog_1_method_32_code (7 : Nat) (Option.some Jvm.ClassFile.FieldType.boolean)) ∈ lw_all := lw_g (lw_at lw_m3 117 rfl) rfl
theorem q797 : (Jvm.Cond.methodLink "PackedForest" (374 : Nat) ({ cls := "PackedForest", name := "comesBack", desc := "(IZ)Z" } : Jvm.MethodName)) ∈ lw_all := lw_g (lw_at lw_m3 118 rfl) rfl
theorem q798 : (Jvm.Cond.privateMethod ({ cls := "PackedForest", name := "comesBack", desc := "(IZ)Z" } : Jvm.MethodName)) ∈ lw_tbl := lw_at lw_m3 119 rfl
theorem q799 : (Jvm.Cond.instanceMethod ({ cls := "PackedForest", name := "comesBack", desc := "(IZ)Z" } : Jvm.MethodName)) ∈ lw_all := lw_g (lw_at lw_m3 120 rfl) rfl
theorem q800 : (Jvm.Cond.code ({ cls := "PackedForest", name := "comesBack", desc := "(IZ)Z" } : Jvm.MethodName) prog_1_method_34_code (6 : Nat) (Option.some Jvm.ClassFile.FieldType.boolean)) ∈ lw_all := lw_g (lw_at lw_m3 121 rfl) rfl
theorem q801 : (Jvm.Cond.methodLink "PackedForest" (354 : Nat) ({ cls := "PackedForest", name := "stepsFrom", desc := "(IZ)I" } : Jvm.MethodName)) ∈ lw_all := lw_g (lw_at lw_m3 122 rfl) rfl
theorem q802 : (Jvm.Cond.privateMethod ({ cls := "PackedForest", name := "stepsFrom", desc := "(IZ)I" } : Jvm.MethodName)) ∈ lw_tbl := lw_at lw_m3 123 rfl
theorem q803 : (Jvm.Cond.instanceMethod ({ cls := "PackedForest", name := "stepsFrom", desc := "(IZ)I" } : Jvm.MethodName)) ∈ lw_all := lw_g (lw_at lw_m3 124 rfl) rfl
theorem q804 : (Jvm.Cond.code ({ cls := "PackedForest", name := "stepsFrom", desc := "(IZ)I" } : Jvm.MethodName) prog_1_method_33_code (6 : Nat) (Option.some Jvm.ClassFile.FieldType.int)) ∈ lw_all := lw_g (lw_at lw_m3 125 rfl) rfl
theorem q805 : (Jvm.Cond.methodLink "PackedForest" (268 : Nat) ({ cls := "PackedForest", name := "makesStates", desc := "()Z" } : Jvm.MethodName)) ∈ lw_all := lw_g (lw_at lw_m3 126 rfl) rfl
theorem q806 : (Jvm.Cond.privateMethod ({ cls := "PackedForest", name := "makesStates", desc := "()Z" } : Jvm.MethodName)) ∈ lw_tbl := lw_at lw_m3 127 rfl
theorem q807 : (Jvm.Cond.instanceMethod ({ cls := "PackedForest", name := "makesStates", desc := "()Z" } : Jvm.MethodName)) ∈ lw_all := lw_g (lw_at lw_m3 128 rfl) rfl
theorem q808 : (Jvm.Cond.code ({ cls := "PackedForest", name := "makesStates", desc := "()Z" } : Jvm.MethodName) prog_1_method_47_code (5 : Nat) (Option.some Jvm.ClassFile.FieldType.boolean)) ∈ lw_all := lw_g (lw_at lw_m3 129 rfl) rfl
theorem q809 : (Jvm.Cond.methodLink "PackedForest" (391 : Nat) ({ cls := "PackedForest", name := "rulesOf", desc := "(I)J" } : Jvm.MethodName)) ∈ lw_all := lw_g (lw_at lw_m3 130 rfl) rfl
theorem q810 : (Jvm.Cond.privateMethod ({ cls := "PackedForest", name := "rulesOf", desc := "(I)J" } : Jvm.MethodName)) ∈ lw_tbl := lw_at lw_m3 131 rfl
theorem q811 : (Jvm.Cond.instanceMethod ({ cls := "PackedForest", name := "rulesOf", desc := "(I)J" } : Jvm.MethodName)) ∈ lw_all := lw_g (lw_at lw_m3 132 rfl) rfl
theorem q812 : (Jvm.Cond.code ({ cls := "PackedForest", name := "rulesOf", desc := "(I)J" } : Jvm.MethodName) prog_1_method_42_code (5 : Nat) (Option.some Jvm.ClassFile.FieldType.long)) ∈ lw_all := lw_g (lw_at lw_m3 133 rfl) rfl
theorem q813 : (Jvm.Cond.methodLink "PackedForest" (381 : Nat) ({ cls := "PackedForest", name := "pointOf", desc := "(II)J" } : Jvm.MethodName)) ∈ lw_all := lw_g (lw_at lw_m3 134 rfl) rfl
theorem q814 : (Jvm.Cond.static ({ cls := "PackedForest", name := "pointOf", desc := "(II)J" } : Jvm.MethodName)) ∈ lw_all := lw_g (lw_at lw_m3 135 rfl) rfl
theorem q815 : (Jvm.Cond.code ({ cls := "PackedForest", name := "pointOf", desc := "(II)J" } : Jvm.MethodName) prog_1_method_40_code (2 : Nat) (Option.some Jvm.ClassFile.FieldType.long)) ∈ lw_all := lw_g (lw_at lw_m3 136 rfl) rfl
theorem q816 : (Jvm.Cond.methodLink "PackedForest" (395 : Nat) ({ cls := "PackedForest", name := "closed", desc := "(J)J" } : Jvm.MethodName)) ∈ lw_all := lw_g (lw_at lw_m3 137 rfl) rfl
theorem q817 : (Jvm.Cond.privateMethod ({ cls := "PackedForest", name := "closed", desc := "(J)J" } : Jvm.MethodName)) ∈ lw_tbl := lw_at lw_m3 138 rfl
theorem q818 : (Jvm.Cond.instanceMethod ({ cls := "PackedForest", name := "closed", desc := "(J)J" } : Jvm.MethodName)) ∈ lw_all := lw_g (lw_at lw_m3 139 rfl) rfl
theorem q819 : (Jvm.Cond.code ({ cls := "PackedForest", name := "closed", desc := "(J)J" } : Jvm.MethodName) prog_1_method_43_code (9 : Nat) (Option.some Jvm.ClassFile.FieldType.long)) ∈ lw_all := lw_g (lw_at lw_m3 140 rfl) rfl
theorem q820 : (Jvm.Cond.constantLong "PackedForest" (385 : Nat) (-1 : Int64)) ∈ lw_all := lw_g (lw_at lw_m3 141 rfl) rfl
theorem q821 : (Jvm.Cond.methodLink "PackedForest" (387 : Nat) ({ cls := "PackedForest", name := "hasPoint", desc := "(JII)Z" } : Jvm.MethodName)) ∈ lw_all := lw_g (lw_at lw_m3 142 rfl) rfl
theorem q822 : (Jvm.Cond.privateMethod ({ cls := "PackedForest", name := "hasPoint", desc := "(JII)Z" } : Jvm.MethodName)) ∈ lw_tbl := lw_at lw_m3 143 rfl
theorem q823 : (Jvm.Cond.instanceMethod ({ cls := "PackedForest", name := "hasPoint", desc := "(JII)Z" } : Jvm.MethodName)) ∈ lw_all := lw_g (lw_at lw_m3 144 rfl) rfl
theorem q824 : (Jvm.Cond.code ({ cls := "PackedForest", name := "hasPoint", desc := "(JII)Z" } : Jvm.MethodName) prog_1_method_41_code (5 : Nat) (Option.some Jvm.ClassFile.FieldType.boolean)) ∈ lw_all := lw_g (lw_at lw_m3 145 rfl) rfl
theorem q825 : (Jvm.Cond.methodLink "PackedForest" (402 : Nat) ({ cls := "PackedForest", name := "numberOf", desc := "(J)I" } : Jvm.MethodName)) ∈ lw_all := lw_g (lw_at lw_m3 146 rfl) rfl
theorem q826 : (Jvm.Cond.privateMethod ({ cls := "PackedForest", name := "numberOf", desc := "(J)I" } : Jvm.MethodName)) ∈ lw_tbl := lw_at lw_m3 147 rfl
theorem q827 : (Jvm.Cond.instanceMethod ({ cls := "PackedForest", name := "numberOf", desc := "(J)I" } : Jvm.MethodName)) ∈ lw_all := lw_g (lw_at lw_m3 148 rfl) rfl
theorem q828 : (Jvm.Cond.code ({ cls := "PackedForest", name := "numberOf", desc := "(J)I" } : Jvm.MethodName) prog_1_method_45_code (4 : Nat) (Option.some Jvm.ClassFile.FieldType.int)) ∈ lw_all := lw_g (lw_at lw_m3 149 rfl) rfl
theorem q829 : (Jvm.Cond.methodLink "PackedForest" (406 : Nat) ({ cls := "PackedForest", name := "symbolOf", desc := "(I)I" } : Jvm.MethodName)) ∈ lw_all := lw_g (lw_at lw_m3 150 rfl) rfl
theorem q830 : (Jvm.Cond.static ({ cls := "PackedForest", name := "symbolOf", desc := "(I)I" } : Jvm.MethodName)) ∈ lw_all := lw_g (lw_at lw_m3 151 rfl) rfl
theorem q831 : (Jvm.Cond.code ({ cls := "PackedForest", name := "symbolOf", desc := "(I)I" } : Jvm.MethodName) prog_1_method_46_code (1 : Nat) (Option.some Jvm.ClassFile.FieldType.int)) ∈ lw_all := lw_g (lw_at lw_m3 152 rfl) rfl
theorem q832 : (Jvm.Cond.methodLink "PackedForest" (409 : Nat) ({ cls := "PackedForest", name := "behind", desc := "(JI)J" } : Jvm.MethodName)) ∈ lw_all := lw_g (lw_at lw_m3 153 rfl) rfl
theorem q833 : (Jvm.Cond.privateMethod ({ cls := "PackedForest", name := "behind", desc := "(JI)J" } : Jvm.MethodName)) ∈ lw_tbl := lw_at lw_m3 154 rfl
theorem q834 : (Jvm.Cond.instanceMethod ({ cls := "PackedForest", name := "behind", desc := "(JI)J" } : Jvm.MethodName)) ∈ lw_all := lw_g (lw_at lw_m3 155 rfl) rfl
theorem q835 : (Jvm.Cond.code ({ cls := "PackedForest", name := "behind", desc := "(JI)J" } : Jvm.MethodName) prog_1_method_44_code (8 : Nat) (Option.some Jvm.ClassFile.FieldType.long)) ∈ lw_all := lw_g (lw_at lw_m3 156 rfl) rfl
theorem q837 : (Jvm.Cond.instanceMethod ({ cls := "PackedForest", name := "rule", desc := "(II)I" } : Jvm.MethodName)) ∈ lw_all := lw_g (lw_at lw_m3 158 rfl) rfl
theorem q838 : (Jvm.Cond.selects "PackedForest" ({ cls := "PackedForest", name := "rule", desc := "(II)I" } : Jvm.MethodName) ({ cls := "PackedForest", name := "rule", desc := "(II)I" } : Jvm.MethodName)) ∈ lw_all := lw_g (lw_at lw_m3 159 rfl) rfl
theorem q839 : (Jvm.Cond.code ({ cls := "PackedForest", name := "rule", desc := "(II)I" } : Jvm.MethodName) prog_1_method_23_code (3 : Nat) (Option.some Jvm.ClassFile.FieldType.int)) ∈ lw_all := lw_g (lw_at lw_m3 160 rfl) rfl
theorem q840 : (Jvm.Cond.methodLink "PackedForest" (301 : Nat) ({ cls := "PackedForest", name := "isRule", desc := "(I)Z" } : Jvm.MethodName)) ∈ lw_all := lw_g (lw_at lw_m3 161 rfl) rfl
theorem q841 : (Jvm.Cond.privateMethod ({ cls := "PackedForest", name := "isRule", desc := "(I)Z" } : Jvm.MethodName)) ∈ lw_tbl := lw_at lw_m3 162 rfl
theorem q842 : (Jvm.Cond.instanceMethod ({ cls := "PackedForest", name := "isRule", desc := "(I)Z" } : Jvm.MethodName)) ∈ lw_all := lw_g (lw_at lw_m3 163 rfl) rfl
theorem q843 : (Jvm.Cond.code ({ cls := "PackedForest", name := "isRule", desc := "(I)Z" } : Jvm.MethodName) prog_1_method_8_code (2 : Nat) (Option.some Jvm.ClassFile.FieldType.boolean)) ∈ lw_all := lw_g (lw_at lw_m3 164 rfl) rfl
theorem q845 : (Jvm.Cond.instanceMethod ({ cls := "PackedForest", name := "symbol", desc := "(II)I" } : Jvm.MethodName)) ∈ lw_all := lw_g (lw_at lw_m3 166 rfl) rfl
theorem q846 : (Jvm.Cond.selects "PackedForest" ({ cls := "PackedForest", name := "symbol", desc := "(II)I" } : Jvm.MethodName) ({ cls := "PackedForest", name := "symbol", desc := "(II)I" } : Jvm.MethodName)) ∈ lw_all := lw_g (lw_at lw_m3 167 rfl) rfl
theorem q847 : (Jvm.Cond.code ({ cls := "PackedForest", name := "symbol", desc := "(II)I" } : Jvm.MethodName) prog_1_method_24_code (3 : Nat) (Option.some Jvm.ClassFile.FieldType.int)) ∈ lw_all := lw_g (lw_at lw_m3 168 rfl) rfl
theorem q849 : (Jvm.Cond.instanceMethod ({ cls := "PackedForest", name := "facts", desc := "(I)I" } : Jvm.MethodName)) ∈ lw_all := lw_g (lw_at lw_m3 170 rfl) rfl
theorem q850 : (Jvm.Cond.selects "PackedForest" ({ cls := "PackedForest", name := "facts", desc := "(I)I" } : Jvm.MethodName) ({ cls := "PackedForest", name := "facts", desc := "(I)I" } : Jvm.MethodName)) ∈ lw_all := lw_g (lw_at lw_m3 171 rfl) rfl
theorem q851 : (Jvm.Cond.code ({ cls := "PackedForest", name := "facts", desc := "(I)I" } : Jvm.MethodName) prog_1_method_36_code (2 : Nat) (Option.some Jvm.ClassFile.FieldType.int)) ∈ lw_all := lw_g (lw_at lw_m3 172 rfl) rfl
theorem q853 : (Jvm.Cond.instanceMethod ({ cls := "PackedForest", name := "firsts", desc := "(I)I" } : Jvm.MethodName)) ∈ lw_all := lw_g (lw_at lw_m3 174 rfl) rfl
theorem q854 : (Jvm.Cond.selects "PackedForest" ({ cls := "PackedForest", name := "firsts", desc := "(I)I" } : Jvm.MethodName) ({ cls := "PackedForest", name := "firsts", desc := "(I)I" } : Jvm.MethodName)) ∈ lw_all := lw_g (lw_at lw_m3 175 rfl) rfl
theorem q855 : (Jvm.Cond.code ({ cls := "PackedForest", name := "firsts", desc := "(I)I" } : Jvm.MethodName) prog_1_method_37_code (2 : Nat) (Option.some Jvm.ClassFile.FieldType.int)) ∈ lw_all := lw_g (lw_at lw_m3 176 rfl) rfl
theorem q856 : (Jvm.Cond.methodLink "PackedForest" (378 : Nat) ({ cls := "PackedForest", name := "isLeft", desc := "(I)Z" } : Jvm.MethodName)) ∈ lw_all := lw_g (lw_at lw_m3 177 rfl) rfl
theorem q857 : (Jvm.Cond.privateMethod ({ cls := "PackedForest", name := "isLeft", desc := "(I)Z" } : Jvm.MethodName)) ∈ lw_tbl := lw_at lw_m3 178 rfl
theorem q858 : (Jvm.Cond.instanceMethod ({ cls := "PackedForest", name := "isLeft", desc := "(I)Z" } : Jvm.MethodName)) ∈ lw_all := lw_g (lw_at lw_m3 179 rfl) rfl
theorem q859 : (Jvm.Cond.code ({ cls := "PackedForest", name := "isLeft", desc := "(I)Z" } : Jvm.MethodName) prog_1_method_10_code (2 : Nat) (Option.some Jvm.ClassFile.FieldType.boolean)) ∈ lw_all := lw_g (lw_at lw_m3 180 rfl) rfl
theorem q860 : (Jvm.Cond.constantLong "PackedForest" (215 : Nat) (26 : Int64)) ∈ lw_all := lw_g (lw_at lw_m3 181 rfl) rfl
theorem q861 : (Jvm.Cond.constantLong "PackedForest" (217 : Nat) (51 : Int64)) ∈ lw_all := lw_g (lw_at lw_m3 182 rfl) rfl
theorem q862 : (Jvm.Cond.methodLink "PackedForest" (219 : Nat) ({ cls := "PackedForest", name := "in", desc := "(JJJ)Z" } : Jvm.MethodName)) ∈ lw_all := lw_g (lw_at lw_m3 183 rfl) rfl
theorem q864 : (Jvm.Cond.instanceMethod ({ cls := "PackedForest", name := "follows", desc := "(I)I" } : Jvm.MethodName)) ∈ lw_all := lw_g (lw_at lw_m3 185 rfl) rfl
theorem q865 : (Jvm.Cond.selects "PackedForest" ({ cls := "PackedForest", name := "follows", desc := "(I)I" } : Jvm.MethodName) ({ cls := "PackedForest", name := "follows", desc := "(I)I" } : Jvm.MethodName)) ∈ lw_all := lw_g (lw_at lw_m3 186 rfl) rfl
theorem q866 : (Jvm.Cond.code ({ cls := "PackedForest", name := "follows", desc := "(I)I" } : Jvm.MethodName) prog_1_method_38_code (2 : Nat) (Option.some Jvm.ClassFile.FieldType.int)) ∈ lw_all := lw_g (lw_at lw_m3 187 rfl) rfl
theorem q868 : (Jvm.Cond.instanceMethod ({ cls := "PackedForest", name := "shortest", desc := "(I)I" } : Jvm.MethodName)) ∈ lw_all := lw_g (lw_at lw_m3 189 rfl) rfl
theorem q869 : (Jvm.Cond.selects "PackedForest" ({ cls := "PackedForest", name := "shortest", desc := "(I)I" } : Jvm.MethodName) ({ cls := "PackedForest", name := "shortest", desc := "(I)I" } : Jvm.MethodName)) ∈ lw_all := lw_g (lw_at lw_m3 190 rfl) rfl
theorem q870 : (Jvm.Cond.code ({ cls := "PackedForest", name := "shortest", desc := "(I)I" } : Jvm.MethodName) prog_1_method_39_code (2 : Nat) (Option.some Jvm.ClassFile.FieldType.int)) ∈ lw_all := lw_g (lw_at lw_m3 191 rfl) rfl
theorem q872 : (Jvm.Cond.instanceMethod ({ cls := "PackedForest", name := "states", desc := "()I" } : Jvm.MethodName)) ∈ lw_all := lw_g (lw_at lw_m3 193 rfl) rfl
theorem q873 : (Jvm.Cond.selects "PackedForest" ({ cls := "PackedForest", name := "states", desc := "()I" } : Jvm.MethodName) ({ cls := "PackedForest", name := "states", desc := "()I" } : Jvm.MethodName)) ∈ lw_all := lw_g (lw_at lw_m3 194 rfl) rfl
theorem q874 : (Jvm.Cond.code ({ cls := "PackedForest", name := "states", desc := "()I" } : Jvm.MethodName) prog_1_method_49_code (1 : Nat) (Option.some Jvm.ClassFile.FieldType.int)) ∈ lw_all := lw_g (lw_at lw_m3 195 rfl) rfl
theorem q876 : (Jvm.Cond.instanceMethod ({ cls := "PackedForest", name := "goes", desc := "(II)I" } : Jvm.MethodName)) ∈ lw_all := lw_g (lw_at lw_m3 197 rfl) rfl
theorem q877 : (Jvm.Cond.selects "PackedForest" ({ cls := "PackedForest", name := "goes", desc := "(II)I" } : Jvm.MethodName) ({ cls := "PackedForest", name := "goes", desc := "(II)I" } : Jvm.MethodName)) ∈ lw_all := lw_g (lw_at lw_m3 198 rfl) rfl
theorem q878 : (Jvm.Cond.code ({ cls := "PackedForest", name := "goes", desc := "(II)I" } : Jvm.MethodName) prog_1_method_50_code (3 : Nat) (Option.some Jvm.ClassFile.FieldType.int)) ∈ lw_all := lw_g (lw_at lw_m3 199 rfl) rfl
theorem q879 : (Jvm.Cond.methodLink "PackedForest" (413 : Nat) ({ cls := "PackedForest", name := "isState", desc := "(I)Z" } : Jvm.MethodName)) ∈ lw_all := lw_g (lw_at lw_m3 200 rfl) rfl
theorem q880 : (Jvm.Cond.privateMethod ({ cls := "PackedForest", name := "isState", desc := "(I)Z" } : Jvm.MethodName)) ∈ lw_tbl := lw_at lw_m3 201 rfl
theorem q881 : (Jvm.Cond.instanceMethod ({ cls := "PackedForest", name := "isState", desc := "(I)Z" } : Jvm.MethodName)) ∈ lw_all := lw_g (lw_at lw_m3 202 rfl) rfl
theorem q882 : (Jvm.Cond.code ({ cls := "PackedForest", name := "isState", desc := "(I)Z" } : Jvm.MethodName) prog_1_method_48_code (2 : Nat) (Option.some Jvm.ClassFile.FieldType.boolean)) ∈ lw_all := lw_g (lw_at lw_m3 203 rfl) rfl
theorem q884 : (Jvm.Cond.instanceMethod ({ cls := "PackedForest", name := "points", desc := "(II)I" } : Jvm.MethodName)) ∈ lw_all := lw_g (lw_at lw_m3 205 rfl) rfl
theorem q885 : (Jvm.Cond.selects "PackedForest" ({ cls := "PackedForest", name := "points", desc := "(II)I" } : Jvm.MethodName) ({ cls := "PackedForest", name := "points", desc := "(II)I" } : Jvm.MethodName)) ∈ lw_all := lw_g (lw_at lw_m3 206 rfl) rfl
theorem q886 : (Jvm.Cond.code ({ cls := "PackedForest", name := "points", desc := "(II)I" } : Jvm.MethodName) prog_1_method_51_code (3 : Nat) (Option.some Jvm.ClassFile.FieldType.int)) ∈ lw_all := lw_g (lw_at lw_m3 207 rfl) rfl
theorem q887 : (Jvm.Cond.constantLong "PackedForest" (416 : Nat) (31 : Int64)) ∈ lw_all := lw_g (lw_at lw_m3 208 rfl) rfl
theorem q889 : (Jvm.Cond.instanceMethod ({ cls := "PackedForest", name := "done", desc := "(I)I" } : Jvm.MethodName)) ∈ lw_all := lw_g (lw_at lw_m3 210 rfl) rfl
theorem q890 : (Jvm.Cond.selects "PackedForest" ({ cls := "PackedForest", name := "done", desc := "(I)I" } : Jvm.MethodName) ({ cls := "PackedForest", name := "done", desc := "(I)I" } : Jvm.MethodName)) ∈ lw_all := lw_g (lw_at lw_m3 211 rfl) rfl
theorem q891 : (Jvm.Cond.code ({ cls := "PackedForest", name := "done", desc := "(I)I" } : Jvm.MethodName) prog_1_method_53_code (4 : Nat) (Option.some Jvm.ClassFile.FieldType.int)) ∈ lw_all := lw_g (lw_at lw_m3 212 rfl) rfl
theorem q892 : (Jvm.Cond.methodLink "PackedForest" (418 : Nat) ({ cls := "PackedForest", name := "isDone", desc := "(II)Z" } : Jvm.MethodName)) ∈ lw_all := lw_g (lw_at lw_m3 213 rfl) rfl
theorem q893 : (Jvm.Cond.privateMethod ({ cls := "PackedForest", name := "isDone", desc := "(II)Z" } : Jvm.MethodName)) ∈ lw_tbl := lw_at lw_m3 214 rfl
theorem q894 : (Jvm.Cond.instanceMethod ({ cls := "PackedForest", name := "isDone", desc := "(II)Z" } : Jvm.MethodName)) ∈ lw_all := lw_g (lw_at lw_m3 215 rfl) rfl
theorem q895 : (Jvm.Cond.code ({ cls := "PackedForest", name := "isDone", desc := "(II)Z" } : Jvm.MethodName) prog_1_method_52_code (4 : Nat) (Option.some Jvm.ClassFile.FieldType.boolean)) ∈ lw_all := lw_g (lw_at lw_m3 216 rfl) rfl
theorem q897 : (Jvm.Cond.instanceMethod ({ cls := "PackedForest", name := "clashes", desc := "()I" } : Jvm.MethodName)) ∈ lw_all := lw_g (lw_at lw_m3 218 rfl) rfl
theorem q898 : (Jvm.Cond.selects "PackedForest" ({ cls := "PackedForest", name := "clashes", desc := "()I" } : Jvm.MethodName) ({ cls := "PackedForest", name := "clashes", desc := "()I" } : Jvm.MethodName)) ∈ lw_all := lw_g (lw_at lw_m3 219 rfl) rfl
theorem q899 : (Jvm.Cond.code ({ cls := "PackedForest", name := "clashes", desc := "()I" } : Jvm.MethodName) prog_1_method_56_code (3 : Nat) (Option.some Jvm.ClassFile.FieldType.int)) ∈ lw_all := lw_g (lw_at lw_m3 220 rfl) rfl
theorem q900 : (Jvm.Cond.methodLink "PackedForest" (424 : Nat) ({ cls := "PackedForest", name := "doesClash", desc := "(I)Z" } : Jvm.MethodName)) ∈ lw_all := lw_g (lw_at lw_m3 221 rfl) rfl
theorem q901 : (Jvm.Cond.privateMethod ({ cls := "PackedForest", name := "doesClash", desc := "(I)Z" } : Jvm.MethodName)) ∈ lw_tbl := lw_at lw_m3 222 rfl
theorem q902 : (Jvm.Cond.instanceMethod ({ cls := "PackedForest", name := "doesClash", desc := "(I)Z" } : Jvm.MethodName)) ∈ lw_all := lw_g (lw_at lw_m3 223 rfl) rfl
theorem q903 : (Jvm.Cond.code ({ cls := "PackedForest", name := "doesClash", desc := "(I)Z" } : Jvm.MethodName) prog_1_method_55_code (5 : Nat) (Option.some Jvm.ClassFile.FieldType.boolean)) ∈ lw_all := lw_g (lw_at lw_m3 224 rfl) rfl
theorem q904 : (Jvm.Cond.methodLink "PackedForest" (421 : Nat) ({ cls := "PackedForest", name := "isAtEnd", desc := "(II)Z" } : Jvm.MethodName)) ∈ lw_all := lw_g (lw_at lw_m3 225 rfl) rfl
theorem q905 : (Jvm.Cond.privateMethod ({ cls := "PackedForest", name := "isAtEnd", desc := "(II)Z" } : Jvm.MethodName)) ∈ lw_tbl := lw_at lw_m3 226 rfl
theorem q906 : (Jvm.Cond.instanceMethod ({ cls := "PackedForest", name := "isAtEnd", desc := "(II)Z" } : Jvm.MethodName)) ∈ lw_all := lw_g (lw_at lw_m3 227 rfl) rfl
theorem q907 : (Jvm.Cond.code ({ cls := "PackedForest", name := "isAtEnd", desc := "(II)Z" } : Jvm.MethodName) prog_1_method_54_code (3 : Nat) (Option.some Jvm.ClassFile.FieldType.boolean)) ∈ lw_all := lw_g (lw_at lw_m3 228 rfl) rfl
theorem q909 : (Jvm.Cond.instanceMethod ({ cls := "PackedForest", name := "undo", desc := "()I" } : Jvm.MethodName)) ∈ lw_all := lw_g (lw_at lw_m3 230 rfl) rfl
theorem q910 : (Jvm.Cond.selects "PackedForest" ({ cls := "PackedForest", name := "undo", desc := "()I" } : Jvm.MethodName) ({ cls := "PackedForest", name := "undo", desc := "()I" } : Jvm.MethodName)) ∈ lw_all := lw_g (lw_at lw_m3 231 rfl) rfl
theorem q911 : (Jvm.Cond.code ({ cls := "PackedForest", name := "undo", desc := "()I" } : Jvm.MethodName) prog_1_method_59_code (1 : Nat) (Option.some Jvm.ClassFile.FieldType.int)) ∈ lw_all := lw_g (lw_at lw_m3 232 rfl) rfl
theorem q912 : (Jvm.Cond.interfaceEntry "PackedForest" (440 : Nat)) ∈ lw_tbl := lw_at lw_m3 233 rfl
theorem q913 : (Jvm.Cond.methodLink "PackedForest" (440 : Nat) ({ cls := "PackedForest$Step", name := "undoes", desc := "()V" } : Jvm.MethodName)) ∈ lw_all := lw_g (lw_at lw_m3 234 rfl) rfl
theorem q917 : (Jvm.Cond.instanceMethod ({ cls := "PackedForest", name := "read", desc := "(I)I" } : Jvm.MethodName)) ∈ lw_all := lw_g (lw_at lw_m3 238 rfl) rfl
theorem q918 : (Jvm.Cond.selects "PackedForest" ({ cls := "PackedForest", name := "read", desc := "(I)I" } : Jvm.MethodName) ({ cls := "PackedForest", name := "read", desc := "(I)I" } : Jvm.MethodName)) ∈ lw_all := lw_g (lw_at lw_m3 239 rfl) rfl
theorem q919 : (Jvm.Cond.code ({ cls := "PackedForest", name := "read", desc := "(I)I" } : Jvm.MethodName) prog_1_method_64_code (2 : Nat) (Option.some Jvm.ClassFile.FieldType.int)) ∈ lw_all := lw_g (lw_at lw_m4 0 rfl) rfl
theorem q920 : (Jvm.Cond.methodLink "PackedForest" (454 : Nat) ({ cls := "PackedForest", name := "isSmall", desc := "(I)Z" } : Jvm.MethodName)) ∈ lw_all := lw_g (lw_at lw_m4 1 rfl) rfl
theorem q921 : (Jvm.Cond.static ({ cls := "PackedForest", name := "isSmall", desc := "(I)Z" } : Jvm.MethodName)) ∈ lw_all := lw_g (lw_at lw_m4 2 rfl) rfl
theorem q922 : (Jvm.Cond.code ({ cls := "PackedForest", name := "isSmall", desc := "(I)Z" } : Jvm.MethodName) prog_1_method_63_code (1 : Nat) (Option.some Jvm.ClassFile.FieldType.boolean)) ∈ lw_all := lw_g (lw_at lw_m4 3 rfl) rfl
theorem q923 : (Jvm.Cond.constantLong "PackedForest" (452 : Nat) (25 : Int64)) ∈ lw_all := lw_g (lw_at lw_m4 4 rfl) rfl
theorem q924 : (Jvm.Cond.privateMethod ({ cls := "PackedForest", name := "takesLast", desc := "()V" } : Jvm.MethodName)) ∈ lw_tbl := lw_at lw_m4 5 rfl
theorem q925 : (Jvm.Cond.instanceMethod ({ cls := "PackedForest", name := "takesLast", desc := "()V" } : Jvm.MethodName)) ∈ lw_all := lw_g (lw_at lw_m4 6 rfl) rfl
theorem q926 : (Jvm.Cond.code ({ cls := "PackedForest", name := "takesLast", desc := "()V" } : Jvm.MethodName) prog_1_method_60_code (1 : Nat) (Option.none : Option Jvm.ClassFile.FieldType)) ∈ lw_all := lw_g (lw_at lw_m4 7 rfl) rfl
theorem q927 : (Jvm.Cond.methodLink "PackedForest" (445 : Nat) ({ cls := "PackedForest", name := "changes", desc := "()V" } : Jvm.MethodName)) ∈ lw_all := lw_g (lw_at lw_m4 8 rfl) rfl
theorem q928 : (Jvm.Cond.privateMethod ({ cls := "PackedForest", name := "changes", desc := "()V" } : Jvm.MethodName)) ∈ lw_tbl := lw_at lw_m4 9 rfl
theorem q929 : (Jvm.Cond.instanceMethod ({ cls := "PackedForest", name := "changes", desc := "()V" } : Jvm.MethodName)) ∈ lw_all := lw_g (lw_at lw_m4 10 rfl) rfl
theorem q930 : (Jvm.Cond.code ({ cls := "PackedForest", name := "changes", desc := "()V" } : Jvm.MethodName) prog_1_method_57_code (1 : Nat) (Option.none : Option Jvm.ClassFile.FieldType)) ∈ lw_all := lw_g (lw_at lw_m4 11 rfl) rfl
theorem q931 : (Jvm.Cond.methodLink "PackedForest" (460 : Nat) ({ cls := "PackedForest", name := "keeps", desc := "(LPackedForest$Step;)V" } : Jvm.MethodName)) ∈ lw_all := lw_g (lw_at lw_m4 12 rfl) rfl
theorem q932 : (Jvm.Cond.privateMethod ({ cls := "PackedForest", name := "keeps", desc := "(LPackedForest$Step;)V" } : Jvm.MethodName)) ∈ lw_tbl := lw_at lw_m4 13 rfl
theorem q933 : (Jvm.Cond.instanceMethod ({ cls := "PackedForest", name := "keeps", desc := "(LPackedForest$Step;)V" } : Jvm.MethodName)) ∈ lw_all := lw_g (lw_at lw_m4 14 rfl) rfl
theorem q934 : (Jvm.Cond.code ({ cls := "PackedForest", name := "keeps", desc := "(LPackedForest$Step;)V" } : Jvm.MethodName) prog_1_method_58_code (2 : Nat) (Option.none : Option Jvm.ClassFile.FieldType)) ∈ lw_all := lw_g (lw_at lw_m4 15 rfl) rfl
theorem q935 : (Jvm.Cond.methodLink "PackedForest" (427 : Nat) ({ cls := "java/lang/System", name := "arraycopy", desc := "(Ljava/lang/Object;ILjava/lang/Object;II)V" } : Jvm.MethodName)) ∈ lw_all := lw_g (lw_at lw_m4 16 rfl) rfl
theorem q939 : (Jvm.Cond.methodLink "PackedForest" (433 : Nat) ({ cls := "PackedForest$Act", name := "<init>", desc := "(LPackedForest$Step;)V" } : Jvm.MethodName)) ∈ lw_all := lw_g (lw_at lw_m4 20 rfl) rfl
theorem q944 : (Jvm.Cond.fieldLinkNest "PackedForest" (436 : Nat) "PackedForest$Act" "step" "LPackedForest$Step;" "PackedForest") ∈ lw_tbl := lw_at lw_m4 25 rfl
theorem q948 : (Jvm.Cond.methodLink "PackedForest" (463 : Nat) ({ cls := "PackedForest", name := "laysLast", desc := "(I)V" } : Jvm.MethodName)) ∈ lw_all := lw_g (lw_at lw_m4 29 rfl) rfl
theorem q949 : (Jvm.Cond.privateMethod ({ cls := "PackedForest", name := "laysLast", desc := "(I)V" } : Jvm.MethodName)) ∈ lw_tbl := lw_at lw_m4 30 rfl
theorem q950 : (Jvm.Cond.instanceMethod ({ cls := "PackedForest", name := "laysLast", desc := "(I)V" } : Jvm.MethodName)) ∈ lw_all := lw_g (lw_at lw_m4 31 rfl) rfl
theorem q951 : (Jvm.Cond.code ({ cls := "PackedForest", name := "laysLast", desc := "(I)V" } : Jvm.MethodName) prog_1_method_62_code (2 : Nat) (Option.none : Option Jvm.ClassFile.FieldType)) ∈ lw_all := lw_g (lw_at lw_m4 32 rfl) rfl
theorem q952 : (Jvm.Cond.methodLink "PackedForest" (448 : Nat) ({ cls := "PackedForest", name := "laysAt", desc := "(II)V" } : Jvm.MethodName)) ∈ lw_all := lw_g (lw_at lw_m4 33 rfl) rfl
theorem q953 : (Jvm.Cond.privateMethod ({ cls := "PackedForest", name := "laysAt", desc := "(II)V" } : Jvm.MethodName)) ∈ lw_tbl := lw_at lw_m4 34 rfl
theorem q954 : (Jvm.Cond.instanceMethod ({ cls := "PackedForest", name := "laysAt", desc := "(II)V" } : Jvm.MethodName)) ∈ lw_all := lw_g (lw_at lw_m4 35 rfl) rfl
theorem q955 : (Jvm.Cond.code ({ cls := "PackedForest", name := "laysAt", desc := "(II)V" } : Jvm.MethodName) prog_1_method_61_code (3 : Nat) (Option.none : Option Jvm.ClassFile.FieldType)) ∈ lw_all := lw_g (lw_at lw_m4 36 rfl) rfl
theorem q957 : (Jvm.Cond.instanceMethod ({ cls := "PackedForest", name := "drop", desc := "()I" } : Jvm.MethodName)) ∈ lw_all := lw_g (lw_at lw_m4 38 rfl) rfl
theorem q958 : (Jvm.Cond.selects "PackedForest" ({ cls := "PackedForest", name := "drop", desc := "()I" } : Jvm.MethodName) ({ cls := "PackedForest", name := "drop", desc := "()I" } : Jvm.MethodName)) ∈ lw_all := lw_g (lw_at lw_m4 39 rfl) rfl
theorem q959 : (Jvm.Cond.code ({ cls := "PackedForest", name := "drop", desc := "()I" } : Jvm.MethodName) prog_1_method_65_code (2 : Nat) (Option.some Jvm.ClassFile.FieldType.int)) ∈ lw_all := lw_g (lw_at lw_m4 40 rfl) rfl
theorem q960 : (Jvm.Cond.privateMethod ({ cls := "PackedForest", name := "lambda$drop$0", desc := "(I)V" } : Jvm.MethodName)) ∈ lw_tbl := lw_at lw_m4 41 rfl
theorem q961 : (Jvm.Cond.instanceMethod ({ cls := "PackedForest", name := "lambda$drop$0", desc := "(I)V" } : Jvm.MethodName)) ∈ lw_all := lw_g (lw_at lw_m4 42 rfl) rfl
theorem q962 : (Jvm.Cond.code ({ cls := "PackedForest", name := "lambda$drop$0", desc := "(I)V" } : Jvm.MethodName) prog_1_method_142_code (2 : Nat) (Option.none : Option Jvm.ClassFile.FieldType)) ∈ lw_all := lw_g (lw_at lw_m4 43 rfl) rfl
theorem q963 : (Jvm.Cond.methodLink "PackedForest" (469 : Nat) ({ cls := "PackedForest", name := "takesLast", desc := "()V" } : Jvm.MethodName)) ∈ lw_all := lw_g (lw_at lw_m4 44 rfl) rfl
theorem q965 : (Jvm.Cond.instanceMethod ({ cls := "PackedForest", name := "change", desc := "(II)I" } : Jvm.MethodName)) ∈ lw_all := lw_g (lw_at lw_m4 46 rfl) rfl
theorem q966 : (Jvm.Cond.selects "PackedForest" ({ cls := "PackedForest", name := "change", desc := "(II)I" } : Jvm.MethodName) ({ cls := "PackedForest", name := "change", desc := "(II)I" } : Jvm.MethodName)) ∈ lw_all := lw_g (lw_at lw_m4 47 rfl) rfl
theorem q967 : (Jvm.Cond.code ({ cls := "PackedForest", name := "change", desc := "(II)I" } : Jvm.MethodName) prog_1_method_66_code (4 : Nat) (Option.some Jvm.ClassFile.FieldType.int)) ∈ lw_all := lw_g (lw_at lw_m4 48 rfl) rfl
theorem q968 : (Jvm.Cond.privateMethod ({ cls := "PackedForest", name := "lambda$change$1", desc := "(II)V" } : Jvm.MethodName)) ∈ lw_tbl := lw_at lw_m4 49 rfl
theorem q969 : (Jvm.Cond.instanceMethod ({ cls := "PackedForest", name := "lambda$change$1", desc := "(II)V" } : Jvm.MethodName)) ∈ lw_all := lw_g (lw_at lw_m4 50 rfl) rfl
theorem q970 : (Jvm.Cond.code ({ cls := "PackedForest", name := "lambda$change$1", desc := "(II)V" } : Jvm.MethodName) prog_1_method_141_code (3 : Nat) (Option.none : Option Jvm.ClassFile.FieldType)) ∈ lw_all := lw_g (lw_at lw_m4 51 rfl) rfl
theorem q972 : (Jvm.Cond.instanceMethod ({ cls := "PackedForest", name := "strike", desc := "(I)I" } : Jvm.MethodName)) ∈ lw_all := lw_g (lw_at lw_m4 53 rfl) rfl
theorem q973 : (Jvm.Cond.selects "PackedForest" ({ cls := "PackedForest", name := "strike", desc := "(I)I" } : Jvm.MethodName) ({ cls := "PackedForest", name := "strike", desc := "(I)I" } : Jvm.MethodName)) ∈ lw_all := lw_g (lw_at lw_m4 54 rfl) rfl
theorem q974 : (Jvm.Cond.code ({ cls := "PackedForest", name := "strike", desc := "(I)I" } : Jvm.MethodName) prog_1_method_68_code (2 : Nat) (Option.some Jvm.ClassFile.FieldType.int)) ∈ lw_all := lw_g (lw_at lw_m4 55 rfl) rfl
theorem q975 : (Jvm.Cond.methodLink "PackedForest" (475 : Nat) ({ cls := "PackedForest", name := "turns", desc := "(I)Z" } : Jvm.MethodName)) ∈ lw_all := lw_g (lw_at lw_m4 56 rfl) rfl
theorem q976 : (Jvm.Cond.privateMethod ({ cls := "PackedForest", name := "turns", desc := "(I)Z" } : Jvm.MethodName)) ∈ lw_tbl := lw_at lw_m4 57 rfl
theorem q977 : (Jvm.Cond.instanceMethod ({ cls := "PackedForest", name := "turns", desc := "(I)Z" } : Jvm.MethodName)) ∈ lw_all := lw_g (lw_at lw_m4 58 rfl) rfl
theorem q978 : (Jvm.Cond.code ({ cls := "PackedForest", name := "turns", desc := "(I)Z" } : Jvm.MethodName) prog_1_method_67_code (2 : Nat) (Option.some Jvm.ClassFile.FieldType.boolean)) ∈ lw_all := lw_g (lw_at lw_m4 59 rfl) rfl
theorem q979 : (Jvm.Cond.privateMethod ({ cls := "PackedForest", name := "lambda$strike$2", desc := "(I)V" } : Jvm.MethodName)) ∈ lw_tbl := lw_at lw_m4 60 rfl
theorem q980 : (Jvm.Cond.instanceMethod ({ cls := "PackedForest", name := "lambda$strike$2", desc := "(I)V" } : Jvm.MethodName)) ∈ lw_all := lw_g (lw_at lw_m4 61 rfl) rfl
theorem q981 : (Jvm.Cond.code ({ cls := "PackedForest", name := "lambda$strike$2", desc := "(I)V" } : Jvm.MethodName) prog_1_method_140_code (2 : Nat) (Option.none : Option Jvm.ClassFile.FieldType)) ∈ lw_all := lw_g (lw_at lw_m4 62 rfl) rfl
theorem q983 : (Jvm.Cond.instanceMethod ({ cls := "PackedForest", name := "ban", desc := "(III)I" } : Jvm.MethodName)) ∈ lw_all := lw_g (lw_at lw_m4 64 rfl) rfl
theorem q984 : (Jvm.Cond.selects "PackedForest" ({ cls := "PackedForest", name := "ban", desc := "(III)I" } : Jvm.MethodName) ({ cls := "PackedForest", name := "ban", desc := "(III)I" } : Jvm.MethodName)) ∈ lw_all := lw_g (lw_at lw_m4 65 rfl) rfl
theorem q985 : (Jvm.Cond.code ({ cls := "PackedForest", name := "ban", desc := "(III)I" } : Jvm.MethodName) prog_1_method_71_code (8 : Nat) (Option.some Jvm.ClassFile.FieldType.int)) ∈ lw_all := lw_g (lw_at lw_m4 66 rfl) rfl
theorem q986 : (Jvm.Cond.methodLink "PackedForest" (482 : Nat) ({ cls := "PackedForest", name := "canBan", desc := "(III)Z" } : Jvm.MethodName)) ∈ lw_all := lw_g (lw_at lw_m4 67 rfl) rfl
theorem q987 : (Jvm.Cond.privateMethod ({ cls := "PackedForest", name := "canBan", desc := "(III)Z" } : Jvm.MethodName)) ∈ lw_tbl := lw_at lw_m4 68 rfl
theorem q988 : (Jvm.Cond.instanceMethod ({ cls := "PackedForest", name := "canBan", desc := "(III)Z" } : Jvm.MethodName)) ∈ lw_all := lw_g (lw_at lw_m4 69 rfl) rfl
theorem q989 : (Jvm.Cond.code ({ cls := "PackedForest", name := "canBan", desc := "(III)Z" } : Jvm.MethodName) prog_1_method_70_code (4 : Nat) (Option.some Jvm.ClassFile.FieldType.boolean)) ∈ lw_all := lw_g (lw_at lw_m4 70 rfl) rfl
theorem q990 : (Jvm.Cond.methodLink "PackedForest" (479 : Nat) ({ cls := "PackedForest", name := "isBanned", desc := "(III)Z" } : Jvm.MethodName)) ∈ lw_all := lw_g (lw_at lw_m4 71 rfl) rfl
theorem q991 : (Jvm.Cond.methodLink "PackedForest" (485 : Nat) ({ cls := "[I", name := "clone", desc := "()Ljava/lang/Object;" } : Jvm.MethodName)) ∈ lw_all := lw_g (lw_at lw_m4 72 rfl) rfl
theorem q997 : (Jvm.Cond.classLink "PackedForest" (486 : Nat) "[I") ∈ lw_all := lw_g (lw_at lw_m4 78 rfl) rfl
theorem q998 : (Jvm.Cond.privateMethod ({ cls := "PackedForest", name := "lambda$ban$3", desc := "([II)V" } : Jvm.MethodName)) ∈ lw_tbl := lw_at lw_m4 79 rfl
theorem q999 : (Jvm.Cond.instanceMethod ({ cls := "PackedForest", name := "lambda$ban$3", desc := "([II)V" } : Jvm.MethodName)) ∈ lw_all := lw_g (lw_at lw_m4 80 rfl) rfl
theorem q1000 : (Jvm.Cond.code ({ cls := "PackedForest", name := "lambda$ban$3", desc := "([II)V" } : Jvm.MethodName) prog_1_method_139_code (3 : Nat) (Option.none : Option Jvm.ClassFile.FieldType)) ∈ lw_all := lw_g (lw_at lw_m4 81 rfl) rfl
theorem q1001 : (Jvm.Cond.methodLink "PackedForest" (493 : Nat) ({ cls := "PackedForest", name := "laysBans", desc := "([II)V" } : Jvm.MethodName)) ∈ lw_all := lw_g (lw_at lw_m4 82 rfl) rfl
theorem q1002 : (Jvm.Cond.privateMethod ({ cls := "PackedForest", name := "laysBans", desc := "([II)V" } : Jvm.MethodName)) ∈ lw_tbl := lw_at lw_m4 83 rfl
theorem q1003 : (Jvm.Cond.instanceMethod ({ cls := "PackedForest", name := "laysBans", desc := "([II)V" } : Jvm.MethodName)) ∈ lw_all := lw_g (lw_at lw_m4 84 rfl) rfl
theorem q1004 : (Jvm.Cond.code ({ cls := "PackedForest", name := "laysBans", desc := "([II)V" } : Jvm.MethodName) prog_1_method_69_code (3 : Nat) (Option.none : Option Jvm.ClassFile.FieldType)) ∈ lw_all := lw_g (lw_at lw_m4 85 rfl) rfl
theorem q1006 : (Jvm.Cond.instanceMethod ({ cls := "PackedForest", name := "filter", desc := "(I)I" } : Jvm.MethodName)) ∈ lw_all := lw_g (lw_at lw_m4 87 rfl) rfl
theorem q1007 : (Jvm.Cond.selects "PackedForest" ({ cls := "PackedForest", name := "filter", desc := "(I)I" } : Jvm.MethodName) ({ cls := "PackedForest", name := "filter", desc := "(I)I" } : Jvm.MethodName)) ∈ lw_all := lw_g (lw_at lw_m4 88 rfl) rfl
theorem q1008 : (Jvm.Cond.code ({ cls := "PackedForest", name := "filter", desc := "(I)I" } : Jvm.MethodName) prog_1_method_73_code (2 : Nat) (Option.some Jvm.ClassFile.FieldType.int)) ∈ lw_all := lw_g (lw_at lw_m4 89 rfl) rfl
theorem q1009 : (Jvm.Cond.constantLong "PackedForest" (497 : Nat) (2 : Int64)) ∈ lw_all := lw_g (lw_at lw_m4 90 rfl) rfl
theorem q1010 : (Jvm.Cond.privateMethod ({ cls := "PackedForest", name := "lambda$filter$4", desc := "(I)V" } : Jvm.MethodName)) ∈ lw_tbl := lw_at lw_m4 91 rfl
theorem q1011 : (Jvm.Cond.instanceMethod ({ cls := "PackedForest", name := "lambda$filter$4", desc := "(I)V" } : Jvm.MethodName)) ∈ lw_all := lw_g (lw_at lw_m4 92 rfl) rfl
theorem q1012 : (Jvm.Cond.code ({ cls := "PackedForest", name := "lambda$filter$4", desc := "(I)V" } : Jvm.MethodName) prog_1_method_138_code (2 : Nat) (Option.none : Option Jvm.ClassFile.FieldType)) ∈ lw_all := lw_g (lw_at lw_m4 93 rfl) rfl
theorem q1013 : (Jvm.Cond.methodLink "PackedForest" (500 : Nat) ({ cls := "PackedForest", name := "switches", desc := "(I)V" } : Jvm.MethodName)) ∈ lw_all := lw_g (lw_at lw_m4 94 rfl) rfl
theorem q1014 : (Jvm.Cond.privateMethod ({ cls := "PackedForest", name := "switches", desc := "(I)V" } : Jvm.MethodName)) ∈ lw_tbl := lw_at lw_m4 95 rfl
theorem q1015 : (Jvm.Cond.instanceMethod ({ cls := "PackedForest", name := "switches", desc := "(I)V" } : Jvm.MethodName)) ∈ lw_all := lw_g (lw_at lw_m4 96 rfl) rfl
theorem q1016 : (Jvm.Cond.code ({ cls := "PackedForest", name := "switches", desc := "(I)V" } : Jvm.MethodName) prog_1_method_72_code (2 : Nat) (Option.none : Option Jvm.ClassFile.FieldType)) ∈ lw_all := lw_g (lw_at lw_m4 97 rfl) rfl
theorem q1018 : (Jvm.Cond.instanceMethod ({ cls := "PackedForest", name := "letter", desc := "(I)I" } : Jvm.MethodName)) ∈ lw_all := lw_g (lw_at lw_m4 99 rfl) rfl
theorem q1019 : (Jvm.Cond.selects "PackedForest" ({ cls := "PackedForest", name := "letter", desc := "(I)I" } : Jvm.MethodName) ({ cls := "PackedForest", name := "letter", desc := "(I)I" } : Jvm.MethodName)) ∈ lw_all := lw_g (lw_at lw_m4 100 rfl) rfl
theorem q1020 : (Jvm.Cond.code ({ cls := "PackedForest", name := "letter", desc := "(I)I" } : Jvm.MethodName) prog_1_method_74_code (2 : Nat) (Option.some Jvm.ClassFile.FieldType.int)) ∈ lw_all := lw_g (lw_at lw_m4 101 rfl) rfl
theorem q1022 : (Jvm.Cond.instanceMethod ({ cls := "PackedForest", name := "alive", desc := "(II)I" } : Jvm.MethodName)) ∈ lw_all := lw_g (lw_at lw_m4 103 rfl) rfl
theorem q1023 : (Jvm.Cond.selects "PackedForest" ({ cls := "PackedForest", name := "alive", desc := "(II)I" } : Jvm.MethodName) ({ cls := "PackedForest", name := "alive", desc := "(II)I" } : Jvm.MethodName)) ∈ lw_all := lw_g (lw_at lw_m4 104 rfl) rfl
theorem q1024 : (Jvm.Cond.code ({ cls := "PackedForest", name := "alive", desc := "(II)I" } : Jvm.MethodName) prog_1_method_82_code (5 : Nat) (Option.some Jvm.ClassFile.FieldType.int)) ∈ lw_all := lw_g (lw_at lw_m4 105 rfl) rfl
theorem q1025 : (Jvm.Cond.methodLink "PackedForest" (522 : Nat) ({ cls := "PackedForest", name := "isLevel", desc := "(I)Z" } : Jvm.MethodName)) ∈ lw_all := lw_g (lw_at lw_m4 106 rfl) rfl
theorem q1026 : (Jvm.Cond.privateMethod ({ cls := "PackedForest", name := "isLevel", desc := "(I)Z" } : Jvm.MethodName)) ∈ lw_tbl := lw_at lw_m4 107 rfl
theorem q1027 : (Jvm.Cond.instanceMethod ({ cls := "PackedForest", name := "isLevel", desc := "(I)Z" } : Jvm.MethodName)) ∈ lw_all := lw_g (lw_at lw_m4 108 rfl) rfl
theorem q1028 : (Jvm.Cond.code ({ cls := "PackedForest", name := "isLevel", desc := "(I)Z" } : Jvm.MethodName) prog_1_method_81_code (2 : Nat) (Option.some Jvm.ClassFile.FieldType.boolean)) ∈ lw_all := lw_g (lw_at lw_m4 109 rfl) rfl
theorem q1029 : (Jvm.Cond.methodLink "PackedForest" (525 : Nat) ({ cls := "PackedForest", name := "stacks", desc := "()V" } : Jvm.MethodName)) ∈ lw_all := lw_g (lw_at lw_m4 110 rfl) rfl
theorem q1030 : (Jvm.Cond.privateMethod ({ cls := "PackedForest", name := "stacks", desc := "()V" } : Jvm.MethodName)) ∈ lw_tbl := lw_at lw_m4 111 rfl
theorem q1031 : (Jvm.Cond.instanceMethod ({ cls := "PackedForest", name := "stacks", desc := "()V" } : Jvm.MethodName)) ∈ lw_all := lw_g (lw_at lw_m4 112 rfl) rfl
theorem q1032 : (Jvm.Cond.code ({ cls := "PackedForest", name := "stacks", desc := "()V" } : Jvm.MethodName) prog_1_method_80_code (4 : Nat) (Option.none : Option Jvm.ClassFile.FieldType)) ∈ lw_all := lw_g (lw_at lw_m4 113 rfl) rfl
theorem q1033 : (Jvm.Cond.methodLink "PackedForest" (513 : Nat) ({ cls := "PackedForest", name := "gathersGoings", desc := "()V" } : Jvm.MethodName)) ∈ lw_all := lw_g (lw_at lw_m4 114 rfl) rfl
theorem q1034 : (Jvm.Cond.privateMethod ({ cls := "PackedForest", name := "gathersGoings", desc := "()V" } : Jvm.MethodName)) ∈ lw_tbl := lw_at lw_m4 115 rfl
theorem q1035 : (Jvm.Cond.instanceMethod ({ cls := "PackedForest", name := "gathersGoings", desc := "()V" } : Jvm.MethodName)) ∈ lw_all := lw_g (lw_at lw_m4 116 rfl) rfl
theorem q1036 : (Jvm.Cond.code ({ cls := "PackedForest", name := "gathersGoings", desc := "()V" } : Jvm.MethodName) prog_1_method_75_code (4 : Nat) (Option.none : Option Jvm.ClassFile.FieldType)) ∈ lw_all := lw_g (lw_at lw_m4 117 rfl) rfl
theorem q1037 : (Jvm.Cond.methodLink "PackedForest" (516 : Nat) ({ cls := "PackedForest", name := "reduces", desc := "(II)Z" } : Jvm.MethodName)) ∈ lw_all := lw_g (lw_at lw_m4 118 rfl) rfl
theorem q1038 : (Jvm.Cond.privateMethod ({ cls := "PackedForest", name := "reduces", desc := "(II)Z" } : Jvm.MethodName)) ∈ lw_tbl := lw_at lw_m4 119 rfl
theorem q1039 : (Jvm.Cond.instanceMethod ({ cls := "PackedForest", name := "reduces", desc := "(II)Z" } : Jvm.MethodName)) ∈ lw_all := lw_g (lw_at lw_m4 120 rfl) rfl
theorem q1040 : (Jvm.Cond.code ({ cls := "PackedForest", name := "reduces", desc := "(II)Z" } : Jvm.MethodName) prog_1_method_78_code (6 : Nat) (Option.some Jvm.ClassFile.FieldType.boolean)) ∈ lw_all := lw_g (lw_at lw_m4 121 rfl) rfl
theorem q1041 : (Jvm.Cond.methodLink "PackedForest" (506 : Nat) ({ cls := "PackedForest", name := "goesBack", desc := "(I)V" } : Jvm.MethodName)) ∈ lw_all := lw_g (lw_at lw_m4 122 rfl) rfl
theorem q1042 : (Jvm.Cond.privateMethod ({ cls := "PackedForest", name := "goesBack", desc := "(I)V" } : Jvm.MethodName)) ∈ lw_tbl := lw_at lw_m4 123 rfl
theorem q1043 : (Jvm.Cond.instanceMethod ({ cls := "PackedForest", name := "goesBack", desc := "(I)V" } : Jvm.MethodName)) ∈ lw_all := lw_g (lw_at lw_m4 124 rfl) rfl
theorem q1044 : (Jvm.Cond.code ({ cls := "PackedForest", name := "goesBack", desc := "(I)V" } : Jvm.MethodName) prog_1_method_77_code (4 : Nat) (Option.none : Option Jvm.ClassFile.FieldType)) ∈ lw_all := lw_g (lw_at lw_m4 125 rfl) rfl
theorem q1045 : (Jvm.Cond.methodLink "PackedForest" (509 : Nat) ({ cls := "PackedForest", name := "joins", desc := "(IIIZ)Z" } : Jvm.MethodName)) ∈ lw_all := lw_g (lw_at lw_m4 126 rfl) rfl
theorem q1046 : (Jvm.Cond.privateMethod ({ cls := "PackedForest", name := "joins", desc := "(IIIZ)Z" } : Jvm.MethodName)) ∈ lw_tbl := lw_at lw_m4 127 rfl
theorem q1047 : (Jvm.Cond.instanceMethod ({ cls := "PackedForest", name := "joins", desc := "(IIIZ)Z" } : Jvm.MethodName)) ∈ lw_all := lw_g (lw_at lw_m4 128 rfl) rfl
theorem q1048 : (Jvm.Cond.code ({ cls := "PackedForest", name := "joins", desc := "(IIIZ)Z" } : Jvm.MethodName) prog_1_method_76_code (5 : Nat) (Option.some Jvm.ClassFile.FieldType.boolean)) ∈ lw_all := lw_g (lw_at lw_m4 129 rfl) rfl
theorem q1049 : (Jvm.Cond.methodLink "PackedForest" (519 : Nat) ({ cls := "PackedForest", name := "shifts", desc := "(I)V" } : Jvm.MethodName)) ∈ lw_all := lw_g (lw_at lw_m4 130 rfl) rfl
theorem q1050 : (Jvm.Cond.privateMethod ({ cls := "PackedForest", name := "shifts", desc := "(I)V" } : Jvm.MethodName)) ∈ lw_tbl := lw_at lw_m4 131 rfl
theorem q1051 : (Jvm.Cond.instanceMethod ({ cls := "PackedForest", name := "shifts", desc := "(I)V" } : Jvm.MethodName)) ∈ lw_all := lw_g (lw_at lw_m4 132 rfl) rfl
theorem q1052 : (Jvm.Cond.code ({ cls := "PackedForest", name := "shifts", desc := "(I)V" } : Jvm.MethodName) prog_1_method_79_code (3 : Nat) (Option.none : Option Jvm.ClassFile.FieldType)) ∈ lw_all := lw_g (lw_at lw_m4 133 rfl) rfl
theorem q1054 : (Jvm.Cond.instanceMethod ({ cls := "PackedForest", name := "links", desc := "(II)I" } : Jvm.MethodName)) ∈ lw_all := lw_g (lw_at lw_m4 135 rfl) rfl
theorem q1055 : (Jvm.Cond.selects "PackedForest" ({ cls := "PackedForest", name := "links", desc := "(II)I" } : Jvm.MethodName) ({ cls := "PackedForest", name := "links", desc := "(II)I" } : Jvm.MethodName)) ∈ lw_all := lw_g (lw_at lw_m4 136 rfl) rfl
theorem q1056 : (Jvm.Cond.code ({ cls := "PackedForest", name := "links", desc := "(II)I" } : Jvm.MethodName) prog_1_method_83_code (6 : Nat) (Option.some Jvm.ClassFile.FieldType.int)) ∈ lw_all := lw_g (lw_at lw_m4 137 rfl) rfl
theorem q1058 : (Jvm.Cond.instanceMethod ({ cls := "PackedForest", name := "expects", desc := "(I)I" } : Jvm.MethodName)) ∈ lw_all := lw_g (lw_at lw_m4 139 rfl) rfl
theorem q1059 : (Jvm.Cond.selects "PackedForest" ({ cls := "PackedForest", name := "expects", desc := "(I)I" } : Jvm.MethodName) ({ cls := "PackedForest", name := "expects", desc := "(I)I" } : Jvm.MethodName)) ∈ lw_all := lw_g (lw_at lw_m4 140 rfl) rfl
theorem q1060 : (Jvm.Cond.code ({ cls := "PackedForest", name := "expects", desc := "(I)I" } : Jvm.MethodName) prog_1_method_84_code (4 : Nat) (Option.some Jvm.ClassFile.FieldType.int)) ∈ lw_all := lw_g (lw_at lw_m4 141 rfl) rfl
theorem q1062 : (Jvm.Cond.instanceMethod ({ cls := "PackedForest", name := "derives", desc := "(III)I" } : Jvm.MethodName)) ∈ lw_all := lw_g (lw_at lw_m4 143 rfl) rfl
theorem q1063 : (Jvm.Cond.selects "PackedForest" ({ cls := "PackedForest", name := "derives", desc := "(III)I" } : Jvm.MethodName) ({ cls := "PackedForest", name := "derives", desc := "(III)I" } : Jvm.MethodName)) ∈ lw_all := lw_g (lw_at lw_m4 144 rfl) rfl
theorem q1064 : (Jvm.Cond.code ({ cls := "PackedForest", name := "derives", desc := "(III)I" } : Jvm.MethodName) prog_1_method_111_code (4 : Nat) (Option.some Jvm.ClassFile.FieldType.int)) ∈ lw_all := lw_g (lw_at lw_m4 145 rfl) rfl
theorem q1065 : (Jvm.Cond.methodLink "PackedForest" (607 : Nat) ({ cls := "PackedForest", name := "isSpan", desc := "(II)Z" } : Jvm.MethodName)) ∈ lw_all := lw_g (lw_at lw_m4 146 rfl) rfl
theorem q1066 : (Jvm.Cond.privateMethod ({ cls := "PackedForest", name := "isSpan", desc := "(II)Z" } : Jvm.MethodName)) ∈ lw_tbl := lw_at lw_m4 147 rfl
theorem q1067 : (Jvm.Cond.instanceMethod ({ cls := "PackedForest", name := "isSpan", desc := "(II)Z" } : Jvm.MethodName)) ∈ lw_all := lw_g (lw_at lw_m4 148 rfl) rfl
theorem q1068 : (Jvm.Cond.code ({ cls := "PackedForest", name := "isSpan", desc := "(II)Z" } : Jvm.MethodName) prog_1_method_110_code (3 : Nat) (Option.some Jvm.ClassFile.FieldType.boolean)) ∈ lw_all := lw_g (lw_at lw_m4 149 rfl) rfl
theorem q1069 : (Jvm.Cond.methodLink "PackedForest" (610 : Nat) ({ cls := "PackedForest", name := "charts", desc := "()V" } : Jvm.MethodName)) ∈ lw_all := lw_g (lw_at lw_m4 150 rfl) rfl
theorem q1070 : (Jvm.Cond.privateMethod ({ cls := "PackedForest", name := "charts", desc := "()V" } : Jvm.MethodName)) ∈ lw_tbl := lw_at lw_m4 151 rfl
theorem q1071 : (Jvm.Cond.instanceMethod ({ cls := "PackedForest", name := "charts", desc := "()V" } : Jvm.MethodName)) ∈ lw_all := lw_g (lw_at lw_m4 152 rfl) rfl
theorem q1072 : (Jvm.Cond.code ({ cls := "PackedForest", name := "charts", desc := "()V" } : Jvm.MethodName) prog_1_method_105_code (3 : Nat) (Option.none : Option Jvm.ClassFile.FieldType)) ∈ lw_all := lw_g (lw_at lw_m4 153 rfl) rfl
theorem q1073 : (Jvm.Cond.methodLink "PackedForest" (587 : Nat) ({ cls := "PackedForest", name := "chartsSpan", desc := "(II)V" } : Jvm.MethodName)) ∈ lw_all := lw_g (lw_at lw_m4 154 rfl) rfl
theorem q1074 : (Jvm.Cond.privateMethod ({ cls := "PackedForest", name := "chartsSpan", desc := "(II)V" } : Jvm.MethodName)) ∈ lw_tbl := lw_at lw_m4 155 rfl
theorem q1075 : (Jvm.Cond.instanceMethod ({ cls := "PackedForest", name := "chartsSpan", desc := "(II)V" } : Jvm.MethodName)) ∈ lw_all := lw_g (lw_at lw_m4 156 rfl) rfl
theorem q1076 : (Jvm.Cond.code ({ cls := "PackedForest", name := "chartsSpan", desc := "(II)V" } : Jvm.MethodName) prog_1_method_104_code (5 : Nat) (Option.none : Option Jvm.ClassFile.FieldType)) ∈ lw_all := lw_g (lw_at lw_m4 157 rfl) rfl
theorem q1077 : (Jvm.Cond.methodLink "PackedForest" (572 : Nat) ({ cls := "PackedForest", name := "derivesMore", desc := "(II)Z" } : Jvm.MethodName)) ∈ lw_all := lw_g (lw_at lw_m4 158 rfl) rfl
theorem q1078 : (Jvm.Cond.privateMethod ({ cls := "PackedForest", name := "derivesMore", desc := "(II)Z" } : Jvm.MethodName)) ∈ lw_tbl := lw_at lw_m4 159 rfl
theorem q1079 : (Jvm.Cond.instanceMethod ({ cls := "PackedForest", name := "derivesMore", desc := "(II)Z" } : Jvm.MethodName)) ∈ lw_all := lw_g (lw_at lw_m4 160 rfl) rfl
theorem q1080 : (Jvm.Cond.code ({ cls := "PackedForest", name := "derivesMore", desc := "(II)Z" } : Jvm.MethodName) prog_1_method_97_code (6 : Nat) (Option.some Jvm.ClassFile.FieldType.boolean)) ∈ lw_all := lw_g (lw_at lw_m4 161 rfl) rfl
theorem q1081 : (Jvm.Cond.methodLink "PackedForest" (558 : Nat) ({ cls := "PackedForest", name := "folds", desc := "(IIILPackedForest$Part;LPackedForest$Fold;LPackedForest$Fold;II)I" } : Jvm.MethodName)) ∈ lw_all := lw_g (lw_at lw_m4 162 rfl) rfl
theorem q1082 : (Jvm.Cond.privateMethod ({ cls := "PackedForest", name := "folds", desc := "(IIILPackedForest$Part;LPackedForest$Fold;LPackedForest$Fold;II)I" } : Jvm.MethodName)) ∈ lw_tbl := lw_at lw_m4 163 rfl
theorem q1083 : (Jvm.Cond.instanceMethod ({ cls := "PackedForest", name := "folds", desc := "(IIILPackedForest$Part;LPackedForest$Fold;LPackedForest$Fold;II)I" } : Jvm.MethodName)) ∈ lw_all := lw_g (lw_at lw_m4 164 rfl) rfl
theorem q1084 : (Jvm.Cond.code ({ cls := "PackedForest", name := "folds", desc := "(IIILPackedForest$Part;LPackedForest$Fold;LPackedForest$Fold;II)I" } : Jvm.MethodName) prog_1_method_85_code (12 : Nat) (Option.some Jvm.ClassFile.FieldType.int)) ∈ lw_all := lw_g (lw_at lw_m4 165 rfl) rfl
theorem q1085 : (Jvm.Cond.interfaceEntry "PackedForest" (528 : Nat)) ∈ lw_tbl := lw_at lw_m4 166 rfl
theorem q1086 : (Jvm.Cond.methodLink "PackedForest" (528 : Nat) ({ cls := "PackedForest$Part", name := "of", desc := "(IIII)I" } : Jvm.MethodName)) ∈ lw_all := lw_g (lw_at lw_m4 167 rfl) rfl
theorem q1089 : (Jvm.Cond.interfaceEntry "PackedForest" (533 : Nat)) ∈ lw_tbl := lw_at lw_m4 170 rfl
theorem q1090 : (Jvm.Cond.methodLink "PackedForest" (533 : Nat) ({ cls := "PackedForest$Fold", name := "join", desc := "(II)I" } : Jvm.MethodName)) ∈ lw_all := lw_g (lw_at lw_m4 171 rfl) rfl
theorem q1093 : (Jvm.Cond.methodLink "PackedForest" (575 : Nat) ({ cls := "PackedForest", name := "livesMore", desc := "(II)Z" } : Jvm.MethodName)) ∈ lw_all := lw_g (lw_at lw_m4 174 rfl) rfl
theorem q1094 : (Jvm.Cond.privateMethod ({ cls := "PackedForest", name := "livesMore", desc := "(II)Z" } : Jvm.MethodName)) ∈ lw_tbl := lw_at lw_m4 175 rfl
theorem q1095 : (Jvm.Cond.instanceMethod ({ cls := "PackedForest", name := "livesMore", desc := "(II)Z" } : Jvm.MethodName)) ∈ lw_all := lw_g (lw_at lw_m4 176 rfl) rfl
theorem q1096 : (Jvm.Cond.code ({ cls := "PackedForest", name := "livesMore", desc := "(II)Z" } : Jvm.MethodName) prog_1_method_98_code (5 : Nat) (Option.some Jvm.ClassFile.FieldType.boolean)) ∈ lw_all := lw_g (lw_at lw_m4 177 rfl) rfl
theorem q1097 : (Jvm.Cond.methodLink "PackedForest" (578 : Nat) ({ cls := "PackedForest", name := "costsMore", desc := "(II)Z" } : Jvm.MethodName)) ∈ lw_all := lw_g (lw_at lw_m4 178 rfl) rfl
theorem q1098 : (Jvm.Cond.privateMethod ({ cls := "PackedForest", name := "costsMore", desc := "(II)Z" } : Jvm.MethodName)) ∈ lw_tbl := lw_at lw_m4 179 rfl
theorem q1099 : (Jvm.Cond.instanceMethod ({ cls := "PackedForest", name := "costsMore", desc := "(II)Z" } : Jvm.MethodName)) ∈ lw_all := lw_g (lw_at lw_m4 180 rfl) rfl
theorem q1100 : (Jvm.Cond.code ({ cls := "PackedForest", name := "costsMore", desc := "(II)Z" } : Jvm.MethodName) prog_1_method_103_code (7 : Nat) (Option.some Jvm.ClassFile.FieldType.boolean)) ∈ lw_all := lw_g (lw_at lw_m4 181 rfl) rfl
theorem q1101 : (Jvm.Cond.methodLink "PackedForest" (581 : Nat) ({ cls := "PackedForest", name := "sameSpan", desc := "(III)I" } : Jvm.MethodName)) ∈ lw_all := lw_g (lw_at lw_m4 182 rfl) rfl
theorem q1102 : (Jvm.Cond.privateMethod ({ cls := "PackedForest", name := "sameSpan", desc := "(III)I" } : Jvm.MethodName)) ∈ lw_tbl := lw_at lw_m4 183 rfl
theorem q1103 : (Jvm.Cond.instanceMethod ({ cls := "PackedForest", name := "sameSpan", desc := "(III)I" } : Jvm.MethodName)) ∈ lw_all := lw_g (lw_at lw_m4 184 rfl) rfl
theorem q1104 : (Jvm.Cond.code ({ cls := "PackedForest", name := "sameSpan", desc := "(III)I" } : Jvm.MethodName) prog_1_method_100_code (7 : Nat) (Option.some Jvm.ClassFile.FieldType.int)) ∈ lw_all := lw_g (lw_at lw_m4 185 rfl) rfl
theorem q1105 : (Jvm.Cond.methodLink "PackedForest" (565 : Nat) ({ cls := "PackedForest", name := "areBare", desc := "(IIII)Z" } : Jvm.MethodName)) ∈ lw_all := lw_g (lw_at lw_m4 186 rfl) rfl
theorem q1106 : (Jvm.Cond.privateMethod ({ cls := "PackedForest", name := "areBare", desc := "(IIII)Z" } : Jvm.MethodName)) ∈ lw_tbl := lw_at lw_m4 187 rfl
theorem q1107 : (Jvm.Cond.instanceMethod ({ cls := "PackedForest", name := "areBare", desc := "(IIII)Z" } : Jvm.MethodName)) ∈ lw_all := lw_g (lw_at lw_m4 188 rfl) rfl
theorem q1108 : (Jvm.Cond.code ({ cls := "PackedForest", name := "areBare", desc := "(IIII)Z" } : Jvm.MethodName) prog_1_method_99_code (6 : Nat) (Option.some Jvm.ClassFile.FieldType.boolean)) ∈ lw_all := lw_g (lw_at lw_m4 189 rfl) rfl
theorem q1109 : (Jvm.Cond.methodLink "PackedForest" (562 : Nat) ({ cls := "PackedForest", name := "partLives", desc := "(IIII)I" } : Jvm.MethodName)) ∈ lw_all := lw_g (lw_at lw_m4 190 rfl) rfl
theorem q1110 : (Jvm.Cond.methodLink "PackedForest" (584 : Nat) ({ cls := "PackedForest", name := "countsMore", desc := "(II)Z" } : Jvm.MethodName)) ∈ lw_all := lw_g (lw_at lw_m4 191 rfl) rfl
theorem q1111 : (Jvm.Cond.privateMethod ({ cls := "PackedForest", name := "countsMore", desc := "(II)Z" } : Jvm.MethodName)) ∈ lw_tbl := lw_at lw_m4 192 rfl
theorem q1112 : (Jvm.Cond.instanceMethod ({ cls := "PackedForest", name := "countsMore", desc := "(II)Z" } : Jvm.MethodName)) ∈ lw_all := lw_g (lw_at lw_m4 193 rfl) rfl
theorem q1113 : (Jvm.Cond.code ({ cls := "PackedForest", name := "countsMore", desc := "(II)Z" } : Jvm.MethodName) prog_1_method_102_code (8 : Nat) (Option.some Jvm.ClassFile.FieldType.boolean)) ∈ lw_all := lw_g (lw_at lw_m4 194 rfl) rfl
theorem q1114 : (Jvm.Cond.methodLink "PackedForest" (569 : Nat) ({ cls := "PackedForest", name := "isOnRing", desc := "(I)Z" } : Jvm.MethodName)) ∈ lw_all := lw_g (lw_at lw_m4 195 rfl) rfl
theorem q1115 : (Jvm.Cond.privateMethod ({ cls := "PackedForest", name := "isOnRing", desc := "(I)Z" } : Jvm.MethodName)) ∈ lw_tbl := lw_at lw_m4 196 rfl
theorem q1116 : (Jvm.Cond.instanceMethod ({ cls := "PackedForest", name := "isOnRing", desc := "(I)Z" } : Jvm.MethodName)) ∈ lw_all := lw_g (lw_at lw_m4 197 rfl) rfl
theorem q1117 : (Jvm.Cond.code ({ cls := "PackedForest", name := "isOnRing", desc := "(I)Z" } : Jvm.MethodName) prog_1_method_101_code (5 : Nat) (Option.some Jvm.ClassFile.FieldType.boolean)) ∈ lw_all := lw_g (lw_at lw_m4 198 rfl) rfl
theorem q1118 : (Jvm.Cond.methodLink "PackedForest" (590 : Nat) ({ cls := "PackedForest", name := "growsForest", desc := "()V" } : Jvm.MethodName)) ∈ lw_all := lw_g (lw_at lw_m4 199 rfl) rfl
theorem q1119 : (Jvm.Cond.privateMethod ({ cls := "PackedForest", name := "growsForest", desc := "()V" } : Jvm.MethodName)) ∈ lw_tbl := lw_at lw_m4 200 rfl
theorem q1120 : (Jvm.Cond.instanceMethod ({ cls := "PackedForest", name := "growsForest", desc := "()V" } : Jvm.MethodName)) ∈ lw_all := lw_g (lw_at lw_m4 201 rfl) rfl
theorem q1121 : (Jvm.Cond.code ({ cls := "PackedForest", name := "growsForest", desc := "()V" } : Jvm.MethodName) prog_1_method_109_code (2 : Nat) (Option.none : Option Jvm.ClassFile.FieldType)) ∈ lw_all := lw_g (lw_at lw_m4 202 rfl) rfl
theorem q1122 : (Jvm.Cond.methodLink "PackedForest" (599 : Nat) ({ cls := "PackedForest", name := "marks", desc := "(III)V" } : Jvm.MethodName)) ∈ lw_all := lw_g (lw_at lw_m4 203 rfl) rfl
theorem q1123 : (Jvm.Cond.privateMethod ({ cls := "PackedForest", name := "marks", desc := "(III)V" } : Jvm.MethodName)) ∈ lw_tbl := lw_at lw_m4 204 rfl
theorem q1124 : (Jvm.Cond.instanceMethod ({ cls := "PackedForest", name := "marks", desc := "(III)V" } : Jvm.MethodName)) ∈ lw_all := lw_g (lw_at lw_m4 205 rfl) rfl
theorem q1125 : (Jvm.Cond.code ({ cls := "PackedForest", name := "marks", desc := "(III)V" } : Jvm.MethodName) prog_1_method_106_code (4 : Nat) (Option.none : Option Jvm.ClassFile.FieldType)) ∈ lw_all := lw_g (lw_at lw_m4 206 rfl) rfl
theorem q1126 : (Jvm.Cond.methodLink "PackedForest" (603 : Nat) ({ cls := "PackedForest", name := "marksBelow", desc := "(IIII)V" } : Jvm.MethodName)) ∈ lw_all := lw_g (lw_at lw_m4 207 rfl) rfl
theorem q1127 : (Jvm.Cond.privateMethod ({ cls := "PackedForest", name := "marksBelow", desc := "(IIII)V" } : Jvm.MethodName)) ∈ lw_tbl := lw_at lw_m4 208 rfl
theorem q1128 : (Jvm.Cond.instanceMethod ({ cls := "PackedForest", name := "marksBelow", desc := "(IIII)V" } : Jvm.MethodName)) ∈ lw_all := lw_g (lw_at lw_m4 209 rfl) rfl
theorem q1129 : (Jvm.Cond.code ({ cls := "PackedForest", name := "marksBelow", desc := "(IIII)V" } : Jvm.MethodName) prog_1_method_108_code (7 : Nat) (Option.none : Option Jvm.ClassFile.FieldType)) ∈ lw_all := lw_g (lw_at lw_m4 210 rfl) rfl
theorem q1130 : (Jvm.Cond.methodLink "PackedForest" (596 : Nat) ({ cls := "PackedForest", name := "canGoOn", desc := "(IIII)Z" } : Jvm.MethodName)) ∈ lw_all := lw_g (lw_at lw_m4 211 rfl) rfl
theorem q1131 : (Jvm.Cond.privateMethod ({ cls := "PackedForest", name := "canGoOn", desc := "(IIII)Z" } : Jvm.MethodName)) ∈ lw_tbl := lw_at lw_m4 212 rfl
theorem q1132 : (Jvm.Cond.instanceMethod ({ cls := "PackedForest", name := "canGoOn", desc := "(IIII)Z" } : Jvm.MethodName)) ∈ lw_all := lw_g (lw_at lw_m4 213 rfl) rfl
theorem q1133 : (Jvm.Cond.code ({ cls := "PackedForest", name := "canGoOn", desc := "(IIII)Z" } : Jvm.MethodName) prog_1_method_107_code (6 : Nat) (Option.some Jvm.ClassFile.FieldType.boolean)) ∈ lw_all := lw_g (lw_at lw_m4 214 rfl) rfl
theorem q1135 : (Jvm.Cond.instanceMethod ({ cls := "PackedForest", name := "trees", desc := "(III)I" } : Jvm.MethodName)) ∈ lw_all := lw_g (lw_at lw_m4 216 rfl) rfl
theorem q1136 : (Jvm.Cond.selects "PackedForest" ({ cls := "PackedForest", name := "trees", desc := "(III)I" } : Jvm.MethodName) ({ cls := "PackedForest", name := "trees", desc := "(III)I" } : Jvm.MethodName)) ∈ lw_all := lw_g (lw_at lw_m4 217 rfl) rfl
theorem q1137 : (Jvm.Cond.code ({ cls := "PackedForest", name := "trees", desc := "(III)I" } : Jvm.MethodName) prog_1_method_112_code (6 : Nat) (Option.some Jvm.ClassFile.FieldType.int)) ∈ lw_all := lw_g (lw_at lw_m4 218 rfl) rfl
theorem q1139 : (Jvm.Cond.instanceMethod ({ cls := "PackedForest", name := "piece", desc := "(III)I" } : Jvm.MethodName)) ∈ lw_all := lw_g (lw_at lw_m4 220 rfl) rfl
theorem q1140 : (Jvm.Cond.selects "PackedForest" ({ cls := "PackedForest", name := "piece", desc := "(III)I" } : Jvm.MethodName) ({ cls := "PackedForest", name := "piece", desc := "(III)I" } : Jvm.MethodName)) ∈ lw_all := lw_g (lw_at lw_m4 221 rfl) rfl
theorem q1141 : (Jvm.Cond.code ({ cls := "PackedForest", name := "piece", desc := "(III)I" } : Jvm.MethodName) prog_1_method_113_code (4 : Nat) (Option.some Jvm.ClassFile.FieldType.int)) ∈ lw_all := lw_g (lw_at lw_m4 222 rfl) rfl
theorem q1143 : (Jvm.Cond.instanceMethod ({ cls := "PackedForest", name := "ways", desc := "(III)I" } : Jvm.MethodName)) ∈ lw_all := lw_g (lw_at lw_m4 224 rfl) rfl
theorem q1144 : (Jvm.Cond.selects "PackedForest" ({ cls := "PackedForest", name := "ways", desc := "(III)I" } : Jvm.MethodName) ({ cls := "PackedForest", name := "ways", desc := "(III)I" } : Jvm.MethodName)) ∈ lw_all := lw_g (lw_at lw_m4 225 rfl) rfl
theorem q1145 : (Jvm.Cond.code ({ cls := "PackedForest", name := "ways", desc := "(III)I" } : Jvm.MethodName) prog_1_method_117_code (4 : Nat) (Option.some Jvm.ClassFile.FieldType.int)) ∈ lw_all := lw_g (lw_at lw_m4 226 rfl) rfl
theorem q1146 : (Jvm.Cond.methodLink "PackedForest" (613 : Nat) ({ cls := "PackedForest", name := "waysOf", desc := "(III)I" } : Jvm.MethodName)) ∈ lw_all := lw_g (lw_at lw_m4 227 rfl) rfl
theorem q1147 : (Jvm.Cond.privateMethod ({ cls := "PackedForest", name := "waysOf", desc := "(III)I" } : Jvm.MethodName)) ∈ lw_tbl := lw_at lw_m4 228 rfl
theorem q1148 : (Jvm.Cond.instanceMethod ({ cls := "PackedForest", name := "waysOf", desc := "(III)I" } : Jvm.MethodName)) ∈ lw_all := lw_g (lw_at lw_m4 229 rfl) rfl
theorem q1149 : (Jvm.Cond.code ({ cls := "PackedForest", name := "waysOf", desc := "(III)I" } : Jvm.MethodName) prog_1_method_116_code (4 : Nat) (Option.some Jvm.ClassFile.FieldType.int)) ∈ lw_all := lw_g (lw_at lw_m4 230 rfl) rfl
theorem q1151 : (Jvm.Cond.instanceMethod ({ cls := "PackedForest", name := "forest", desc := "(I)I" } : Jvm.MethodName)) ∈ lw_all := lw_g (lw_at lw_m4 232 rfl) rfl
theorem q1152 : (Jvm.Cond.selects "PackedForest" ({ cls := "PackedForest", name := "forest", desc := "(I)I" } : Jvm.MethodName) ({ cls := "PackedForest", name := "forest", desc := "(I)I" } : Jvm.MethodName)) ∈ lw_all := lw_g (lw_at lw_m4 233 rfl) rfl
theorem q1153 : (Jvm.Cond.code ({ cls := "PackedForest", name := "forest", desc := "(I)I" } : Jvm.MethodName) prog_1_method_120_code (6 : Nat) (Option.some Jvm.ClassFile.FieldType.int)) ∈ lw_all := lw_g (lw_at lw_m4 234 rfl) rfl
theorem q1154 : (Jvm.Cond.constantLong "PackedForest" (628 : Nat) (3 : Int64)) ∈ lw_all := lw_g (lw_at lw_m4 235 rfl) rfl
theorem q1155 : (Jvm.Cond.methodLink "PackedForest" (630 : Nat) ({ cls := "PackedForest", name := "countsNodes", desc := "()V" } : Jvm.MethodName)) ∈ lw_all := lw_g (lw_at lw_m4 236 rfl) rfl
theorem q1156 : (Jvm.Cond.privateMethod ({ cls := "PackedForest", name := "countsNodes", desc := "()V" } : Jvm.MethodName)) ∈ lw_tbl := lw_at lw_m4 237 rfl
theorem q1157 : (Jvm.Cond.instanceMethod ({ cls := "PackedForest", name := "countsNodes", desc := "()V" } : Jvm.MethodName)) ∈ lw_all := lw_g (lw_at lw_m4 238 rfl) rfl
theorem q1158 : (Jvm.Cond.code ({ cls := "PackedForest", name := "countsNodes", desc := "()V" } : Jvm.MethodName) prog_1_method_119_code (5 : Nat) (Option.none : Option Jvm.ClassFile.FieldType)) ∈ lw_all := lw_g (lw_at lw_m4 239 rfl) rfl
theorem q1159 : (Jvm.Cond.methodLink "PackedForest" (625 : Nat) ({ cls := "PackedForest", name := "waysOfNode", desc := "(III)I" } : Jvm.MethodName)) ∈ lw_all := lw_g (lw_at lw_m5 0 rfl) rfl
theorem q1160 : (Jvm.Cond.privateMethod ({ cls := "PackedForest", name := "waysOfNode", desc := "(III)I" } : Jvm.MethodName)) ∈ lw_tbl := lw_at lw_m5 1 rfl
theorem q1161 : (Jvm.Cond.instanceMethod ({ cls := "PackedForest", name := "waysOfNode", desc := "(III)I" } : Jvm.MethodName)) ∈ lw_all := lw_g (lw_at lw_m5 2 rfl) rfl
theorem q1162 : (Jvm.Cond.code ({ cls := "PackedForest", name := "waysOfNode", desc := "(III)I" } : Jvm.MethodName) prog_1_method_118_code (6 : Nat) (Option.some Jvm.ClassFile.FieldType.int)) ∈ lw_all := lw_g (lw_at lw_m5 3 rfl) rfl
theorem q1164 : (Jvm.Cond.instanceMethod ({ cls := "PackedForest", name := "smallest", desc := "()I" } : Jvm.MethodName)) ∈ lw_all := lw_g (lw_at lw_m5 5 rfl) rfl
theorem q1165 : (Jvm.Cond.selects "PackedForest" ({ cls := "PackedForest", name := "smallest", desc := "()I" } : Jvm.MethodName) ({ cls := "PackedForest", name := "smallest", desc := "()I" } : Jvm.MethodName)) ∈ lw_all := lw_g (lw_at lw_m5 6 rfl) rfl
theorem q1166 : (Jvm.Cond.code ({ cls := "PackedForest", name := "smallest", desc := "()I" } : Jvm.MethodName) prog_1_method_122_code (1 : Nat) (Option.some Jvm.ClassFile.FieldType.int)) ∈ lw_all := lw_g (lw_at lw_m5 7 rfl) rfl
theorem q1167 : (Jvm.Cond.methodLink "PackedForest" (633 : Nat) ({ cls := "PackedForest", name := "leastWhole", desc := "()I" } : Jvm.MethodName)) ∈ lw_all := lw_g (lw_at lw_m5 8 rfl) rfl
theorem q1168 : (Jvm.Cond.privateMethod ({ cls := "PackedForest", name := "leastWhole", desc := "()I" } : Jvm.MethodName)) ∈ lw_tbl := lw_at lw_m5 9 rfl
theorem q1169 : (Jvm.Cond.instanceMethod ({ cls := "PackedForest", name := "leastWhole", desc := "()I" } : Jvm.MethodName)) ∈ lw_all := lw_g (lw_at lw_m5 10 rfl) rfl
theorem q1170 : (Jvm.Cond.code ({ cls := "PackedForest", name := "leastWhole", desc := "()I" } : Jvm.MethodName) prog_1_method_121_code (3 : Nat) (Option.some Jvm.ClassFile.FieldType.int)) ∈ lw_all := lw_g (lw_at lw_m5 11 rfl) rfl
theorem q1172 : (Jvm.Cond.instanceMethod ({ cls := "PackedForest", name := "tree", desc := "(II)I" } : Jvm.MethodName)) ∈ lw_all := lw_g (lw_at lw_m5 13 rfl) rfl
theorem q1173 : (Jvm.Cond.selects "PackedForest" ({ cls := "PackedForest", name := "tree", desc := "(II)I" } : Jvm.MethodName) ({ cls := "PackedForest", name := "tree", desc := "(II)I" } : Jvm.MethodName)) ∈ lw_all := lw_g (lw_at lw_m5 14 rfl) rfl
theorem q1174 : (Jvm.Cond.code ({ cls := "PackedForest", name := "tree", desc := "(II)I" } : Jvm.MethodName) prog_1_method_124_code (5 : Nat) (Option.some Jvm.ClassFile.FieldType.int)) ∈ lw_all := lw_g (lw_at lw_m5 15 rfl) rfl
theorem q1175 : (Jvm.Cond.classLink "PackedForest" (642 : Nat) "PackedForest$Walk") ∈ lw_all := lw_g (lw_at lw_m5 16 rfl) rfl
theorem q1177 : (Jvm.Cond.methodLinkNest "PackedForest" (644 : Nat) ({ cls := "PackedForest$Walk", name := "<init>", desc := "(LPackedForest;)V" } : Jvm.MethodName) "PackedForest") ∈ lw_tbl := lw_at lw_m5 18 rfl
theorem q1182 : (Jvm.Cond.fieldLinkNest "PackedForest" (652 : Nat) "PackedForest$Walk" "rule" "I" "PackedForest") ∈ lw_tbl := lw_at lw_m5 23 rfl
theorem q1184 : (Jvm.Cond.fieldLinkNest "PackedForest" (655 : Nat) "PackedForest$Walk" "from" "I" "PackedForest") ∈ lw_tbl := lw_at lw_m5 25 rfl
theorem q1186 : (Jvm.Cond.fieldLinkNest "PackedForest" (658 : Nat) "PackedForest$Walk" "to" "I" "PackedForest") ∈ lw_tbl := lw_at lw_m5 27 rfl
theorem q1197 : (Jvm.Cond.methodLinkNest "PackedForest" (645 : Nat) ({ cls := "PackedForest$Walk", name := "at", desc := "(III)LPackedForest$Walk;" } : Jvm.MethodName) "PackedForest") ∈ lw_tbl := lw_at lw_m5 38 rfl
theorem q1201 : (Jvm.Cond.methodLink "PackedForest" (648 : Nat) ({ cls := "PackedForest$Walk", name := "down", desc := "(I)LPackedForest$Walk;" } : Jvm.MethodName)) ∈ lw_all := lw_g (lw_at lw_m5 42 rfl) rfl
theorem q1210 : (Jvm.Cond.privateMethod ({ cls := "PackedForest", name := "leastFrom", desc := "(IIII)I" } : Jvm.MethodName)) ∈ lw_tbl := lw_at lw_m5 51 rfl
theorem q1211 : (Jvm.Cond.instanceMethod ({ cls := "PackedForest", name := "leastFrom", desc := "(IIII)I" } : Jvm.MethodName)) ∈ lw_all := lw_g (lw_at lw_m5 52 rfl) rfl
theorem q1212 : (Jvm.Cond.code ({ cls := "PackedForest", name := "leastFrom", desc := "(IIII)I" } : Jvm.MethodName) prog_1_method_123_code (7 : Nat) (Option.some Jvm.ClassFile.FieldType.int)) ∈ lw_all := lw_g (lw_at lw_m5 53 rfl) rfl
theorem q1213 : (Jvm.Cond.methodLink "PackedForest" (636 : Nat) ({ cls := "PackedForest", name := "partLeast", desc := "(IIII)I" } : Jvm.MethodName)) ∈ lw_all := lw_g (lw_at lw_m5 54 rfl) rfl
theorem q1214 : (Jvm.Cond.methodLink "PackedForest" (639 : Nat) ({ cls := "PackedForest", name := "leastFrom", desc := "(IIII)I" } : Jvm.MethodName)) ∈ lw_all := lw_g (lw_at lw_m5 55 rfl) rfl
theorem q1226 : (Jvm.Cond.instanceMethod ({ cls := "PackedForest", name := "whole", desc := "()I" } : Jvm.MethodName)) ∈ lw_all := lw_g (lw_at lw_m5 67 rfl) rfl
theorem q1227 : (Jvm.Cond.selects "PackedForest" ({ cls := "PackedForest", name := "whole", desc := "()I" } : Jvm.MethodName) ({ cls := "PackedForest", name := "whole", desc := "()I" } : Jvm.MethodName)) ∈ lw_all := lw_g (lw_at lw_m5 68 rfl) rfl
theorem q1228 : (Jvm.Cond.code ({ cls := "PackedForest", name := "whole", desc := "()I" } : Jvm.MethodName) prog_1_method_125_code (2 : Nat) (Option.some Jvm.ClassFile.FieldType.int)) ∈ lw_all := lw_g (lw_at lw_m5 69 rfl) rfl
theorem q1230 : (Jvm.Cond.instanceMethod ({ cls := "PackedForest", name := "mend", desc := "()I" } : Jvm.MethodName)) ∈ lw_all := lw_g (lw_at lw_m5 71 rfl) rfl
theorem q1231 : (Jvm.Cond.selects "PackedForest" ({ cls := "PackedForest", name := "mend", desc := "()I" } : Jvm.MethodName) ({ cls := "PackedForest", name := "mend", desc := "()I" } : Jvm.MethodName)) ∈ lw_all := lw_g (lw_at lw_m5 72 rfl) rfl
theorem q1232 : (Jvm.Cond.code ({ cls := "PackedForest", name := "mend", desc := "()I" } : Jvm.MethodName) prog_1_method_126_code (2 : Nat) (Option.some Jvm.ClassFile.FieldType.int)) ∈ lw_all := lw_g (lw_at lw_m5 73 rfl) rfl
theorem q1234 : (Jvm.Cond.instanceMethod ({ cls := "PackedForest", name := "seed", desc := "(I)I" } : Jvm.MethodName)) ∈ lw_all := lw_g (lw_at lw_m5 75 rfl) rfl
theorem q1235 : (Jvm.Cond.selects "PackedForest" ({ cls := "PackedForest", name := "seed", desc := "(I)I" } : Jvm.MethodName) ({ cls := "PackedForest", name := "seed", desc := "(I)I" } : Jvm.MethodName)) ∈ lw_all := lw_g (lw_at lw_m5 76 rfl) rfl
theorem q1236 : (Jvm.Cond.code ({ cls := "PackedForest", name := "seed", desc := "(I)I" } : Jvm.MethodName) prog_1_method_127_code (3 : Nat) (Option.some Jvm.ClassFile.FieldType.int)) ∈ lw_all := lw_g (lw_at lw_m5 77 rfl) rfl
theorem q1238 : (Jvm.Cond.instanceMethod ({ cls := "PackedForest", name := "spoken", desc := "(II)I" } : Jvm.MethodName)) ∈ lw_all := lw_g (lw_at lw_m5 79 rfl) rfl
theorem q1239 : (Jvm.Cond.selects "PackedForest" ({ cls := "PackedForest", name := "spoken", desc := "(II)I" } : Jvm.MethodName) ({ cls := "PackedForest", name := "spoken", desc := "(II)I" } : Jvm.MethodName)) ∈ lw_all := lw_g (lw_at lw_m5 80 rfl) rfl
theorem q1240 : (Jvm.Cond.code ({ cls := "PackedForest", name := "spoken", desc := "(II)I" } : Jvm.MethodName) prog_1_method_134_code (5 : Nat) (Option.some Jvm.ClassFile.FieldType.int)) ∈ lw_all := lw_g (lw_at lw_m5 81 rfl) rfl
theorem q1241 : (Jvm.Cond.constantLong "PackedForest" (692 : Nat) (10 : Int64)) ∈ lw_all := lw_g (lw_at lw_m5 82 rfl) rfl
theorem q1242 : (Jvm.Cond.constantLong "PackedForest" (694 : Nat) (23 : Int64)) ∈ lw_all := lw_g (lw_at lw_m5 83 rfl) rfl
theorem q1243 : (Jvm.Cond.methodLink "PackedForest" (696 : Nat) ({ cls := "PackedForest", name := "speaks", desc := "()Z" } : Jvm.MethodName)) ∈ lw_all := lw_g (lw_at lw_m5 84 rfl) rfl
theorem q1244 : (Jvm.Cond.privateMethod ({ cls := "PackedForest", name := "speaks", desc := "()Z" } : Jvm.MethodName)) ∈ lw_tbl := lw_at lw_m5 85 rfl
theorem q1245 : (Jvm.Cond.instanceMethod ({ cls := "PackedForest", name := "speaks", desc := "()Z" } : Jvm.MethodName)) ∈ lw_all := lw_g (lw_at lw_m5 86 rfl) rfl
theorem q1246 : (Jvm.Cond.code ({ cls := "PackedForest", name := "speaks", desc := "()Z" } : Jvm.MethodName) prog_1_method_133_code (4 : Nat) (Option.some Jvm.ClassFile.FieldType.boolean)) ∈ lw_all := lw_g (lw_at lw_m5 87 rfl) rfl
theorem q1247 : (Jvm.Cond.methodLink "PackedForest" (677 : Nat) ({ cls := "PackedForest", name := "firstCapital", desc := "()I" } : Jvm.MethodName)) ∈ lw_all := lw_g (lw_at lw_m5 88 rfl) rfl
theorem q1248 : (Jvm.Cond.privateMethod ({ cls := "PackedForest", name := "firstCapital", desc := "()I" } : Jvm.MethodName)) ∈ lw_tbl := lw_at lw_m5 89 rfl
theorem q1249 : (Jvm.Cond.instanceMethod ({ cls := "PackedForest", name := "firstCapital", desc := "()I" } : Jvm.MethodName)) ∈ lw_all := lw_g (lw_at lw_m5 90 rfl) rfl
theorem q1250 : (Jvm.Cond.code ({ cls := "PackedForest", name := "firstCapital", desc := "()I" } : Jvm.MethodName) prog_1_method_129_code (2 : Nat) (Option.some Jvm.ClassFile.FieldType.int)) ∈ lw_all := lw_g (lw_at lw_m5 91 rfl) rfl
theorem q1251 : (Jvm.Cond.methodLink "PackedForest" (680 : Nat) ({ cls := "PackedForest", name := "rulesMany", desc := "(I)I" } : Jvm.MethodName)) ∈ lw_all := lw_g (lw_at lw_m5 92 rfl) rfl
theorem q1252 : (Jvm.Cond.privateMethod ({ cls := "PackedForest", name := "rulesMany", desc := "(I)I" } : Jvm.MethodName)) ∈ lw_tbl := lw_at lw_m5 93 rfl
theorem q1253 : (Jvm.Cond.instanceMethod ({ cls := "PackedForest", name := "rulesMany", desc := "(I)I" } : Jvm.MethodName)) ∈ lw_all := lw_g (lw_at lw_m5 94 rfl) rfl
theorem q1254 : (Jvm.Cond.code ({ cls := "PackedForest", name := "rulesMany", desc := "(I)I" } : Jvm.MethodName) prog_1_method_131_code (4 : Nat) (Option.some Jvm.ClassFile.FieldType.int)) ∈ lw_all := lw_g (lw_at lw_m5 95 rfl) rfl
theorem q1255 : (Jvm.Cond.methodLink "PackedForest" (683 : Nat) ({ cls := "PackedForest", name := "drawn", desc := "(I)I" } : Jvm.MethodName)) ∈ lw_all := lw_g (lw_at lw_m5 96 rfl) rfl
theorem q1256 : (Jvm.Cond.privateMethod ({ cls := "PackedForest", name := "drawn", desc := "(I)I" } : Jvm.MethodName)) ∈ lw_tbl := lw_at lw_m5 97 rfl
theorem q1257 : (Jvm.Cond.instanceMethod ({ cls := "PackedForest", name := "drawn", desc := "(I)I" } : Jvm.MethodName)) ∈ lw_all := lw_g (lw_at lw_m5 98 rfl) rfl
theorem q1258 : (Jvm.Cond.code ({ cls := "PackedForest", name := "drawn", desc := "(I)I" } : Jvm.MethodName) prog_1_method_128_code (2 : Nat) (Option.some Jvm.ClassFile.FieldType.int)) ∈ lw_all := lw_g (lw_at lw_m5 99 rfl) rfl
theorem q1259 : (Jvm.Cond.constantLong "PackedForest" (667 : Nat) (1103515245 : Int64)) ∈ lw_all := lw_g (lw_at lw_m5 100 rfl) rfl
theorem q1260 : (Jvm.Cond.constantLong "PackedForest" (669 : Nat) (12345 : Int64)) ∈ lw_all := lw_g (lw_at lw_m5 101 rfl) rfl
theorem q1261 : (Jvm.Cond.constantLong "PackedForest" (671 : Nat) (2147483648 : Int64)) ∈ lw_all := lw_g (lw_at lw_m5 102 rfl) rfl
theorem q1262 : (Jvm.Cond.constant "PackedForest" (673 : Nat) (65536 : Int32)) ∈ lw_all := lw_g (lw_at lw_m5 103 rfl) rfl
theorem q1263 : (Jvm.Cond.methodLink "PackedForest" (686 : Nat) ({ cls := "PackedForest", name := "ruleOf", desc := "(II)I" } : Jvm.MethodName)) ∈ lw_all := lw_g (lw_at lw_m5 104 rfl) rfl
theorem q1264 : (Jvm.Cond.privateMethod ({ cls := "PackedForest", name := "ruleOf", desc := "(II)I" } : Jvm.MethodName)) ∈ lw_tbl := lw_at lw_m5 105 rfl
theorem q1265 : (Jvm.Cond.instanceMethod ({ cls := "PackedForest", name := "ruleOf", desc := "(II)I" } : Jvm.MethodName)) ∈ lw_all := lw_g (lw_at lw_m5 106 rfl) rfl
theorem q1266 : (Jvm.Cond.code ({ cls := "PackedForest", name := "ruleOf", desc := "(II)I" } : Jvm.MethodName) prog_1_method_130_code (5 : Nat) (Option.some Jvm.ClassFile.FieldType.int)) ∈ lw_all := lw_g (lw_at lw_m5 107 rfl) rfl
theorem q1267 : (Jvm.Cond.methodLink "PackedForest" (689 : Nat) ({ cls := "PackedForest", name := "puts", desc := "(II)Z" } : Jvm.MethodName)) ∈ lw_all := lw_g (lw_at lw_m5 108 rfl) rfl
theorem q1268 : (Jvm.Cond.privateMethod ({ cls := "PackedForest", name := "puts", desc := "(II)Z" } : Jvm.MethodName)) ∈ lw_tbl := lw_at lw_m5 109 rfl
theorem q1269 : (Jvm.Cond.instanceMethod ({ cls := "PackedForest", name := "puts", desc := "(II)Z" } : Jvm.MethodName)) ∈ lw_all := lw_g (lw_at lw_m5 110 rfl) rfl
theorem q1270 : (Jvm.Cond.code ({ cls := "PackedForest", name := "puts", desc := "(II)Z" } : Jvm.MethodName) prog_1_method_132_code (5 : Nat) (Option.some Jvm.ClassFile.FieldType.boolean)) ∈ lw_all := lw_g (lw_at lw_m5 111 rfl) rfl
theorem q1272 : (Jvm.Cond.instanceMethod ({ cls := "PackedForest", name := "count", desc := "(I)I" } : Jvm.MethodName)) ∈ lw_all := lw_g (lw_at lw_m5 113 rfl) rfl
theorem q1273 : (Jvm.Cond.selects "PackedForest" ({ cls := "PackedForest", name := "count", desc := "(I)I" } : Jvm.MethodName) ({ cls := "PackedForest", name := "count", desc := "(I)I" } : Jvm.MethodName)) ∈ lw_all := lw_g (lw_at lw_m5 114 rfl) rfl
theorem q1274 : (Jvm.Cond.code ({ cls := "PackedForest", name := "count", desc := "(I)I" } : Jvm.MethodName) prog_1_method_135_code (2 : Nat) (Option.some Jvm.ClassFile.FieldType.int)) ∈ lw_all := lw_g (lw_at lw_m5 115 rfl) rfl
theorem q1276 : (Jvm.Cond.instanceMethod ({ cls := "PackedForest", name := "image", desc := "(I)I" } : Jvm.MethodName)) ∈ lw_all := lw_g (lw_at lw_m5 117 rfl) rfl
theorem q1277 : (Jvm.Cond.selects "PackedForest" ({ cls := "PackedForest", name := "image", desc := "(I)I" } : Jvm.MethodName) ({ cls := "PackedForest", name := "image", desc := "(I)I" } : Jvm.MethodName)) ∈ lw_all := lw_g (lw_at lw_m5 118 rfl) rfl
theorem q1278 : (Jvm.Cond.code ({ cls := "PackedForest", name := "image", desc := "(I)I" } : Jvm.MethodName) prog_1_method_136_code (3 : Nat) (Option.some Jvm.ClassFile.FieldType.int)) ∈ lw_all := lw_g (lw_at lw_m5 119 rfl) rfl
theorem q1280 : (Jvm.Cond.methodLinkNest "PackedForest" (699 : Nat) ({ cls := "PackedForest$Image", name := "<init>", desc := "()V" } : Jvm.MethodName) "PackedForest") ∈ lw_tbl := lw_at lw_m5 121 rfl
theorem q1284 : (Jvm.Cond.fieldLinkNest "PackedForest" (700 : Nat) "PackedForest$Image" "grammar" "LPackedForest$Grammar;" "PackedForest") ∈ lw_tbl := lw_at lw_m5 125 rfl
theorem q1285 : (Jvm.Cond.fieldLinkNest "PackedForest" (701 : Nat) "PackedForest$Image" "struck" "I" "PackedForest") ∈ lw_tbl := lw_at lw_m5 126 rfl
theorem q1286 : (Jvm.Cond.fieldLinkNest "PackedForest" (703 : Nat) "PackedForest$Image" "textMany" "I" "PackedForest") ∈ lw_tbl := lw_at lw_m5 127 rfl
theorem q1287 : (Jvm.Cond.fieldLinkNest "PackedForest" (704 : Nat) "PackedForest$Image" "filters" "I" "PackedForest") ∈ lw_tbl := lw_at lw_m5 128 rfl
theorem q1288 : (Jvm.Cond.fieldLinkNest "PackedForest" (706 : Nat) "PackedForest$Image" "banMany" "I" "PackedForest") ∈ lw_tbl := lw_at lw_m5 129 rfl
theorem q1289 : (Jvm.Cond.fieldLinkNest "PackedForest" (710 : Nat) "PackedForest$Image" "stepMany" "I" "PackedForest") ∈ lw_tbl := lw_at lw_m5 130 rfl
theorem q1290 : (Jvm.Cond.fieldLinkNest "PackedForest" (711 : Nat) "PackedForest$Image" "x" "I" "PackedForest") ∈ lw_tbl := lw_at lw_m5 131 rfl
theorem q1291 : (Jvm.Cond.fieldLinkNest "PackedForest" (702 : Nat) "PackedForest$Image" "text" "[I" "PackedForest") ∈ lw_tbl := lw_at lw_m5 132 rfl
theorem q1292 : (Jvm.Cond.fieldLinkNest "PackedForest" (705 : Nat) "PackedForest$Image" "bans" "[I" "PackedForest") ∈ lw_tbl := lw_at lw_m5 133 rfl
theorem q1293 : (Jvm.Cond.fieldLinkNest "PackedForest" (709 : Nat) "PackedForest$Image" "acts" "[LPackedForest$Act;" "PackedForest") ∈ lw_tbl := lw_at lw_m5 134 rfl
theorem q1315 : (Jvm.Cond.methodLink "PackedForest" (707 : Nat) ({ cls := "[LPackedForest$Act;", name := "clone", desc := "()Ljava/lang/Object;" } : Jvm.MethodName)) ∈ lw_all := lw_g (lw_at lw_m5 156 rfl) rfl
theorem q1319 : (Jvm.Cond.classLink "PackedForest" (708 : Nat) "[LPackedForest$Act;") ∈ lw_all := lw_g (lw_at lw_m5 160 rfl) rfl
theorem q1321 : (Jvm.Cond.instanceMethod ({ cls := "PackedForest", name := "back", desc := "(I)I" } : Jvm.MethodName)) ∈ lw_all := lw_g (lw_at lw_m5 162 rfl) rfl
theorem q1322 : (Jvm.Cond.selects "PackedForest" ({ cls := "PackedForest", name := "back", desc := "(I)I" } : Jvm.MethodName) ({ cls := "PackedForest", name := "back", desc := "(I)I" } : Jvm.MethodName)) ∈ lw_all := lw_g (lw_at lw_m5 163 rfl) rfl
theorem q1323 : (Jvm.Cond.code ({ cls := "PackedForest", name := "back", desc := "(I)I" } : Jvm.MethodName) prog_1_method_137_code (3 : Nat) (Option.some Jvm.ClassFile.FieldType.int)) ∈ lw_all := lw_g (lw_at lw_m5 164 rfl) rfl
theorem in_X0 : ∀ w ∈ wsX00, w ∈ lw_all := lw_in wsX00 [479, 481, 483, 485, 487, 489, 491, 493, 495, 497, 499, 501, 503, 505, 507, 509, 511, 513, 515, 517, 519, 521, 523, 525, 527, 529, 531, 533, 535, 537, 539, 541, 543, 545, 547, 549, 551, 553, 555, 557, 559, 561, 563, 565, 567, 569, 571, 573, 575, 577, 579, 581, 583, 585, 587, 589, 591, 593, 595, 597, 599, 601, 603, 605, 607, 609] (by decide +kernel) (by decide +kernel)

abbrev cX5_at : ByteArray := prog_6_method_2_code
def yX5_at : MethodName := ⟨RX5, "at", "(II)I"⟩
def dkwX5_at_0 : List UInt8 := [42, 180, 0, 24, 7, 27, 104, 28, 96, 46, 172]
abbrev dktX5_at_0 : List UInt8 := dkwX5_at_0 ++ []
theorem dksX5_at_0 : cX5_at.data.toList.drop 0 = dktX5_at_0 := by decide +kernel
theorem dX5_at_0 : decode cX5_at 0 = .ok (.aload_n 0, 1) := dk_42 (dk_at dksX5_at_0 0 rfl rfl)
theorem dX5_at_1 : decode cX5_at 1 = .ok (.getfield 24, 3) := dk_180 0 24 (dk_at dksX5_at_0 1 rfl rfl)
theorem dX5_at_4 : decode cX5_at 4 = .ok (.iconst 4, 1) := dk_7 (dk_at dksX5_at_0 4 rfl rfl)
theorem dX5_at_5 : decode cX5_at 5 = .ok (.iload_n 1, 1) := dk_27 (dk_at dksX5_at_0 5 rfl rfl)
theorem dX5_at_6 : decode cX5_at 6 = .ok (.imul, 1) := dk_104 (dk_at dksX5_at_0 6 rfl rfl)
theorem dX5_at_7 : decode cX5_at 7 = .ok (.iload_n 2, 1) := dk_28 (dk_at dksX5_at_0 7 rfl rfl)
theorem dX5_at_8 : decode cX5_at 8 = .ok (.iadd, 1) := dk_96 (dk_at dksX5_at_0 8 rfl rfl)
theorem dX5_at_9 : decode cX5_at 9 = .ok (.iaload, 1) := dk_46 (dk_at dksX5_at_0 9 rfl rfl)
theorem dX5_at_10 : decode cX5_at 10 = .ok (.ireturn, 1) := dk_172 (dk_at dksX5_at_0 10 rfl rfl)
abbrev cX5_init : ByteArray := prog_6_method_1_code
def yX5_init : MethodName := ⟨RX5, "<init>", "()V"⟩
def dkwX5_init_2 : List UInt8 := [188, 10, 181, 0, 27, 177]
abbrev dktX5_init_2 : List UInt8 := dkwX5_init_2 ++ []
def dkwX5_init_1 : List UInt8 := [188, 10, 181, 0, 18, 42, 16, 12, 188, 10, 181, 0, 21, 42, 16, 48, 188, 10, 181, 0, 24, 42, 16, 48]
abbrev dktX5_init_1 : List UInt8 := dkwX5_init_1 ++ dktX5_init_2
def dkwX5_init_0 : List UInt8 := [42, 183, 0, 3, 42, 16, 12, 188, 10, 181, 0, 9, 42, 16, 12, 188, 10, 181, 0, 15, 42, 16, 12]
abbrev dktX5_init_0 : List UInt8 := dkwX5_init_0 ++ dktX5_init_1
theorem dksX5_init_0 : cX5_init.data.toList.drop 0 = dktX5_init_0 := by decide +kernel
theorem dksX5_init_1 : cX5_init.data.toList.drop 23 = dktX5_init_1 := dk_seg dksX5_init_0 23 rfl rfl
theorem dksX5_init_2 : cX5_init.data.toList.drop 47 = dktX5_init_2 := dk_seg dksX5_init_1 24 rfl rfl
theorem dX5_init_0 : decode cX5_init 0 = .ok (.aload_n 0, 1) := dk_42 (dk_at dksX5_init_0 0 rfl rfl)
theorem dX5_init_1 : decode cX5_init 1 = .ok (.invokespecial 3, 3) := dk_183 0 3 (dk_at dksX5_init_0 1 rfl rfl)
theorem dX5_init_4 : decode cX5_init 4 = .ok (.aload_n 0, 1) := dk_42 (dk_at dksX5_init_0 4 rfl rfl)
theorem dX5_init_5 : decode cX5_init 5 = .ok (.bipush 12, 2) := dk_16 12 (dk_at dksX5_init_0 5 rfl rfl)
theorem dX5_init_7 : decode cX5_init 7 = .ok (.newarray .int, 2) := dk_188_10 (dk_at dksX5_init_0 7 rfl rfl)
theorem dX5_init_9 : decode cX5_init 9 = .ok (.putfield 9, 3) := dk_181 0 9 (dk_at dksX5_init_0 9 rfl rfl)
theorem dX5_init_12 : decode cX5_init 12 = .ok (.aload_n 0, 1) := dk_42 (dk_at dksX5_init_0 12 rfl rfl)
theorem dX5_init_13 : decode cX5_init 13 = .ok (.bipush 12, 2) := dk_16 12 (dk_at dksX5_init_0 13 rfl rfl)
theorem dX5_init_15 : decode cX5_init 15 = .ok (.newarray .int, 2) := dk_188_10 (dk_at dksX5_init_0 15 rfl rfl)
theorem dX5_init_17 : decode cX5_init 17 = .ok (.putfield 15, 3) := dk_181 0 15 (dk_at dksX5_init_0 17 rfl rfl)
theorem dX5_init_20 : decode cX5_init 20 = .ok (.aload_n 0, 1) := dk_42 (dk_at dksX5_init_0 20 rfl rfl)
theorem dX5_init_21 : decode cX5_init 21 = .ok (.bipush 12, 2) := dk_16 12 (dk_at dksX5_init_0 21 rfl rfl)
theorem dX5_init_23 : decode cX5_init 23 = .ok (.newarray .int, 2) := dk_188_10 (dk_at dksX5_init_1 0 rfl rfl)
theorem dX5_init_25 : decode cX5_init 25 = .ok (.putfield 18, 3) := dk_181 0 18 (dk_at dksX5_init_1 2 rfl rfl)
theorem dX5_init_28 : decode cX5_init 28 = .ok (.aload_n 0, 1) := dk_42 (dk_at dksX5_init_1 5 rfl rfl)
theorem dX5_init_29 : decode cX5_init 29 = .ok (.bipush 12, 2) := dk_16 12 (dk_at dksX5_init_1 6 rfl rfl)
theorem dX5_init_31 : decode cX5_init 31 = .ok (.newarray .int, 2) := dk_188_10 (dk_at dksX5_init_1 8 rfl rfl)
theorem dX5_init_33 : decode cX5_init 33 = .ok (.putfield 21, 3) := dk_181 0 21 (dk_at dksX5_init_1 10 rfl rfl)
theorem dX5_init_36 : decode cX5_init 36 = .ok (.aload_n 0, 1) := dk_42 (dk_at dksX5_init_1 13 rfl rfl)
theorem dX5_init_37 : decode cX5_init 37 = .ok (.bipush 48, 2) := dk_16 48 (dk_at dksX5_init_1 14 rfl rfl)
theorem dX5_init_39 : decode cX5_init 39 = .ok (.newarray .int, 2) := dk_188_10 (dk_at dksX5_init_1 16 rfl rfl)
theorem dX5_init_41 : decode cX5_init 41 = .ok (.putfield 24, 3) := dk_181 0 24 (dk_at dksX5_init_1 18 rfl rfl)
theorem dX5_init_44 : decode cX5_init 44 = .ok (.aload_n 0, 1) := dk_42 (dk_at dksX5_init_1 21 rfl rfl)
theorem dX5_init_45 : decode cX5_init 45 = .ok (.bipush 48, 2) := dk_16 48 (dk_at dksX5_init_1 22 rfl rfl)
theorem dX5_init_47 : decode cX5_init 47 = .ok (.newarray .int, 2) := dk_188_10 (dk_at dksX5_init_2 0 rfl rfl)
theorem dX5_init_49 : decode cX5_init 49 = .ok (.putfield 27, 3) := dk_181 0 27 (dk_at dksX5_init_2 2 rfl rfl)
theorem dX5_init_52 : decode cX5_init 52 = .ok (.return_, 1) := dk_177 (dk_at dksX5_init_2 5 rfl rfl)
theorem q209 : (Jvm.Cond.initialized "PackedForest$Grammar") ∈ lw_all := lw_g (lw_at lw_m1 10 rfl) rfl
theorem q307 : (Jvm.Cond.instanceMethod ({ cls := "PackedForest$Grammar", name := "at", desc := "(II)I" } : Jvm.MethodName)) ∈ lw_all := lw_g (lw_at lw_m1 108 rfl) rfl
theorem q308 : (Jvm.Cond.selects "PackedForest$Grammar" ({ cls := "PackedForest$Grammar", name := "at", desc := "(II)I" } : Jvm.MethodName) ({ cls := "PackedForest$Grammar", name := "at", desc := "(II)I" } : Jvm.MethodName)) ∈ lw_all := lw_g (lw_at lw_m1 109 rfl) rfl
theorem q309 : (Jvm.Cond.code ({ cls := "PackedForest$Grammar", name := "at", desc := "(II)I" } : Jvm.MethodName) prog_6_method_2_code (3 : Nat) (Option.some Jvm.ClassFile.FieldType.int)) ∈ lw_all := lw_g (lw_at lw_m1 110 rfl) rfl
theorem q639 : (Jvm.Cond.instantiable "PackedForest$Grammar" (9 : Nat)) ∈ lw_all := lw_g (lw_at lw_m2 200 rfl) rfl
theorem q641 : (Jvm.Cond.instanceMethod ({ cls := "PackedForest$Grammar", name := "<init>", desc := "()V" } : Jvm.MethodName)) ∈ lw_all := lw_g (lw_at lw_m2 202 rfl) rfl
theorem q642 : (Jvm.Cond.code ({ cls := "PackedForest$Grammar", name := "<init>", desc := "()V" } : Jvm.MethodName) prog_6_method_1_code (1 : Nat) (Option.none : Option Jvm.ClassFile.FieldType)) ∈ lw_all := lw_g (lw_at lw_m2 203 rfl) rfl
theorem q643 : (Jvm.Cond.methodLink "PackedForest$Grammar" (3 : Nat) ({ cls := "java/lang/Object", name := "<init>", desc := "()V" } : Jvm.MethodName)) ∈ lw_all := lw_g (lw_at lw_m2 204 rfl) rfl
theorem q650 : (Jvm.Cond.fieldLink "PackedForest$Grammar" (9 : Nat) "PackedForest$Grammar" "left" "[I") ∈ lw_all := lw_g (lw_at lw_m2 211 rfl) rfl
theorem q653 : (Jvm.Cond.fieldLink "PackedForest$Grammar" (15 : Nat) "PackedForest$Grammar" "size" "[I") ∈ lw_all := lw_g (lw_at lw_m2 214 rfl) rfl
theorem q657 : (Jvm.Cond.fieldLink "PackedForest$Grammar" (18 : Nat) "PackedForest$Grammar" "rank" "[I") ∈ lw_all := lw_g (lw_at lw_m2 218 rfl) rfl
theorem q660 : (Jvm.Cond.fieldLink "PackedForest$Grammar" (21 : Nat) "PackedForest$Grammar" "side" "[I") ∈ lw_all := lw_g (lw_at lw_m2 221 rfl) rfl
theorem q663 : (Jvm.Cond.fieldLink "PackedForest$Grammar" (24 : Nat) "PackedForest$Grammar" "symbols" "[I") ∈ lw_all := lw_g (lw_at lw_m2 224 rfl) rfl
theorem q665 : (Jvm.Cond.fieldLink "PackedForest$Grammar" (27 : Nat) "PackedForest$Grammar" "placed" "[I") ∈ lw_all := lw_g (lw_at lw_m2 226 rfl) rfl
theorem q667 : (Jvm.Cond.lays "PackedForest$Grammar" "PackedForest$Grammar" "many" "I") ∈ lw_all := lw_g (lw_at lw_m2 228 rfl) rfl
theorem q668 : (Jvm.Cond.soleField "PackedForest$Grammar" "many") ∈ lw_all := lw_g (lw_at lw_m2 229 rfl) rfl
theorem q669 : (Jvm.Cond.lays "PackedForest$Grammar" "PackedForest$Grammar" "lefts" "I") ∈ lw_all := lw_g (lw_at lw_m2 230 rfl) rfl
theorem q670 : (Jvm.Cond.soleField "PackedForest$Grammar" "lefts") ∈ lw_all := lw_g (lw_at lw_m2 231 rfl) rfl
theorem q671 : (Jvm.Cond.lays "PackedForest$Grammar" "PackedForest$Grammar" "start" "I") ∈ lw_all := lw_g (lw_at lw_m2 232 rfl) rfl
theorem q672 : (Jvm.Cond.soleField "PackedForest$Grammar" "start") ∈ lw_all := lw_g (lw_at lw_m2 233 rfl) rfl
theorem q673 : (Jvm.Cond.laysFinal "PackedForest$Grammar" "PackedForest$Grammar" "left" "[I") ∈ lw_all := lw_g (lw_at lw_m2 234 rfl) rfl
theorem q674 : (Jvm.Cond.soleField "PackedForest$Grammar" "left") ∈ lw_all := lw_g (lw_at lw_m2 235 rfl) rfl
theorem q675 : (Jvm.Cond.laysFinal "PackedForest$Grammar" "PackedForest$Grammar" "size" "[I") ∈ lw_all := lw_g (lw_at lw_m2 236 rfl) rfl
theorem q676 : (Jvm.Cond.soleField "PackedForest$Grammar" "size") ∈ lw_all := lw_g (lw_at lw_m2 237 rfl) rfl
theorem q677 : (Jvm.Cond.laysFinal "PackedForest$Grammar" "PackedForest$Grammar" "rank" "[I") ∈ lw_all := lw_g (lw_at lw_m2 238 rfl) rfl
theorem q678 : (Jvm.Cond.soleField "PackedForest$Grammar" "rank") ∈ lw_all := lw_g (lw_at lw_m2 239 rfl) rfl
theorem q679 : (Jvm.Cond.laysFinal "PackedForest$Grammar" "PackedForest$Grammar" "side" "[I") ∈ lw_all := lw_g (lw_at lw_m3 0 rfl) rfl
theorem q680 : (Jvm.Cond.soleField "PackedForest$Grammar" "side") ∈ lw_all := lw_g (lw_at lw_m3 1 rfl) rfl
theorem q681 : (Jvm.Cond.laysFinal "PackedForest$Grammar" "PackedForest$Grammar" "symbols" "[I") ∈ lw_all := lw_g (lw_at lw_m3 2 rfl) rfl
theorem q682 : (Jvm.Cond.soleField "PackedForest$Grammar" "symbols") ∈ lw_all := lw_g (lw_at lw_m3 3 rfl) rfl
theorem q683 : (Jvm.Cond.laysFinal "PackedForest$Grammar" "PackedForest$Grammar" "placed" "[I") ∈ lw_all := lw_g (lw_at lw_m3 4 rfl) rfl
theorem q684 : (Jvm.Cond.soleField "PackedForest$Grammar" "placed") ∈ lw_all := lw_g (lw_at lw_m3 5 rfl) rfl
theorem q685 : (Jvm.Cond.superclass "PackedForest$Grammar" "java/lang/Object") ∈ lw_all := lw_g (lw_at lw_m3 6 rfl) rfl
theorem in_X5 : ∀ w ∈ wsX50, w ∈ lw_all := lw_in wsX50 [667, 669, 671, 673, 675, 677, 679, 681, 683] (by decide +kernel) (by decide +kernel)

def RJ3 : String := "java/lang/Math"
abbrev cJ3_min : ByteArray := prog_18_method_69_code
def yJ3_min : MethodName := ⟨RJ3, "min", "(II)I"⟩
def dkwJ3_min_0 : List UInt8 := [26, 27, 163, 0, 7, 26, 167, 0, 4, 27, 172]
abbrev dktJ3_min_0 : List UInt8 := dkwJ3_min_0 ++ []
theorem dksJ3_min_0 : cJ3_min.data.toList.drop 0 = dktJ3_min_0 := by decide +kernel
theorem dJ3_min_0 : decode cJ3_min 0 = .ok (.iload_n 0, 1) := dk_26 (dk_at dksJ3_min_0 0 rfl rfl)
theorem dJ3_min_1 : decode cJ3_min 1 = .ok (.iload_n 1, 1) := dk_27 (dk_at dksJ3_min_0 1 rfl rfl)
theorem dJ3_min_2 : decode cJ3_min 2 = .ok (.if_icmp .gt 7, 3) := dk_163 0 7 (dk_at dksJ3_min_0 2 rfl rfl)
theorem dJ3_min_5 : decode cJ3_min 5 = .ok (.iload_n 0, 1) := dk_26 (dk_at dksJ3_min_0 5 rfl rfl)
theorem dJ3_min_6 : decode cJ3_min 6 = .ok (.goto 4, 3) := dk_167 0 4 (dk_at dksJ3_min_0 6 rfl rfl)
theorem dJ3_min_9 : decode cJ3_min 9 = .ok (.iload_n 1, 1) := dk_27 (dk_at dksJ3_min_0 9 rfl rfl)
theorem dJ3_min_10 : decode cJ3_min 10 = .ok (.ireturn, 1) := dk_172 (dk_at dksJ3_min_0 10 rfl rfl)
abbrev cJ3_max : ByteArray := prog_18_method_65_code
def yJ3_max : MethodName := ⟨RJ3, "max", "(II)I"⟩
def dkwJ3_max_0 : List UInt8 := [26, 27, 161, 0, 7, 26, 167, 0, 4, 27, 172]
abbrev dktJ3_max_0 : List UInt8 := dkwJ3_max_0 ++ []
theorem dksJ3_max_0 : cJ3_max.data.toList.drop 0 = dktJ3_max_0 := by decide +kernel
theorem dJ3_max_0 : decode cJ3_max 0 = .ok (.iload_n 0, 1) := dk_26 (dk_at dksJ3_max_0 0 rfl rfl)
theorem dJ3_max_1 : decode cJ3_max 1 = .ok (.iload_n 1, 1) := dk_27 (dk_at dksJ3_max_0 1 rfl rfl)
theorem dJ3_max_2 : decode cJ3_max 2 = .ok (.if_icmp .lt 7, 3) := dk_161 0 7 (dk_at dksJ3_max_0 2 rfl rfl)
theorem dJ3_max_5 : decode cJ3_max 5 = .ok (.iload_n 0, 1) := dk_26 (dk_at dksJ3_max_0 5 rfl rfl)
theorem dJ3_max_6 : decode cJ3_max 6 = .ok (.goto 4, 3) := dk_167 0 4 (dk_at dksJ3_max_0 6 rfl rfl)
theorem dJ3_max_9 : decode cJ3_max 9 = .ok (.iload_n 1, 1) := dk_27 (dk_at dksJ3_max_0 9 rfl rfl)
theorem dJ3_max_10 : decode cJ3_max 10 = .ok (.ireturn, 1) := dk_172 (dk_at dksJ3_max_0 10 rfl rfl)
theorem q205 : (Jvm.Cond.initialized "java/lang/Math") ∈ lw_all := lw_g (lw_at lw_m1 6 rfl) rfl
theorem q360 : (Jvm.Cond.static ({ cls := "java/lang/Math", name := "min", desc := "(II)I" } : Jvm.MethodName)) ∈ lw_all := lw_g (lw_at lw_m1 161 rfl) rfl
theorem q361 : (Jvm.Cond.code ({ cls := "java/lang/Math", name := "min", desc := "(II)I" } : Jvm.MethodName) prog_18_method_69_code (2 : Nat) (Option.some Jvm.ClassFile.FieldType.int)) ∈ lw_all := lw_g (lw_at lw_m1 162 rfl) rfl
theorem q366 : (Jvm.Cond.static ({ cls := "java/lang/Math", name := "max", desc := "(II)I" } : Jvm.MethodName)) ∈ lw_all := lw_g (lw_at lw_m1 167 rfl) rfl
theorem q367 : (Jvm.Cond.code ({ cls := "java/lang/Math", name := "max", desc := "(II)I" } : Jvm.MethodName) prog_18_method_65_code (2 : Nat) (Option.some Jvm.ClassFile.FieldType.int)) ∈ lw_all := lw_g (lw_at lw_m1 168 rfl) rfl

def RJ4 : String := "java/lang/Integer"
abbrev cJ4_bitCount : ByteArray := prog_17_method_49_code
def yJ4_bitCount : MethodName := ⟨RJ4, "bitCount", "(I)I"⟩
def dkwJ4_bitCount_2 : List UInt8 := [26, 16, 63, 126, 172]
abbrev dktJ4_bitCount_2 : List UInt8 := dkwJ4_bitCount_2 ++ []
def dkwJ4_bitCount_1 : List UInt8 := [26, 26, 7, 124, 96, 19, 1, 11, 126, 59, 26, 26, 16, 8, 124, 96, 59, 26, 26, 16, 16, 124, 96, 59]
abbrev dktJ4_bitCount_1 : List UInt8 := dkwJ4_bitCount_1 ++ dktJ4_bitCount_2
def dkwJ4_bitCount_0 : List UInt8 := [26, 26, 4, 124, 19, 1, 9, 126, 100, 59, 26, 19, 1, 10, 126, 26, 5, 124, 19, 1, 10, 126, 96, 59]
abbrev dktJ4_bitCount_0 : List UInt8 := dkwJ4_bitCount_0 ++ dktJ4_bitCount_1
theorem dksJ4_bitCount_0 : cJ4_bitCount.data.toList.drop 0 = dktJ4_bitCount_0 := by decide +kernel
theorem dksJ4_bitCount_1 : cJ4_bitCount.data.toList.drop 24 = dktJ4_bitCount_1 := dk_seg dksJ4_bitCount_0 24 rfl rfl
theorem dksJ4_bitCount_2 : cJ4_bitCount.data.toList.drop 48 = dktJ4_bitCount_2 := dk_seg dksJ4_bitCount_1 24 rfl rfl
theorem dJ4_bitCount_0 : decode cJ4_bitCount 0 = .ok (.iload_n 0, 1) := dk_26 (dk_at dksJ4_bitCount_0 0 rfl rfl)
theorem dJ4_bitCount_1 : decode cJ4_bitCount 1 = .ok (.iload_n 0, 1) := dk_26 (dk_at dksJ4_bitCount_0 1 rfl rfl)
theorem dJ4_bitCount_2 : decode cJ4_bitCount 2 = .ok (.iconst 1, 1) := dk_4 (dk_at dksJ4_bitCount_0 2 rfl rfl)
theorem dJ4_bitCount_3 : decode cJ4_bitCount 3 = .ok (.iushr, 1) := dk_124 (dk_at dksJ4_bitCount_0 3 rfl rfl)
theorem dJ4_bitCount_4 : decode cJ4_bitCount 4 = .ok (.ldc_w 265, 3) := dk_19 1 9 (dk_at dksJ4_bitCount_0 4 rfl rfl)
theorem dJ4_bitCount_7 : decode cJ4_bitCount 7 = .ok (.iand, 1) := dk_126 (dk_at dksJ4_bitCount_0 7 rfl rfl)
theorem dJ4_bitCount_8 : decode cJ4_bitCount 8 = .ok (.isub, 1) := dk_100 (dk_at dksJ4_bitCount_0 8 rfl rfl)
theorem dJ4_bitCount_9 : decode cJ4_bitCount 9 = .ok (.istore_n 0, 1) := dk_59 (dk_at dksJ4_bitCount_0 9 rfl rfl)
theorem dJ4_bitCount_10 : decode cJ4_bitCount 10 = .ok (.iload_n 0, 1) := dk_26 (dk_at dksJ4_bitCount_0 10 rfl rfl)
theorem dJ4_bitCount_11 : decode cJ4_bitCount 11 = .ok (.ldc_w 266, 3) := dk_19 1 10 (dk_at dksJ4_bitCount_0 11 rfl rfl)
theorem dJ4_bitCount_14 : decode cJ4_bitCount 14 = .ok (.iand, 1) := dk_126 (dk_at dksJ4_bitCount_0 14 rfl rfl)
theorem dJ4_bitCount_15 : decode cJ4_bitCount 15 = .ok (.iload_n 0, 1) := dk_26 (dk_at dksJ4_bitCount_0 15 rfl rfl)
theorem dJ4_bitCount_16 : decode cJ4_bitCount 16 = .ok (.iconst 2, 1) := dk_5 (dk_at dksJ4_bitCount_0 16 rfl rfl)
theorem dJ4_bitCount_17 : decode cJ4_bitCount 17 = .ok (.iushr, 1) := dk_124 (dk_at dksJ4_bitCount_0 17 rfl rfl)
theorem dJ4_bitCount_18 : decode cJ4_bitCount 18 = .ok (.ldc_w 266, 3) := dk_19 1 10 (dk_at dksJ4_bitCount_0 18 rfl rfl)
theorem dJ4_bitCount_21 : decode cJ4_bitCount 21 = .ok (.iand, 1) := dk_126 (dk_at dksJ4_bitCount_0 21 rfl rfl)
theorem dJ4_bitCount_22 : decode cJ4_bitCount 22 = .ok (.iadd, 1) := dk_96 (dk_at dksJ4_bitCount_0 22 rfl rfl)
theorem dJ4_bitCount_23 : decode cJ4_bitCount 23 = .ok (.istore_n 0, 1) := dk_59 (dk_at dksJ4_bitCount_0 23 rfl rfl)
theorem dJ4_bitCount_24 : decode cJ4_bitCount 24 = .ok (.iload_n 0, 1) := dk_26 (dk_at dksJ4_bitCount_1 0 rfl rfl)
theorem dJ4_bitCount_25 : decode cJ4_bitCount 25 = .ok (.iload_n 0, 1) := dk_26 (dk_at dksJ4_bitCount_1 1 rfl rfl)
theorem dJ4_bitCount_26 : decode cJ4_bitCount 26 = .ok (.iconst 4, 1) := dk_7 (dk_at dksJ4_bitCount_1 2 rfl rfl)
theorem dJ4_bitCount_27 : decode cJ4_bitCount 27 = .ok (.iushr, 1) := dk_124 (dk_at dksJ4_bitCount_1 3 rfl rfl)
theorem dJ4_bitCount_28 : decode cJ4_bitCount 28 = .ok (.iadd, 1) := dk_96 (dk_at dksJ4_bitCount_1 4 rfl rfl)
theorem dJ4_bitCount_29 : decode cJ4_bitCount 29 = .ok (.ldc_w 267, 3) := dk_19 1 11 (dk_at dksJ4_bitCount_1 5 rfl rfl)
theorem dJ4_bitCount_32 : decode cJ4_bitCount 32 = .ok (.iand, 1) := dk_126 (dk_at dksJ4_bitCount_1 8 rfl rfl)
theorem dJ4_bitCount_33 : decode cJ4_bitCount 33 = .ok (.istore_n 0, 1) := dk_59 (dk_at dksJ4_bitCount_1 9 rfl rfl)
theorem dJ4_bitCount_34 : decode cJ4_bitCount 34 = .ok (.iload_n 0, 1) := dk_26 (dk_at dksJ4_bitCount_1 10 rfl rfl)
theorem dJ4_bitCount_35 : decode cJ4_bitCount 35 = .ok (.iload_n 0, 1) := dk_26 (dk_at dksJ4_bitCount_1 11 rfl rfl)
theorem dJ4_bitCount_36 : decode cJ4_bitCount 36 = .ok (.bipush 8, 2) := dk_16 8 (dk_at dksJ4_bitCount_1 12 rfl rfl)
theorem dJ4_bitCount_38 : decode cJ4_bitCount 38 = .ok (.iushr, 1) := dk_124 (dk_at dksJ4_bitCount_1 14 rfl rfl)
theorem dJ4_bitCount_39 : decode cJ4_bitCount 39 = .ok (.iadd, 1) := dk_96 (dk_at dksJ4_bitCount_1 15 rfl rfl)
theorem dJ4_bitCount_40 : decode cJ4_bitCount 40 = .ok (.istore_n 0, 1) := dk_59 (dk_at dksJ4_bitCount_1 16 rfl rfl)
theorem dJ4_bitCount_41 : decode cJ4_bitCount 41 = .ok (.iload_n 0, 1) := dk_26 (dk_at dksJ4_bitCount_1 17 rfl rfl)
theorem dJ4_bitCount_42 : decode cJ4_bitCount 42 = .ok (.iload_n 0, 1) := dk_26 (dk_at dksJ4_bitCount_1 18 rfl rfl)
theorem dJ4_bitCount_43 : decode cJ4_bitCount 43 = .ok (.bipush 16, 2) := dk_16 16 (dk_at dksJ4_bitCount_1 19 rfl rfl)
theorem dJ4_bitCount_45 : decode cJ4_bitCount 45 = .ok (.iushr, 1) := dk_124 (dk_at dksJ4_bitCount_1 21 rfl rfl)
theorem dJ4_bitCount_46 : decode cJ4_bitCount 46 = .ok (.iadd, 1) := dk_96 (dk_at dksJ4_bitCount_1 22 rfl rfl)
theorem dJ4_bitCount_47 : decode cJ4_bitCount 47 = .ok (.istore_n 0, 1) := dk_59 (dk_at dksJ4_bitCount_1 23 rfl rfl)
theorem dJ4_bitCount_48 : decode cJ4_bitCount 48 = .ok (.iload_n 0, 1) := dk_26 (dk_at dksJ4_bitCount_2 0 rfl rfl)
theorem dJ4_bitCount_49 : decode cJ4_bitCount 49 = .ok (.bipush 63, 2) := dk_16 63 (dk_at dksJ4_bitCount_2 1 rfl rfl)
theorem dJ4_bitCount_51 : decode cJ4_bitCount 51 = .ok (.iand, 1) := dk_126 (dk_at dksJ4_bitCount_2 3 rfl rfl)
theorem dJ4_bitCount_52 : decode cJ4_bitCount 52 = .ok (.ireturn, 1) := dk_172 (dk_at dksJ4_bitCount_2 4 rfl rfl)
theorem q210 : (Jvm.Cond.initialized "java/lang/Integer") ∈ lw_all := lw_g (lw_at lw_m1 11 rfl) rfl
theorem q729 : (Jvm.Cond.static ({ cls := "java/lang/Integer", name := "bitCount", desc := "(I)I" } : Jvm.MethodName)) ∈ lw_all := lw_g (lw_at lw_m3 50 rfl) rfl
theorem q730 : (Jvm.Cond.code ({ cls := "java/lang/Integer", name := "bitCount", desc := "(I)I" } : Jvm.MethodName) prog_17_method_49_code (1 : Nat) (Option.some Jvm.ClassFile.FieldType.int)) ∈ lw_all := lw_g (lw_at lw_m3 51 rfl) rfl
theorem q731 : (Jvm.Cond.constant "java/lang/Integer" (265 : Nat) (1431655765 : Int32)) ∈ lw_all := lw_g (lw_at lw_m3 52 rfl) rfl
theorem q732 : (Jvm.Cond.constant "java/lang/Integer" (266 : Nat) (858993459 : Int32)) ∈ lw_all := lw_g (lw_at lw_m3 53 rfl) rfl
theorem q733 : (Jvm.Cond.constant "java/lang/Integer" (267 : Nat) (252645135 : Int32)) ∈ lw_all := lw_g (lw_at lw_m3 54 rfl) rfl

theorem q211 : (Jvm.Cond.initialized "java/lang/System") ∈ lw_all := lw_g (lw_at lw_m1 12 rfl) rfl
theorem q936 : (Jvm.Cond.static ({ cls := "java/lang/System", name := "arraycopy", desc := "(Ljava/lang/Object;ILjava/lang/Object;II)V" } : Jvm.MethodName)) ∈ lw_all := lw_g (lw_at lw_m4 17 rfl) rfl
theorem q937 : (Jvm.Cond.native ({ cls := "java/lang/System", name := "arraycopy", desc := "(Ljava/lang/Object;ILjava/lang/Object;II)V" } : Jvm.MethodName)) ∈ lw_all := lw_g (lw_at lw_m4 18 rfl) rfl
