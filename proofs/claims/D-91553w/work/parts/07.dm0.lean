set_option maxRecDepth 100000
abbrev cX3_init : ByteArray := prog_22_method_1_code
def yX3_init : MethodName := ⟨RX3, "<init>", "()V"⟩
def dkwX3_init_19 : List UInt8 := [16, 20, 188, 10, 181, 0, 175, 42, 16, 40, 188, 10, 181, 0, 178, 177]
abbrev dktX3_init_19 : List UInt8 := dkwX3_init_19 ++ []
def dkwX3_init_18 : List UInt8 := [16, 40, 188, 10, 181, 0, 166, 42, 16, 40, 188, 10, 181, 0, 169, 42, 16, 40, 188, 4, 181, 0, 172, 42]
abbrev dktX3_init_18 : List UInt8 := dkwX3_init_18 ++ dktX3_init_19
def dkwX3_init_17 : List UInt8 := [16, 60, 188, 10, 181, 0, 157, 42, 16, 40, 188, 10, 181, 0, 160, 42, 16, 40, 188, 10, 181, 0, 163, 42]
abbrev dktX3_init_17 : List UInt8 := dkwX3_init_17 ++ dktX3_init_18
def dkwX3_init_16 : List UInt8 := [16, 80, 188, 10, 181, 0, 148, 42, 16, 60, 188, 10, 181, 0, 151, 42, 16, 60, 188, 10, 181, 0, 154, 42]
abbrev dktX3_init_16 : List UInt8 := dkwX3_init_16 ++ dktX3_init_17
def dkwX3_init_15 : List UInt8 := [16, 80, 188, 10, 181, 0, 139, 42, 16, 80, 188, 10, 181, 0, 142, 42, 16, 80, 188, 10, 181, 0, 145, 42]
abbrev dktX3_init_15 : List UInt8 := dkwX3_init_15 ++ dktX3_init_16
def dkwX3_init_14 : List UInt8 := [42, 180, 0, 41, 181, 0, 130, 42, 16, 12, 188, 4, 181, 0, 133, 42, 16, 80, 188, 10, 181, 0, 136, 42]
abbrev dktX3_init_14 : List UInt8 := dkwX3_init_14 ++ dktX3_init_15
def dkwX3_init_13 : List UInt8 := [188, 4, 181, 0, 121, 42, 17, 0, 200, 188, 4, 181, 0, 124, 42, 17, 0, 200, 188, 4, 181, 0, 127, 42]
abbrev dktX3_init_13 : List UInt8 := dkwX3_init_13 ++ dktX3_init_14
def dkwX3_init_12 : List UInt8 := [181, 0, 112, 42, 17, 0, 200, 188, 10, 181, 0, 115, 42, 16, 40, 188, 4, 181, 0, 118, 42, 16, 40]
abbrev dktX3_init_12 : List UInt8 := dkwX3_init_12 ++ dktX3_init_13
def dkwX3_init_11 : List UInt8 := [42, 16, 40, 188, 10, 181, 0, 106, 42, 17, 0, 200, 188, 10, 181, 0, 109, 42, 17, 0, 200, 188, 10]
abbrev dktX3_init_11 : List UInt8 := dkwX3_init_11 ++ dktX3_init_12
def dkwX3_init_10 : List UInt8 := [42, 16, 40, 188, 10, 181, 0, 97, 42, 16, 40, 188, 10, 181, 0, 100, 42, 16, 40, 188, 10, 181, 0, 103]
abbrev dktX3_init_10 : List UInt8 := dkwX3_init_10 ++ dktX3_init_11
def dkwX3_init_9 : List UInt8 := [42, 16, 20, 188, 10, 181, 0, 88, 42, 16, 40, 188, 10, 181, 0, 91, 42, 16, 40, 188, 10, 181, 0, 94]
abbrev dktX3_init_9 : List UInt8 := dkwX3_init_9 ++ dktX3_init_10
def dkwX3_init_8 : List UInt8 := [16, 12, 188, 10, 181, 0, 78, 42, 16, 12, 188, 11, 181, 0, 81, 42, 17, 12, 128, 188, 8, 181, 0, 85]
abbrev dktX3_init_8 : List UInt8 := dkwX3_init_8 ++ dktX3_init_9
def dkwX3_init_7 : List UInt8 := [188, 10, 181, 0, 69, 42, 17, 1, 224, 188, 10, 181, 0, 72, 42, 16, 12, 188, 10, 181, 0, 75, 42]
abbrev dktX3_init_7 : List UInt8 := dkwX3_init_7 ++ dktX3_init_8
def dkwX3_init_6 : List UInt8 := [188, 10, 181, 0, 60, 42, 16, 40, 188, 10, 181, 0, 63, 42, 16, 40, 188, 10, 181, 0, 66, 42, 16, 40]
abbrev dktX3_init_6 : List UInt8 := dkwX3_init_6 ++ dktX3_init_7
def dkwX3_init_5 : List UInt8 := [188, 10, 181, 0, 51, 42, 16, 40, 188, 10, 181, 0, 54, 42, 16, 40, 188, 10, 181, 0, 57, 42, 16, 40]
abbrev dktX3_init_5 : List UInt8 := dkwX3_init_5 ++ dktX3_init_6
def dkwX3_init_4 : List UInt8 := [188, 8, 181, 0, 41, 42, 16, 40, 188, 10, 181, 0, 45, 42, 16, 40, 188, 10, 181, 0, 48, 42, 16, 40]
abbrev dktX3_init_4 : List UInt8 := dkwX3_init_4 ++ dktX3_init_5
def dkwX3_init_3 : List UInt8 := [181, 0, 31, 42, 17, 2, 88, 188, 4, 181, 0, 34, 42, 16, 12, 188, 4, 181, 0, 38, 42, 17, 0, 160]
abbrev dktX3_init_3 : List UInt8 := dkwX3_init_3 ++ dktX3_init_4
def dkwX3_init_2 : List UInt8 := [17, 2, 88, 188, 10, 181, 0, 25, 42, 17, 2, 88, 188, 10, 181, 0, 28, 42, 17, 2, 88, 188, 10]
abbrev dktX3_init_2 : List UInt8 := dkwX3_init_2 ++ dktX3_init_3
def dkwX3_init_1 : List UInt8 := [188, 10, 181, 0, 16, 42, 16, 40, 188, 10, 181, 0, 19, 42, 16, 40, 188, 10, 181, 0, 22, 42]
abbrev dktX3_init_1 : List UInt8 := dkwX3_init_1 ++ dktX3_init_2
def dkwX3_init_0 : List UInt8 := [42, 183, 0, 1, 42, 16, 40, 188, 10, 181, 0, 9, 42, 16, 40, 188, 10, 181, 0, 13, 42, 16, 40]
abbrev dktX3_init_0 : List UInt8 := dkwX3_init_0 ++ dktX3_init_1
theorem dksX3_init_0 : cX3_init.data.toList.drop 0 = dktX3_init_0 := by decide +kernel
theorem dksX3_init_1 : cX3_init.data.toList.drop 23 = dktX3_init_1 := dk_seg dksX3_init_0 23 rfl rfl
theorem dksX3_init_2 : cX3_init.data.toList.drop 45 = dktX3_init_2 := dk_seg dksX3_init_1 22 rfl rfl
theorem dksX3_init_3 : cX3_init.data.toList.drop 68 = dktX3_init_3 := dk_seg dksX3_init_2 23 rfl rfl
theorem dksX3_init_4 : cX3_init.data.toList.drop 92 = dktX3_init_4 := dk_seg dksX3_init_3 24 rfl rfl
theorem dksX3_init_5 : cX3_init.data.toList.drop 116 = dktX3_init_5 := dk_seg dksX3_init_4 24 rfl rfl
theorem dksX3_init_6 : cX3_init.data.toList.drop 140 = dktX3_init_6 := dk_seg dksX3_init_5 24 rfl rfl
theorem dksX3_init_7 : cX3_init.data.toList.drop 164 = dktX3_init_7 := dk_seg dksX3_init_6 24 rfl rfl
theorem dksX3_init_8 : cX3_init.data.toList.drop 187 = dktX3_init_8 := dk_seg dksX3_init_7 23 rfl rfl
theorem dksX3_init_9 : cX3_init.data.toList.drop 211 = dktX3_init_9 := dk_seg dksX3_init_8 24 rfl rfl
theorem dksX3_init_10 : cX3_init.data.toList.drop 235 = dktX3_init_10 := dk_seg dksX3_init_9 24 rfl rfl
theorem dksX3_init_11 : cX3_init.data.toList.drop 259 = dktX3_init_11 := dk_seg dksX3_init_10 24 rfl rfl
theorem dksX3_init_12 : cX3_init.data.toList.drop 282 = dktX3_init_12 := dk_seg dksX3_init_11 23 rfl rfl
theorem dksX3_init_13 : cX3_init.data.toList.drop 305 = dktX3_init_13 := dk_seg dksX3_init_12 23 rfl rfl
theorem dksX3_init_14 : cX3_init.data.toList.drop 329 = dktX3_init_14 := dk_seg dksX3_init_13 24 rfl rfl
theorem dksX3_init_15 : cX3_init.data.toList.drop 353 = dktX3_init_15 := dk_seg dksX3_init_14 24 rfl rfl
theorem dksX3_init_16 : cX3_init.data.toList.drop 377 = dktX3_init_16 := dk_seg dksX3_init_15 24 rfl rfl
theorem dksX3_init_17 : cX3_init.data.toList.drop 401 = dktX3_init_17 := dk_seg dksX3_init_16 24 rfl rfl
theorem dksX3_init_18 : cX3_init.data.toList.drop 425 = dktX3_init_18 := dk_seg dksX3_init_17 24 rfl rfl
theorem dksX3_init_19 : cX3_init.data.toList.drop 449 = dktX3_init_19 := dk_seg dksX3_init_18 24 rfl rfl
theorem dX3_init_0 : decode cX3_init 0 = .ok (.aload_n 0, 1) := dk_42 (dk_at dksX3_init_0 0 rfl rfl)
theorem dX3_init_1 : decode cX3_init 1 = .ok (.invokespecial 1, 3) := dk_183 0 1 (dk_at dksX3_init_0 1 rfl rfl)
theorem dX3_init_4 : decode cX3_init 4 = .ok (.aload_n 0, 1) := dk_42 (dk_at dksX3_init_0 4 rfl rfl)
theorem dX3_init_5 : decode cX3_init 5 = .ok (.bipush 40, 2) := dk_16 40 (dk_at dksX3_init_0 5 rfl rfl)
theorem dX3_init_7 : decode cX3_init 7 = .ok (.newarray .int, 2) := dk_188_10 (dk_at dksX3_init_0 7 rfl rfl)
theorem dX3_init_9 : decode cX3_init 9 = .ok (.putfield 9, 3) := dk_181 0 9 (dk_at dksX3_init_0 9 rfl rfl)
theorem dX3_init_12 : decode cX3_init 12 = .ok (.aload_n 0, 1) := dk_42 (dk_at dksX3_init_0 12 rfl rfl)
theorem dX3_init_13 : decode cX3_init 13 = .ok (.bipush 40, 2) := dk_16 40 (dk_at dksX3_init_0 13 rfl rfl)
theorem dX3_init_15 : decode cX3_init 15 = .ok (.newarray .int, 2) := dk_188_10 (dk_at dksX3_init_0 15 rfl rfl)
theorem dX3_init_17 : decode cX3_init 17 = .ok (.putfield 13, 3) := dk_181 0 13 (dk_at dksX3_init_0 17 rfl rfl)
theorem dX3_init_20 : decode cX3_init 20 = .ok (.aload_n 0, 1) := dk_42 (dk_at dksX3_init_0 20 rfl rfl)
theorem dX3_init_21 : decode cX3_init 21 = .ok (.bipush 40, 2) := dk_16 40 (dk_at dksX3_init_0 21 rfl rfl)
theorem dX3_init_23 : decode cX3_init 23 = .ok (.newarray .int, 2) := dk_188_10 (dk_at dksX3_init_1 0 rfl rfl)
theorem dX3_init_25 : decode cX3_init 25 = .ok (.putfield 16, 3) := dk_181 0 16 (dk_at dksX3_init_1 2 rfl rfl)
theorem dX3_init_28 : decode cX3_init 28 = .ok (.aload_n 0, 1) := dk_42 (dk_at dksX3_init_1 5 rfl rfl)
theorem dX3_init_29 : decode cX3_init 29 = .ok (.bipush 40, 2) := dk_16 40 (dk_at dksX3_init_1 6 rfl rfl)
theorem dX3_init_31 : decode cX3_init 31 = .ok (.newarray .int, 2) := dk_188_10 (dk_at dksX3_init_1 8 rfl rfl)
theorem dX3_init_33 : decode cX3_init 33 = .ok (.putfield 19, 3) := dk_181 0 19 (dk_at dksX3_init_1 10 rfl rfl)
theorem dX3_init_36 : decode cX3_init 36 = .ok (.aload_n 0, 1) := dk_42 (dk_at dksX3_init_1 13 rfl rfl)
theorem dX3_init_37 : decode cX3_init 37 = .ok (.bipush 40, 2) := dk_16 40 (dk_at dksX3_init_1 14 rfl rfl)
theorem dX3_init_39 : decode cX3_init 39 = .ok (.newarray .int, 2) := dk_188_10 (dk_at dksX3_init_1 16 rfl rfl)
theorem dX3_init_41 : decode cX3_init 41 = .ok (.putfield 22, 3) := dk_181 0 22 (dk_at dksX3_init_1 18 rfl rfl)
theorem dX3_init_44 : decode cX3_init 44 = .ok (.aload_n 0, 1) := dk_42 (dk_at dksX3_init_1 21 rfl rfl)
theorem dX3_init_45 : decode cX3_init 45 = .ok (.sipush 600, 3) := dk_17 2 88 (dk_at dksX3_init_2 0 rfl rfl)
theorem dX3_init_48 : decode cX3_init 48 = .ok (.newarray .int, 2) := dk_188_10 (dk_at dksX3_init_2 3 rfl rfl)
theorem dX3_init_50 : decode cX3_init 50 = .ok (.putfield 25, 3) := dk_181 0 25 (dk_at dksX3_init_2 5 rfl rfl)
theorem dX3_init_53 : decode cX3_init 53 = .ok (.aload_n 0, 1) := dk_42 (dk_at dksX3_init_2 8 rfl rfl)
theorem dX3_init_54 : decode cX3_init 54 = .ok (.sipush 600, 3) := dk_17 2 88 (dk_at dksX3_init_2 9 rfl rfl)
theorem dX3_init_57 : decode cX3_init 57 = .ok (.newarray .int, 2) := dk_188_10 (dk_at dksX3_init_2 12 rfl rfl)
theorem dX3_init_59 : decode cX3_init 59 = .ok (.putfield 28, 3) := dk_181 0 28 (dk_at dksX3_init_2 14 rfl rfl)
theorem dX3_init_62 : decode cX3_init 62 = .ok (.aload_n 0, 1) := dk_42 (dk_at dksX3_init_2 17 rfl rfl)
theorem dX3_init_63 : decode cX3_init 63 = .ok (.sipush 600, 3) := dk_17 2 88 (dk_at dksX3_init_2 18 rfl rfl)
theorem dX3_init_66 : decode cX3_init 66 = .ok (.newarray .int, 2) := dk_188_10 (dk_at dksX3_init_2 21 rfl rfl)
theorem dX3_init_68 : decode cX3_init 68 = .ok (.putfield 31, 3) := dk_181 0 31 (dk_at dksX3_init_3 0 rfl rfl)
theorem dX3_init_71 : decode cX3_init 71 = .ok (.aload_n 0, 1) := dk_42 (dk_at dksX3_init_3 3 rfl rfl)
theorem dX3_init_72 : decode cX3_init 72 = .ok (.sipush 600, 3) := dk_17 2 88 (dk_at dksX3_init_3 4 rfl rfl)
theorem dX3_init_75 : decode cX3_init 75 = .ok (.newarray .boolean, 2) := dk_188_4 (dk_at dksX3_init_3 7 rfl rfl)
theorem dX3_init_77 : decode cX3_init 77 = .ok (.putfield 34, 3) := dk_181 0 34 (dk_at dksX3_init_3 9 rfl rfl)
theorem dX3_init_80 : decode cX3_init 80 = .ok (.aload_n 0, 1) := dk_42 (dk_at dksX3_init_3 12 rfl rfl)
theorem dX3_init_81 : decode cX3_init 81 = .ok (.bipush 12, 2) := dk_16 12 (dk_at dksX3_init_3 13 rfl rfl)
theorem dX3_init_83 : decode cX3_init 83 = .ok (.newarray .boolean, 2) := dk_188_4 (dk_at dksX3_init_3 15 rfl rfl)
theorem dX3_init_85 : decode cX3_init 85 = .ok (.putfield 38, 3) := dk_181 0 38 (dk_at dksX3_init_3 17 rfl rfl)
theorem dX3_init_88 : decode cX3_init 88 = .ok (.aload_n 0, 1) := dk_42 (dk_at dksX3_init_3 20 rfl rfl)
theorem dX3_init_89 : decode cX3_init 89 = .ok (.sipush 160, 3) := dk_17 0 160 (dk_at dksX3_init_3 21 rfl rfl)
theorem dX3_init_92 : decode cX3_init 92 = .ok (.newarray .byte, 2) := dk_188_8 (dk_at dksX3_init_4 0 rfl rfl)
theorem dX3_init_94 : decode cX3_init 94 = .ok (.putfield 41, 3) := dk_181 0 41 (dk_at dksX3_init_4 2 rfl rfl)
theorem dX3_init_97 : decode cX3_init 97 = .ok (.aload_n 0, 1) := dk_42 (dk_at dksX3_init_4 5 rfl rfl)
theorem dX3_init_98 : decode cX3_init 98 = .ok (.bipush 40, 2) := dk_16 40 (dk_at dksX3_init_4 6 rfl rfl)
theorem dX3_init_100 : decode cX3_init 100 = .ok (.newarray .int, 2) := dk_188_10 (dk_at dksX3_init_4 8 rfl rfl)
theorem dX3_init_102 : decode cX3_init 102 = .ok (.putfield 45, 3) := dk_181 0 45 (dk_at dksX3_init_4 10 rfl rfl)
theorem dX3_init_105 : decode cX3_init 105 = .ok (.aload_n 0, 1) := dk_42 (dk_at dksX3_init_4 13 rfl rfl)
theorem dX3_init_106 : decode cX3_init 106 = .ok (.bipush 40, 2) := dk_16 40 (dk_at dksX3_init_4 14 rfl rfl)
theorem dX3_init_108 : decode cX3_init 108 = .ok (.newarray .int, 2) := dk_188_10 (dk_at dksX3_init_4 16 rfl rfl)
theorem dX3_init_110 : decode cX3_init 110 = .ok (.putfield 48, 3) := dk_181 0 48 (dk_at dksX3_init_4 18 rfl rfl)
theorem dX3_init_113 : decode cX3_init 113 = .ok (.aload_n 0, 1) := dk_42 (dk_at dksX3_init_4 21 rfl rfl)
theorem dX3_init_114 : decode cX3_init 114 = .ok (.bipush 40, 2) := dk_16 40 (dk_at dksX3_init_4 22 rfl rfl)
theorem dX3_init_116 : decode cX3_init 116 = .ok (.newarray .int, 2) := dk_188_10 (dk_at dksX3_init_5 0 rfl rfl)
theorem dX3_init_118 : decode cX3_init 118 = .ok (.putfield 51, 3) := dk_181 0 51 (dk_at dksX3_init_5 2 rfl rfl)
theorem dX3_init_121 : decode cX3_init 121 = .ok (.aload_n 0, 1) := dk_42 (dk_at dksX3_init_5 5 rfl rfl)
theorem dX3_init_122 : decode cX3_init 122 = .ok (.bipush 40, 2) := dk_16 40 (dk_at dksX3_init_5 6 rfl rfl)
theorem dX3_init_124 : decode cX3_init 124 = .ok (.newarray .int, 2) := dk_188_10 (dk_at dksX3_init_5 8 rfl rfl)
theorem dX3_init_126 : decode cX3_init 126 = .ok (.putfield 54, 3) := dk_181 0 54 (dk_at dksX3_init_5 10 rfl rfl)
theorem dX3_init_129 : decode cX3_init 129 = .ok (.aload_n 0, 1) := dk_42 (dk_at dksX3_init_5 13 rfl rfl)
theorem dX3_init_130 : decode cX3_init 130 = .ok (.bipush 40, 2) := dk_16 40 (dk_at dksX3_init_5 14 rfl rfl)
theorem dX3_init_132 : decode cX3_init 132 = .ok (.newarray .int, 2) := dk_188_10 (dk_at dksX3_init_5 16 rfl rfl)
theorem dX3_init_134 : decode cX3_init 134 = .ok (.putfield 57, 3) := dk_181 0 57 (dk_at dksX3_init_5 18 rfl rfl)
theorem dX3_init_137 : decode cX3_init 137 = .ok (.aload_n 0, 1) := dk_42 (dk_at dksX3_init_5 21 rfl rfl)
theorem dX3_init_138 : decode cX3_init 138 = .ok (.bipush 40, 2) := dk_16 40 (dk_at dksX3_init_5 22 rfl rfl)
theorem dX3_init_140 : decode cX3_init 140 = .ok (.newarray .int, 2) := dk_188_10 (dk_at dksX3_init_6 0 rfl rfl)
theorem dX3_init_142 : decode cX3_init 142 = .ok (.putfield 60, 3) := dk_181 0 60 (dk_at dksX3_init_6 2 rfl rfl)
theorem dX3_init_145 : decode cX3_init 145 = .ok (.aload_n 0, 1) := dk_42 (dk_at dksX3_init_6 5 rfl rfl)
theorem dX3_init_146 : decode cX3_init 146 = .ok (.bipush 40, 2) := dk_16 40 (dk_at dksX3_init_6 6 rfl rfl)
theorem dX3_init_148 : decode cX3_init 148 = .ok (.newarray .int, 2) := dk_188_10 (dk_at dksX3_init_6 8 rfl rfl)
theorem dX3_init_150 : decode cX3_init 150 = .ok (.putfield 63, 3) := dk_181 0 63 (dk_at dksX3_init_6 10 rfl rfl)
theorem dX3_init_153 : decode cX3_init 153 = .ok (.aload_n 0, 1) := dk_42 (dk_at dksX3_init_6 13 rfl rfl)
theorem dX3_init_154 : decode cX3_init 154 = .ok (.bipush 40, 2) := dk_16 40 (dk_at dksX3_init_6 14 rfl rfl)
theorem dX3_init_156 : decode cX3_init 156 = .ok (.newarray .int, 2) := dk_188_10 (dk_at dksX3_init_6 16 rfl rfl)
theorem dX3_init_158 : decode cX3_init 158 = .ok (.putfield 66, 3) := dk_181 0 66 (dk_at dksX3_init_6 18 rfl rfl)
theorem dX3_init_161 : decode cX3_init 161 = .ok (.aload_n 0, 1) := dk_42 (dk_at dksX3_init_6 21 rfl rfl)
theorem dX3_init_162 : decode cX3_init 162 = .ok (.bipush 40, 2) := dk_16 40 (dk_at dksX3_init_6 22 rfl rfl)
theorem dX3_init_164 : decode cX3_init 164 = .ok (.newarray .int, 2) := dk_188_10 (dk_at dksX3_init_7 0 rfl rfl)
theorem dX3_init_166 : decode cX3_init 166 = .ok (.putfield 69, 3) := dk_181 0 69 (dk_at dksX3_init_7 2 rfl rfl)
theorem dX3_init_169 : decode cX3_init 169 = .ok (.aload_n 0, 1) := dk_42 (dk_at dksX3_init_7 5 rfl rfl)
theorem dX3_init_170 : decode cX3_init 170 = .ok (.sipush 480, 3) := dk_17 1 224 (dk_at dksX3_init_7 6 rfl rfl)
theorem dX3_init_173 : decode cX3_init 173 = .ok (.newarray .int, 2) := dk_188_10 (dk_at dksX3_init_7 9 rfl rfl)
theorem dX3_init_175 : decode cX3_init 175 = .ok (.putfield 72, 3) := dk_181 0 72 (dk_at dksX3_init_7 11 rfl rfl)
theorem dX3_init_178 : decode cX3_init 178 = .ok (.aload_n 0, 1) := dk_42 (dk_at dksX3_init_7 14 rfl rfl)
theorem dX3_init_179 : decode cX3_init 179 = .ok (.bipush 12, 2) := dk_16 12 (dk_at dksX3_init_7 15 rfl rfl)
theorem dX3_init_181 : decode cX3_init 181 = .ok (.newarray .int, 2) := dk_188_10 (dk_at dksX3_init_7 17 rfl rfl)
theorem dX3_init_183 : decode cX3_init 183 = .ok (.putfield 75, 3) := dk_181 0 75 (dk_at dksX3_init_7 19 rfl rfl)
theorem dX3_init_186 : decode cX3_init 186 = .ok (.aload_n 0, 1) := dk_42 (dk_at dksX3_init_7 22 rfl rfl)
theorem dX3_init_187 : decode cX3_init 187 = .ok (.bipush 12, 2) := dk_16 12 (dk_at dksX3_init_8 0 rfl rfl)
theorem dX3_init_189 : decode cX3_init 189 = .ok (.newarray .int, 2) := dk_188_10 (dk_at dksX3_init_8 2 rfl rfl)
theorem dX3_init_191 : decode cX3_init 191 = .ok (.putfield 78, 3) := dk_181 0 78 (dk_at dksX3_init_8 4 rfl rfl)
theorem dX3_init_194 : decode cX3_init 194 = .ok (.aload_n 0, 1) := dk_42 (dk_at dksX3_init_8 7 rfl rfl)
theorem dX3_init_195 : decode cX3_init 195 = .ok (.bipush 12, 2) := dk_16 12 (dk_at dksX3_init_8 8 rfl rfl)
theorem dX3_init_197 : decode cX3_init 197 = .ok (.newarray .long, 2) := dk_188_11 (dk_at dksX3_init_8 10 rfl rfl)
theorem dX3_init_199 : decode cX3_init 199 = .ok (.putfield 81, 3) := dk_181 0 81 (dk_at dksX3_init_8 12 rfl rfl)
theorem dX3_init_202 : decode cX3_init 202 = .ok (.aload_n 0, 1) := dk_42 (dk_at dksX3_init_8 15 rfl rfl)
theorem dX3_init_203 : decode cX3_init 203 = .ok (.sipush 3200, 3) := dk_17 12 128 (dk_at dksX3_init_8 16 rfl rfl)
theorem dX3_init_206 : decode cX3_init 206 = .ok (.newarray .byte, 2) := dk_188_8 (dk_at dksX3_init_8 19 rfl rfl)
theorem dX3_init_208 : decode cX3_init 208 = .ok (.putfield 85, 3) := dk_181 0 85 (dk_at dksX3_init_8 21 rfl rfl)
theorem dX3_init_211 : decode cX3_init 211 = .ok (.aload_n 0, 1) := dk_42 (dk_at dksX3_init_9 0 rfl rfl)
theorem dX3_init_212 : decode cX3_init 212 = .ok (.bipush 20, 2) := dk_16 20 (dk_at dksX3_init_9 1 rfl rfl)
theorem dX3_init_214 : decode cX3_init 214 = .ok (.newarray .int, 2) := dk_188_10 (dk_at dksX3_init_9 3 rfl rfl)
theorem dX3_init_216 : decode cX3_init 216 = .ok (.putfield 88, 3) := dk_181 0 88 (dk_at dksX3_init_9 5 rfl rfl)
theorem dX3_init_219 : decode cX3_init 219 = .ok (.aload_n 0, 1) := dk_42 (dk_at dksX3_init_9 8 rfl rfl)
theorem dX3_init_220 : decode cX3_init 220 = .ok (.bipush 40, 2) := dk_16 40 (dk_at dksX3_init_9 9 rfl rfl)
theorem dX3_init_222 : decode cX3_init 222 = .ok (.newarray .int, 2) := dk_188_10 (dk_at dksX3_init_9 11 rfl rfl)
theorem dX3_init_224 : decode cX3_init 224 = .ok (.putfield 91, 3) := dk_181 0 91 (dk_at dksX3_init_9 13 rfl rfl)
theorem dX3_init_227 : decode cX3_init 227 = .ok (.aload_n 0, 1) := dk_42 (dk_at dksX3_init_9 16 rfl rfl)
theorem dX3_init_228 : decode cX3_init 228 = .ok (.bipush 40, 2) := dk_16 40 (dk_at dksX3_init_9 17 rfl rfl)
theorem dX3_init_230 : decode cX3_init 230 = .ok (.newarray .int, 2) := dk_188_10 (dk_at dksX3_init_9 19 rfl rfl)
theorem dX3_init_232 : decode cX3_init 232 = .ok (.putfield 94, 3) := dk_181 0 94 (dk_at dksX3_init_9 21 rfl rfl)
theorem dX3_init_235 : decode cX3_init 235 = .ok (.aload_n 0, 1) := dk_42 (dk_at dksX3_init_10 0 rfl rfl)
theorem dX3_init_236 : decode cX3_init 236 = .ok (.bipush 40, 2) := dk_16 40 (dk_at dksX3_init_10 1 rfl rfl)
theorem dX3_init_238 : decode cX3_init 238 = .ok (.newarray .int, 2) := dk_188_10 (dk_at dksX3_init_10 3 rfl rfl)
theorem dX3_init_240 : decode cX3_init 240 = .ok (.putfield 97, 3) := dk_181 0 97 (dk_at dksX3_init_10 5 rfl rfl)
theorem dX3_init_243 : decode cX3_init 243 = .ok (.aload_n 0, 1) := dk_42 (dk_at dksX3_init_10 8 rfl rfl)
theorem dX3_init_244 : decode cX3_init 244 = .ok (.bipush 40, 2) := dk_16 40 (dk_at dksX3_init_10 9 rfl rfl)
theorem dX3_init_246 : decode cX3_init 246 = .ok (.newarray .int, 2) := dk_188_10 (dk_at dksX3_init_10 11 rfl rfl)
theorem dX3_init_248 : decode cX3_init 248 = .ok (.putfield 100, 3) := dk_181 0 100 (dk_at dksX3_init_10 13 rfl rfl)
theorem dX3_init_251 : decode cX3_init 251 = .ok (.aload_n 0, 1) := dk_42 (dk_at dksX3_init_10 16 rfl rfl)
theorem dX3_init_252 : decode cX3_init 252 = .ok (.bipush 40, 2) := dk_16 40 (dk_at dksX3_init_10 17 rfl rfl)
theorem dX3_init_254 : decode cX3_init 254 = .ok (.newarray .int, 2) := dk_188_10 (dk_at dksX3_init_10 19 rfl rfl)
theorem dX3_init_256 : decode cX3_init 256 = .ok (.putfield 103, 3) := dk_181 0 103 (dk_at dksX3_init_10 21 rfl rfl)
theorem dX3_init_259 : decode cX3_init 259 = .ok (.aload_n 0, 1) := dk_42 (dk_at dksX3_init_11 0 rfl rfl)
theorem dX3_init_260 : decode cX3_init 260 = .ok (.bipush 40, 2) := dk_16 40 (dk_at dksX3_init_11 1 rfl rfl)
theorem dX3_init_262 : decode cX3_init 262 = .ok (.newarray .int, 2) := dk_188_10 (dk_at dksX3_init_11 3 rfl rfl)
theorem dX3_init_264 : decode cX3_init 264 = .ok (.putfield 106, 3) := dk_181 0 106 (dk_at dksX3_init_11 5 rfl rfl)
theorem dX3_init_267 : decode cX3_init 267 = .ok (.aload_n 0, 1) := dk_42 (dk_at dksX3_init_11 8 rfl rfl)
theorem dX3_init_268 : decode cX3_init 268 = .ok (.sipush 200, 3) := dk_17 0 200 (dk_at dksX3_init_11 9 rfl rfl)
theorem dX3_init_271 : decode cX3_init 271 = .ok (.newarray .int, 2) := dk_188_10 (dk_at dksX3_init_11 12 rfl rfl)
theorem dX3_init_273 : decode cX3_init 273 = .ok (.putfield 109, 3) := dk_181 0 109 (dk_at dksX3_init_11 14 rfl rfl)
theorem dX3_init_276 : decode cX3_init 276 = .ok (.aload_n 0, 1) := dk_42 (dk_at dksX3_init_11 17 rfl rfl)
theorem dX3_init_277 : decode cX3_init 277 = .ok (.sipush 200, 3) := dk_17 0 200 (dk_at dksX3_init_11 18 rfl rfl)
theorem dX3_init_280 : decode cX3_init 280 = .ok (.newarray .int, 2) := dk_188_10 (dk_at dksX3_init_11 21 rfl rfl)
theorem dX3_init_282 : decode cX3_init 282 = .ok (.putfield 112, 3) := dk_181 0 112 (dk_at dksX3_init_12 0 rfl rfl)
theorem dX3_init_285 : decode cX3_init 285 = .ok (.aload_n 0, 1) := dk_42 (dk_at dksX3_init_12 3 rfl rfl)
theorem dX3_init_286 : decode cX3_init 286 = .ok (.sipush 200, 3) := dk_17 0 200 (dk_at dksX3_init_12 4 rfl rfl)
theorem dX3_init_289 : decode cX3_init 289 = .ok (.newarray .int, 2) := dk_188_10 (dk_at dksX3_init_12 7 rfl rfl)
theorem dX3_init_291 : decode cX3_init 291 = .ok (.putfield 115, 3) := dk_181 0 115 (dk_at dksX3_init_12 9 rfl rfl)
theorem dX3_init_294 : decode cX3_init 294 = .ok (.aload_n 0, 1) := dk_42 (dk_at dksX3_init_12 12 rfl rfl)
theorem dX3_init_295 : decode cX3_init 295 = .ok (.bipush 40, 2) := dk_16 40 (dk_at dksX3_init_12 13 rfl rfl)
theorem dX3_init_297 : decode cX3_init 297 = .ok (.newarray .boolean, 2) := dk_188_4 (dk_at dksX3_init_12 15 rfl rfl)
theorem dX3_init_299 : decode cX3_init 299 = .ok (.putfield 118, 3) := dk_181 0 118 (dk_at dksX3_init_12 17 rfl rfl)
theorem dX3_init_302 : decode cX3_init 302 = .ok (.aload_n 0, 1) := dk_42 (dk_at dksX3_init_12 20 rfl rfl)
theorem dX3_init_303 : decode cX3_init 303 = .ok (.bipush 40, 2) := dk_16 40 (dk_at dksX3_init_12 21 rfl rfl)
theorem dX3_init_305 : decode cX3_init 305 = .ok (.newarray .boolean, 2) := dk_188_4 (dk_at dksX3_init_13 0 rfl rfl)
theorem dX3_init_307 : decode cX3_init 307 = .ok (.putfield 121, 3) := dk_181 0 121 (dk_at dksX3_init_13 2 rfl rfl)
theorem dX3_init_310 : decode cX3_init 310 = .ok (.aload_n 0, 1) := dk_42 (dk_at dksX3_init_13 5 rfl rfl)
theorem dX3_init_311 : decode cX3_init 311 = .ok (.sipush 200, 3) := dk_17 0 200 (dk_at dksX3_init_13 6 rfl rfl)
theorem dX3_init_314 : decode cX3_init 314 = .ok (.newarray .boolean, 2) := dk_188_4 (dk_at dksX3_init_13 9 rfl rfl)
theorem dX3_init_316 : decode cX3_init 316 = .ok (.putfield 124, 3) := dk_181 0 124 (dk_at dksX3_init_13 11 rfl rfl)
theorem dX3_init_319 : decode cX3_init 319 = .ok (.aload_n 0, 1) := dk_42 (dk_at dksX3_init_13 14 rfl rfl)
theorem dX3_init_320 : decode cX3_init 320 = .ok (.sipush 200, 3) := dk_17 0 200 (dk_at dksX3_init_13 15 rfl rfl)
theorem dX3_init_323 : decode cX3_init 323 = .ok (.newarray .boolean, 2) := dk_188_4 (dk_at dksX3_init_13 18 rfl rfl)
theorem dX3_init_325 : decode cX3_init 325 = .ok (.putfield 127, 3) := dk_181 0 127 (dk_at dksX3_init_13 20 rfl rfl)
theorem dX3_init_328 : decode cX3_init 328 = .ok (.aload_n 0, 1) := dk_42 (dk_at dksX3_init_13 23 rfl rfl)
theorem dX3_init_329 : decode cX3_init 329 = .ok (.aload_n 0, 1) := dk_42 (dk_at dksX3_init_14 0 rfl rfl)
theorem dX3_init_330 : decode cX3_init 330 = .ok (.getfield 41, 3) := dk_180 0 41 (dk_at dksX3_init_14 1 rfl rfl)
theorem dX3_init_333 : decode cX3_init 333 = .ok (.putfield 130, 3) := dk_181 0 130 (dk_at dksX3_init_14 4 rfl rfl)
theorem dX3_init_336 : decode cX3_init 336 = .ok (.aload_n 0, 1) := dk_42 (dk_at dksX3_init_14 7 rfl rfl)
theorem dX3_init_337 : decode cX3_init 337 = .ok (.bipush 12, 2) := dk_16 12 (dk_at dksX3_init_14 8 rfl rfl)
theorem dX3_init_339 : decode cX3_init 339 = .ok (.newarray .boolean, 2) := dk_188_4 (dk_at dksX3_init_14 10 rfl rfl)
theorem dX3_init_341 : decode cX3_init 341 = .ok (.putfield 133, 3) := dk_181 0 133 (dk_at dksX3_init_14 12 rfl rfl)
theorem dX3_init_344 : decode cX3_init 344 = .ok (.aload_n 0, 1) := dk_42 (dk_at dksX3_init_14 15 rfl rfl)
theorem dX3_init_345 : decode cX3_init 345 = .ok (.bipush 80, 2) := dk_16 80 (dk_at dksX3_init_14 16 rfl rfl)
theorem dX3_init_347 : decode cX3_init 347 = .ok (.newarray .int, 2) := dk_188_10 (dk_at dksX3_init_14 18 rfl rfl)
theorem dX3_init_349 : decode cX3_init 349 = .ok (.putfield 136, 3) := dk_181 0 136 (dk_at dksX3_init_14 20 rfl rfl)
theorem dX3_init_352 : decode cX3_init 352 = .ok (.aload_n 0, 1) := dk_42 (dk_at dksX3_init_14 23 rfl rfl)
theorem dX3_init_353 : decode cX3_init 353 = .ok (.bipush 80, 2) := dk_16 80 (dk_at dksX3_init_15 0 rfl rfl)
theorem dX3_init_355 : decode cX3_init 355 = .ok (.newarray .int, 2) := dk_188_10 (dk_at dksX3_init_15 2 rfl rfl)
theorem dX3_init_357 : decode cX3_init 357 = .ok (.putfield 139, 3) := dk_181 0 139 (dk_at dksX3_init_15 4 rfl rfl)
theorem dX3_init_360 : decode cX3_init 360 = .ok (.aload_n 0, 1) := dk_42 (dk_at dksX3_init_15 7 rfl rfl)
theorem dX3_init_361 : decode cX3_init 361 = .ok (.bipush 80, 2) := dk_16 80 (dk_at dksX3_init_15 8 rfl rfl)
theorem dX3_init_363 : decode cX3_init 363 = .ok (.newarray .int, 2) := dk_188_10 (dk_at dksX3_init_15 10 rfl rfl)
theorem dX3_init_365 : decode cX3_init 365 = .ok (.putfield 142, 3) := dk_181 0 142 (dk_at dksX3_init_15 12 rfl rfl)
theorem dX3_init_368 : decode cX3_init 368 = .ok (.aload_n 0, 1) := dk_42 (dk_at dksX3_init_15 15 rfl rfl)
theorem dX3_init_369 : decode cX3_init 369 = .ok (.bipush 80, 2) := dk_16 80 (dk_at dksX3_init_15 16 rfl rfl)
theorem dX3_init_371 : decode cX3_init 371 = .ok (.newarray .int, 2) := dk_188_10 (dk_at dksX3_init_15 18 rfl rfl)
theorem dX3_init_373 : decode cX3_init 373 = .ok (.putfield 145, 3) := dk_181 0 145 (dk_at dksX3_init_15 20 rfl rfl)
theorem dX3_init_376 : decode cX3_init 376 = .ok (.aload_n 0, 1) := dk_42 (dk_at dksX3_init_15 23 rfl rfl)
theorem dX3_init_377 : decode cX3_init 377 = .ok (.bipush 80, 2) := dk_16 80 (dk_at dksX3_init_16 0 rfl rfl)
theorem dX3_init_379 : decode cX3_init 379 = .ok (.newarray .int, 2) := dk_188_10 (dk_at dksX3_init_16 2 rfl rfl)
theorem dX3_init_381 : decode cX3_init 381 = .ok (.putfield 148, 3) := dk_181 0 148 (dk_at dksX3_init_16 4 rfl rfl)
theorem dX3_init_384 : decode cX3_init 384 = .ok (.aload_n 0, 1) := dk_42 (dk_at dksX3_init_16 7 rfl rfl)
theorem dX3_init_385 : decode cX3_init 385 = .ok (.bipush 60, 2) := dk_16 60 (dk_at dksX3_init_16 8 rfl rfl)
theorem dX3_init_387 : decode cX3_init 387 = .ok (.newarray .int, 2) := dk_188_10 (dk_at dksX3_init_16 10 rfl rfl)
theorem dX3_init_389 : decode cX3_init 389 = .ok (.putfield 151, 3) := dk_181 0 151 (dk_at dksX3_init_16 12 rfl rfl)
theorem dX3_init_392 : decode cX3_init 392 = .ok (.aload_n 0, 1) := dk_42 (dk_at dksX3_init_16 15 rfl rfl)
theorem dX3_init_393 : decode cX3_init 393 = .ok (.bipush 60, 2) := dk_16 60 (dk_at dksX3_init_16 16 rfl rfl)
theorem dX3_init_395 : decode cX3_init 395 = .ok (.newarray .int, 2) := dk_188_10 (dk_at dksX3_init_16 18 rfl rfl)
theorem dX3_init_397 : decode cX3_init 397 = .ok (.putfield 154, 3) := dk_181 0 154 (dk_at dksX3_init_16 20 rfl rfl)
theorem dX3_init_400 : decode cX3_init 400 = .ok (.aload_n 0, 1) := dk_42 (dk_at dksX3_init_16 23 rfl rfl)
theorem dX3_init_401 : decode cX3_init 401 = .ok (.bipush 60, 2) := dk_16 60 (dk_at dksX3_init_17 0 rfl rfl)
theorem dX3_init_403 : decode cX3_init 403 = .ok (.newarray .int, 2) := dk_188_10 (dk_at dksX3_init_17 2 rfl rfl)
theorem dX3_init_405 : decode cX3_init 405 = .ok (.putfield 157, 3) := dk_181 0 157 (dk_at dksX3_init_17 4 rfl rfl)
theorem dX3_init_408 : decode cX3_init 408 = .ok (.aload_n 0, 1) := dk_42 (dk_at dksX3_init_17 7 rfl rfl)
theorem dX3_init_409 : decode cX3_init 409 = .ok (.bipush 40, 2) := dk_16 40 (dk_at dksX3_init_17 8 rfl rfl)
theorem dX3_init_411 : decode cX3_init 411 = .ok (.newarray .int, 2) := dk_188_10 (dk_at dksX3_init_17 10 rfl rfl)
theorem dX3_init_413 : decode cX3_init 413 = .ok (.putfield 160, 3) := dk_181 0 160 (dk_at dksX3_init_17 12 rfl rfl)
theorem dX3_init_416 : decode cX3_init 416 = .ok (.aload_n 0, 1) := dk_42 (dk_at dksX3_init_17 15 rfl rfl)
theorem dX3_init_417 : decode cX3_init 417 = .ok (.bipush 40, 2) := dk_16 40 (dk_at dksX3_init_17 16 rfl rfl)
theorem dX3_init_419 : decode cX3_init 419 = .ok (.newarray .int, 2) := dk_188_10 (dk_at dksX3_init_17 18 rfl rfl)
theorem dX3_init_421 : decode cX3_init 421 = .ok (.putfield 163, 3) := dk_181 0 163 (dk_at dksX3_init_17 20 rfl rfl)
theorem dX3_init_424 : decode cX3_init 424 = .ok (.aload_n 0, 1) := dk_42 (dk_at dksX3_init_17 23 rfl rfl)
theorem dX3_init_425 : decode cX3_init 425 = .ok (.bipush 40, 2) := dk_16 40 (dk_at dksX3_init_18 0 rfl rfl)
theorem dX3_init_427 : decode cX3_init 427 = .ok (.newarray .int, 2) := dk_188_10 (dk_at dksX3_init_18 2 rfl rfl)
theorem dX3_init_429 : decode cX3_init 429 = .ok (.putfield 166, 3) := dk_181 0 166 (dk_at dksX3_init_18 4 rfl rfl)
theorem dX3_init_432 : decode cX3_init 432 = .ok (.aload_n 0, 1) := dk_42 (dk_at dksX3_init_18 7 rfl rfl)
theorem dX3_init_433 : decode cX3_init 433 = .ok (.bipush 40, 2) := dk_16 40 (dk_at dksX3_init_18 8 rfl rfl)
theorem dX3_init_435 : decode cX3_init 435 = .ok (.newarray .int, 2) := dk_188_10 (dk_at dksX3_init_18 10 rfl rfl)
theorem dX3_init_437 : decode cX3_init 437 = .ok (.putfield 169, 3) := dk_181 0 169 (dk_at dksX3_init_18 12 rfl rfl)
theorem dX3_init_440 : decode cX3_init 440 = .ok (.aload_n 0, 1) := dk_42 (dk_at dksX3_init_18 15 rfl rfl)
theorem dX3_init_441 : decode cX3_init 441 = .ok (.bipush 40, 2) := dk_16 40 (dk_at dksX3_init_18 16 rfl rfl)
theorem dX3_init_443 : decode cX3_init 443 = .ok (.newarray .boolean, 2) := dk_188_4 (dk_at dksX3_init_18 18 rfl rfl)
theorem dX3_init_445 : decode cX3_init 445 = .ok (.putfield 172, 3) := dk_181 0 172 (dk_at dksX3_init_18 20 rfl rfl)
theorem dX3_init_448 : decode cX3_init 448 = .ok (.aload_n 0, 1) := dk_42 (dk_at dksX3_init_18 23 rfl rfl)
theorem dX3_init_449 : decode cX3_init 449 = .ok (.bipush 20, 2) := dk_16 20 (dk_at dksX3_init_19 0 rfl rfl)
theorem dX3_init_451 : decode cX3_init 451 = .ok (.newarray .int, 2) := dk_188_10 (dk_at dksX3_init_19 2 rfl rfl)
theorem dX3_init_453 : decode cX3_init 453 = .ok (.putfield 175, 3) := dk_181 0 175 (dk_at dksX3_init_19 4 rfl rfl)
theorem dX3_init_456 : decode cX3_init 456 = .ok (.aload_n 0, 1) := dk_42 (dk_at dksX3_init_19 7 rfl rfl)
theorem dX3_init_457 : decode cX3_init 457 = .ok (.bipush 40, 2) := dk_16 40 (dk_at dksX3_init_19 8 rfl rfl)
theorem dX3_init_459 : decode cX3_init 459 = .ok (.newarray .int, 2) := dk_188_10 (dk_at dksX3_init_19 10 rfl rfl)
theorem dX3_init_461 : decode cX3_init 461 = .ok (.putfield 178, 3) := dk_181 0 178 (dk_at dksX3_init_19 12 rfl rfl)
theorem dX3_init_464 : decode cX3_init 464 = .ok (.return_, 1) := dk_177 (dk_at dksX3_init_19 15 rfl rfl)
abbrev cX3_thrown : ByteArray := prog_22_method_2_code
def yX3_thrown : MethodName := ⟨RX3, "thrown", "()I"⟩
theorem dX3_thrown_0 : decode cX3_thrown 0 = .ok (.aload_n 0, 1) := by decide +kernel
theorem dX3_thrown_1 : decode cX3_thrown 1 = .ok (.getfield 181, 3) := by decide +kernel
theorem dX3_thrown_4 : decode cX3_thrown 4 = .ok (.ireturn, 1) := by decide +kernel
abbrev cX3_days : ByteArray := prog_22_method_6_code
def yX3_days : MethodName := ⟨RX3, "days", "(I)I"⟩
def dkwX3_days_1 : List UInt8 := [17, 7, 208, 164, 0, 5, 2, 172, 42, 89, 180, 0, 185, 27, 96, 181, 0, 185, 42, 180, 0, 185, 172]
abbrev dktX3_days_1 : List UInt8 := dkwX3_days_1 ++ []
def dkwX3_days_0 : List UInt8 := [42, 3, 181, 0, 181, 27, 3, 17, 3, 232, 184, 0, 188, 153, 0, 15, 42, 180, 0, 185, 27, 96]
abbrev dktX3_days_0 : List UInt8 := dkwX3_days_0 ++ dktX3_days_1
theorem dksX3_days_0 : cX3_days.data.toList.drop 0 = dktX3_days_0 := by decide +kernel
theorem dksX3_days_1 : cX3_days.data.toList.drop 22 = dktX3_days_1 := dk_seg dksX3_days_0 22 rfl rfl
theorem dX3_days_0 : decode cX3_days 0 = .ok (.aload_n 0, 1) := dk_42 (dk_at dksX3_days_0 0 rfl rfl)
theorem dX3_days_1 : decode cX3_days 1 = .ok (.iconst 0, 1) := dk_3 (dk_at dksX3_days_0 1 rfl rfl)
theorem dX3_days_2 : decode cX3_days 2 = .ok (.putfield 181, 3) := dk_181 0 181 (dk_at dksX3_days_0 2 rfl rfl)
theorem dX3_days_5 : decode cX3_days 5 = .ok (.iload_n 1, 1) := dk_27 (dk_at dksX3_days_0 5 rfl rfl)
theorem dX3_days_6 : decode cX3_days 6 = .ok (.iconst 0, 1) := dk_3 (dk_at dksX3_days_0 6 rfl rfl)
theorem dX3_days_7 : decode cX3_days 7 = .ok (.sipush 1000, 3) := dk_17 3 232 (dk_at dksX3_days_0 7 rfl rfl)
theorem dX3_days_10 : decode cX3_days 10 = .ok (.invokestatic 188, 3) := dk_184 0 188 (dk_at dksX3_days_0 10 rfl rfl)
theorem dX3_days_13 : decode cX3_days 13 = .ok (.ifCond .eq 15, 3) := dk_153 0 15 (dk_at dksX3_days_0 13 rfl rfl)
theorem dX3_days_16 : decode cX3_days 16 = .ok (.aload_n 0, 1) := dk_42 (dk_at dksX3_days_0 16 rfl rfl)
theorem dX3_days_17 : decode cX3_days 17 = .ok (.getfield 185, 3) := dk_180 0 185 (dk_at dksX3_days_0 17 rfl rfl)
theorem dX3_days_20 : decode cX3_days 20 = .ok (.iload_n 1, 1) := dk_27 (dk_at dksX3_days_0 20 rfl rfl)
theorem dX3_days_21 : decode cX3_days 21 = .ok (.iadd, 1) := dk_96 (dk_at dksX3_days_0 21 rfl rfl)
theorem dX3_days_22 : decode cX3_days 22 = .ok (.sipush 2000, 3) := dk_17 7 208 (dk_at dksX3_days_1 0 rfl rfl)
theorem dX3_days_25 : decode cX3_days 25 = .ok (.if_icmp .le 5, 3) := dk_164 0 5 (dk_at dksX3_days_1 3 rfl rfl)
theorem dX3_days_28 : decode cX3_days 28 = .ok (.iconst (-1), 1) := dk_2 (dk_at dksX3_days_1 6 rfl rfl)
theorem dX3_days_29 : decode cX3_days 29 = .ok (.ireturn, 1) := dk_172 (dk_at dksX3_days_1 7 rfl rfl)
theorem dX3_days_30 : decode cX3_days 30 = .ok (.aload_n 0, 1) := dk_42 (dk_at dksX3_days_1 8 rfl rfl)
theorem dX3_days_31 : decode cX3_days 31 = .ok (.dup, 1) := dk_89 (dk_at dksX3_days_1 9 rfl rfl)
theorem dX3_days_32 : decode cX3_days 32 = .ok (.getfield 185, 3) := dk_180 0 185 (dk_at dksX3_days_1 10 rfl rfl)
theorem dX3_days_35 : decode cX3_days 35 = .ok (.iload_n 1, 1) := dk_27 (dk_at dksX3_days_1 13 rfl rfl)
theorem dX3_days_36 : decode cX3_days 36 = .ok (.iadd, 1) := dk_96 (dk_at dksX3_days_1 14 rfl rfl)
theorem dX3_days_37 : decode cX3_days 37 = .ok (.putfield 185, 3) := dk_181 0 185 (dk_at dksX3_days_1 15 rfl rfl)
theorem dX3_days_40 : decode cX3_days 40 = .ok (.aload_n 0, 1) := dk_42 (dk_at dksX3_days_1 18 rfl rfl)
theorem dX3_days_41 : decode cX3_days 41 = .ok (.getfield 185, 3) := dk_180 0 185 (dk_at dksX3_days_1 19 rfl rfl)
theorem dX3_days_44 : decode cX3_days 44 = .ok (.ireturn, 1) := dk_172 (dk_at dksX3_days_1 22 rfl rfl)
abbrev cX3_isIn : ByteArray := prog_22_method_3_code
def yX3_isIn : MethodName := ⟨RX3, "isIn", "(III)Z"⟩
def dkwX3_isIn_0 : List UInt8 := [26, 27, 161, 0, 12, 26, 28, 163, 0, 7, 4, 167, 0, 4, 3, 172]
abbrev dktX3_isIn_0 : List UInt8 := dkwX3_isIn_0 ++ []
theorem dksX3_isIn_0 : cX3_isIn.data.toList.drop 0 = dktX3_isIn_0 := by decide +kernel
theorem dX3_isIn_0 : decode cX3_isIn 0 = .ok (.iload_n 0, 1) := dk_26 (dk_at dksX3_isIn_0 0 rfl rfl)
theorem dX3_isIn_1 : decode cX3_isIn 1 = .ok (.iload_n 1, 1) := dk_27 (dk_at dksX3_isIn_0 1 rfl rfl)
theorem dX3_isIn_2 : decode cX3_isIn 2 = .ok (.if_icmp .lt 12, 3) := dk_161 0 12 (dk_at dksX3_isIn_0 2 rfl rfl)
theorem dX3_isIn_5 : decode cX3_isIn 5 = .ok (.iload_n 0, 1) := dk_26 (dk_at dksX3_isIn_0 5 rfl rfl)
theorem dX3_isIn_6 : decode cX3_isIn 6 = .ok (.iload_n 2, 1) := dk_28 (dk_at dksX3_isIn_0 6 rfl rfl)
theorem dX3_isIn_7 : decode cX3_isIn 7 = .ok (.if_icmp .gt 7, 3) := dk_163 0 7 (dk_at dksX3_isIn_0 7 rfl rfl)
theorem dX3_isIn_10 : decode cX3_isIn 10 = .ok (.iconst 1, 1) := dk_4 (dk_at dksX3_isIn_0 10 rfl rfl)
theorem dX3_isIn_11 : decode cX3_isIn 11 = .ok (.goto 4, 3) := dk_167 0 4 (dk_at dksX3_isIn_0 11 rfl rfl)
theorem dX3_isIn_14 : decode cX3_isIn 14 = .ok (.iconst 0, 1) := dk_3 (dk_at dksX3_isIn_0 14 rfl rfl)
theorem dX3_isIn_15 : decode cX3_isIn 15 = .ok (.ireturn, 1) := dk_172 (dk_at dksX3_isIn_0 15 rfl rfl)
abbrev cX3_holder : ByteArray := prog_22_method_13_code
def yX3_holder : MethodName := ⟨RX3, "holde\x72", "()I"⟩
def dkwX3_holder_1 : List UInt8 := [181, 0, 196, 42, 180, 0, 196, 4, 100, 172]
abbrev dktX3_holder_1 : List UInt8 := dkwX3_holder_1 ++ []
def dkwX3_holder_0 : List UInt8 := [42, 3, 181, 0, 181, 42, 180, 0, 196, 16, 12, 160, 0, 5, 2, 172, 42, 89, 180, 0, 196, 4, 96]
abbrev dktX3_holder_0 : List UInt8 := dkwX3_holder_0 ++ dktX3_holder_1
theorem dksX3_holder_0 : cX3_holder.data.toList.drop 0 = dktX3_holder_0 := by decide +kernel
theorem dksX3_holder_1 : cX3_holder.data.toList.drop 23 = dktX3_holder_1 := dk_seg dksX3_holder_0 23 rfl rfl
theorem dX3_holder_0 : decode cX3_holder 0 = .ok (.aload_n 0, 1) := dk_42 (dk_at dksX3_holder_0 0 rfl rfl)
theorem dX3_holder_1 : decode cX3_holder 1 = .ok (.iconst 0, 1) := dk_3 (dk_at dksX3_holder_0 1 rfl rfl)
theorem dX3_holder_2 : decode cX3_holder 2 = .ok (.putfield 181, 3) := dk_181 0 181 (dk_at dksX3_holder_0 2 rfl rfl)
theorem dX3_holder_5 : decode cX3_holder 5 = .ok (.aload_n 0, 1) := dk_42 (dk_at dksX3_holder_0 5 rfl rfl)
theorem dX3_holder_6 : decode cX3_holder 6 = .ok (.getfield 196, 3) := dk_180 0 196 (dk_at dksX3_holder_0 6 rfl rfl)
theorem dX3_holder_9 : decode cX3_holder 9 = .ok (.bipush 12, 2) := dk_16 12 (dk_at dksX3_holder_0 9 rfl rfl)
theorem dX3_holder_11 : decode cX3_holder 11 = .ok (.if_icmp .ne 5, 3) := dk_160 0 5 (dk_at dksX3_holder_0 11 rfl rfl)
theorem dX3_holder_14 : decode cX3_holder 14 = .ok (.iconst (-1), 1) := dk_2 (dk_at dksX3_holder_0 14 rfl rfl)
theorem dX3_holder_15 : decode cX3_holder 15 = .ok (.ireturn, 1) := dk_172 (dk_at dksX3_holder_0 15 rfl rfl)
theorem dX3_holder_16 : decode cX3_holder 16 = .ok (.aload_n 0, 1) := dk_42 (dk_at dksX3_holder_0 16 rfl rfl)
theorem dX3_holder_17 : decode cX3_holder 17 = .ok (.dup, 1) := dk_89 (dk_at dksX3_holder_0 17 rfl rfl)
theorem dX3_holder_18 : decode cX3_holder 18 = .ok (.getfield 196, 3) := dk_180 0 196 (dk_at dksX3_holder_0 18 rfl rfl)
theorem dX3_holder_21 : decode cX3_holder 21 = .ok (.iconst 1, 1) := dk_4 (dk_at dksX3_holder_0 21 rfl rfl)
theorem dX3_holder_22 : decode cX3_holder 22 = .ok (.iadd, 1) := dk_96 (dk_at dksX3_holder_0 22 rfl rfl)
theorem dX3_holder_23 : decode cX3_holder 23 = .ok (.putfield 196, 3) := dk_181 0 196 (dk_at dksX3_holder_1 0 rfl rfl)
theorem dX3_holder_26 : decode cX3_holder 26 = .ok (.aload_n 0, 1) := dk_42 (dk_at dksX3_holder_1 3 rfl rfl)
theorem dX3_holder_27 : decode cX3_holder 27 = .ok (.getfield 196, 3) := dk_180 0 196 (dk_at dksX3_holder_1 4 rfl rfl)
theorem dX3_holder_30 : decode cX3_holder 30 = .ok (.iconst 1, 1) := dk_4 (dk_at dksX3_holder_1 7 rfl rfl)
theorem dX3_holder_31 : decode cX3_holder 31 = .ok (.isub, 1) := dk_100 (dk_at dksX3_holder_1 8 rfl rfl)
theorem dX3_holder_32 : decode cX3_holder 32 = .ok (.ireturn, 1) := dk_172 (dk_at dksX3_holder_1 9 rfl rfl)
abbrev cX3_key : ByteArray := prog_22_method_15_code
def yX3_key : MethodName := ⟨RX3, "key", "(IZ)I"⟩
def dkwX3_key_1 : List UInt8 := [153, 0, 21, 42, 28, 153, 0, 7, 4, 167, 0, 4, 3, 27, 2, 182, 0, 202, 167, 0, 4, 2, 172]
abbrev dktX3_key_1 : List UInt8 := dkwX3_key_1 ++ []
def dkwX3_key_0 : List UInt8 := [42, 3, 181, 0, 181, 42, 180, 0, 199, 16, 40, 162, 0, 32, 27, 4, 17, 3, 250, 184, 0, 188]
abbrev dktX3_key_0 : List UInt8 := dkwX3_key_0 ++ dktX3_key_1
theorem dksX3_key_0 : cX3_key.data.toList.drop 0 = dktX3_key_0 := by decide +kernel
theorem dksX3_key_1 : cX3_key.data.toList.drop 22 = dktX3_key_1 := dk_seg dksX3_key_0 22 rfl rfl
theorem dX3_key_0 : decode cX3_key 0 = .ok (.aload_n 0, 1) := dk_42 (dk_at dksX3_key_0 0 rfl rfl)
theorem dX3_key_1 : decode cX3_key 1 = .ok (.iconst 0, 1) := dk_3 (dk_at dksX3_key_0 1 rfl rfl)
theorem dX3_key_2 : decode cX3_key 2 = .ok (.putfield 181, 3) := dk_181 0 181 (dk_at dksX3_key_0 2 rfl rfl)
theorem dX3_key_5 : decode cX3_key 5 = .ok (.aload_n 0, 1) := dk_42 (dk_at dksX3_key_0 5 rfl rfl)
theorem dX3_key_6 : decode cX3_key 6 = .ok (.getfield 199, 3) := dk_180 0 199 (dk_at dksX3_key_0 6 rfl rfl)
theorem dX3_key_9 : decode cX3_key 9 = .ok (.bipush 40, 2) := dk_16 40 (dk_at dksX3_key_0 9 rfl rfl)
theorem dX3_key_11 : decode cX3_key 11 = .ok (.if_icmp .ge 32, 3) := dk_162 0 32 (dk_at dksX3_key_0 11 rfl rfl)
theorem dX3_key_14 : decode cX3_key 14 = .ok (.iload_n 1, 1) := dk_27 (dk_at dksX3_key_0 14 rfl rfl)
theorem dX3_key_15 : decode cX3_key 15 = .ok (.iconst 1, 1) := dk_4 (dk_at dksX3_key_0 15 rfl rfl)
theorem dX3_key_16 : decode cX3_key 16 = .ok (.sipush 1018, 3) := dk_17 3 250 (dk_at dksX3_key_0 16 rfl rfl)
theorem dX3_key_19 : decode cX3_key 19 = .ok (.invokestatic 188, 3) := dk_184 0 188 (dk_at dksX3_key_0 19 rfl rfl)
theorem dX3_key_22 : decode cX3_key 22 = .ok (.ifCond .eq 21, 3) := dk_153 0 21 (dk_at dksX3_key_1 0 rfl rfl)
theorem dX3_key_25 : decode cX3_key 25 = .ok (.aload_n 0, 1) := dk_42 (dk_at dksX3_key_1 3 rfl rfl)
theorem dX3_key_26 : decode cX3_key 26 = .ok (.iload_n 2, 1) := dk_28 (dk_at dksX3_key_1 4 rfl rfl)
theorem dX3_key_27 : decode cX3_key 27 = .ok (.ifCond .eq 7, 3) := dk_153 0 7 (dk_at dksX3_key_1 5 rfl rfl)
theorem dX3_key_30 : decode cX3_key 30 = .ok (.iconst 1, 1) := dk_4 (dk_at dksX3_key_1 8 rfl rfl)
theorem dX3_key_31 : decode cX3_key 31 = .ok (.goto 4, 3) := dk_167 0 4 (dk_at dksX3_key_1 9 rfl rfl)
theorem dX3_key_34 : decode cX3_key 34 = .ok (.iconst 0, 1) := dk_3 (dk_at dksX3_key_1 12 rfl rfl)
theorem dX3_key_35 : decode cX3_key 35 = .ok (.iload_n 1, 1) := dk_27 (dk_at dksX3_key_1 13 rfl rfl)
theorem dX3_key_36 : decode cX3_key 36 = .ok (.iconst (-1), 1) := dk_2 (dk_at dksX3_key_1 14 rfl rfl)
theorem dX3_key_37 : decode cX3_key 37 = .ok (.invokevirtual 202, 3) := dk_182 0 202 (dk_at dksX3_key_1 15 rfl rfl)
theorem dX3_key_40 : decode cX3_key 40 = .ok (.goto 4, 3) := dk_167 0 4 (dk_at dksX3_key_1 18 rfl rfl)
theorem dX3_key_43 : decode cX3_key 43 = .ok (.iconst (-1), 1) := dk_2 (dk_at dksX3_key_1 21 rfl rfl)
theorem dX3_key_44 : decode cX3_key 44 = .ok (.ireturn, 1) := dk_172 (dk_at dksX3_key_1 22 rfl rfl)
abbrev cX3_add : ByteArray := prog_22_method_14_code
def yX3_add : MethodName := ⟨RX3, "add", "(III)I"⟩
def dkwX3_add_2 : List UInt8 := [180, 0, 199, 2, 79, 42, 89, 180, 0, 199, 4, 96, 181, 0, 199, 42, 180, 0, 199, 4, 100, 172]
abbrev dktX3_add_2 : List UInt8 := dkwX3_add_2 ++ []
def dkwX3_add_1 : List UInt8 := [42, 180, 0, 199, 29, 79, 42, 180, 0, 19, 42, 180, 0, 199, 42, 180, 0, 185, 79, 42, 180, 0, 22, 42]
abbrev dktX3_add_1 : List UInt8 := dkwX3_add_1 ++ dktX3_add_2
def dkwX3_add_0 : List UInt8 := [42, 180, 0, 9, 42, 180, 0, 199, 27, 79, 42, 180, 0, 13, 42, 180, 0, 199, 28, 79, 42, 180, 0, 16]
abbrev dktX3_add_0 : List UInt8 := dkwX3_add_0 ++ dktX3_add_1
theorem dksX3_add_0 : cX3_add.data.toList.drop 0 = dktX3_add_0 := by decide +kernel
theorem dksX3_add_1 : cX3_add.data.toList.drop 24 = dktX3_add_1 := dk_seg dksX3_add_0 24 rfl rfl
theorem dksX3_add_2 : cX3_add.data.toList.drop 48 = dktX3_add_2 := dk_seg dksX3_add_1 24 rfl rfl
theorem dX3_add_0 : decode cX3_add 0 = .ok (.aload_n 0, 1) := dk_42 (dk_at dksX3_add_0 0 rfl rfl)
theorem dX3_add_1 : decode cX3_add 1 = .ok (.getfield 9, 3) := dk_180 0 9 (dk_at dksX3_add_0 1 rfl rfl)
theorem dX3_add_4 : decode cX3_add 4 = .ok (.aload_n 0, 1) := dk_42 (dk_at dksX3_add_0 4 rfl rfl)
theorem dX3_add_5 : decode cX3_add 5 = .ok (.getfield 199, 3) := dk_180 0 199 (dk_at dksX3_add_0 5 rfl rfl)
theorem dX3_add_8 : decode cX3_add 8 = .ok (.iload_n 1, 1) := dk_27 (dk_at dksX3_add_0 8 rfl rfl)
theorem dX3_add_9 : decode cX3_add 9 = .ok (.iastore, 1) := dk_79 (dk_at dksX3_add_0 9 rfl rfl)
theorem dX3_add_10 : decode cX3_add 10 = .ok (.aload_n 0, 1) := dk_42 (dk_at dksX3_add_0 10 rfl rfl)
theorem dX3_add_11 : decode cX3_add 11 = .ok (.getfield 13, 3) := dk_180 0 13 (dk_at dksX3_add_0 11 rfl rfl)
theorem dX3_add_14 : decode cX3_add 14 = .ok (.aload_n 0, 1) := dk_42 (dk_at dksX3_add_0 14 rfl rfl)
theorem dX3_add_15 : decode cX3_add 15 = .ok (.getfield 199, 3) := dk_180 0 199 (dk_at dksX3_add_0 15 rfl rfl)
theorem dX3_add_18 : decode cX3_add 18 = .ok (.iload_n 2, 1) := dk_28 (dk_at dksX3_add_0 18 rfl rfl)
theorem dX3_add_19 : decode cX3_add 19 = .ok (.iastore, 1) := dk_79 (dk_at dksX3_add_0 19 rfl rfl)
theorem dX3_add_20 : decode cX3_add 20 = .ok (.aload_n 0, 1) := dk_42 (dk_at dksX3_add_0 20 rfl rfl)
theorem dX3_add_21 : decode cX3_add 21 = .ok (.getfield 16, 3) := dk_180 0 16 (dk_at dksX3_add_0 21 rfl rfl)
theorem dX3_add_24 : decode cX3_add 24 = .ok (.aload_n 0, 1) := dk_42 (dk_at dksX3_add_1 0 rfl rfl)
theorem dX3_add_25 : decode cX3_add 25 = .ok (.getfield 199, 3) := dk_180 0 199 (dk_at dksX3_add_1 1 rfl rfl)
theorem dX3_add_28 : decode cX3_add 28 = .ok (.iload_n 3, 1) := dk_29 (dk_at dksX3_add_1 4 rfl rfl)
theorem dX3_add_29 : decode cX3_add 29 = .ok (.iastore, 1) := dk_79 (dk_at dksX3_add_1 5 rfl rfl)
theorem dX3_add_30 : decode cX3_add 30 = .ok (.aload_n 0, 1) := dk_42 (dk_at dksX3_add_1 6 rfl rfl)
theorem dX3_add_31 : decode cX3_add 31 = .ok (.getfield 19, 3) := dk_180 0 19 (dk_at dksX3_add_1 7 rfl rfl)
theorem dX3_add_34 : decode cX3_add 34 = .ok (.aload_n 0, 1) := dk_42 (dk_at dksX3_add_1 10 rfl rfl)
theorem dX3_add_35 : decode cX3_add 35 = .ok (.getfield 199, 3) := dk_180 0 199 (dk_at dksX3_add_1 11 rfl rfl)
theorem dX3_add_38 : decode cX3_add 38 = .ok (.aload_n 0, 1) := dk_42 (dk_at dksX3_add_1 14 rfl rfl)
theorem dX3_add_39 : decode cX3_add 39 = .ok (.getfield 185, 3) := dk_180 0 185 (dk_at dksX3_add_1 15 rfl rfl)
theorem dX3_add_42 : decode cX3_add 42 = .ok (.iastore, 1) := dk_79 (dk_at dksX3_add_1 18 rfl rfl)
theorem dX3_add_43 : decode cX3_add 43 = .ok (.aload_n 0, 1) := dk_42 (dk_at dksX3_add_1 19 rfl rfl)
theorem dX3_add_44 : decode cX3_add 44 = .ok (.getfield 22, 3) := dk_180 0 22 (dk_at dksX3_add_1 20 rfl rfl)
theorem dX3_add_47 : decode cX3_add 47 = .ok (.aload_n 0, 1) := dk_42 (dk_at dksX3_add_1 23 rfl rfl)
theorem dX3_add_48 : decode cX3_add 48 = .ok (.getfield 199, 3) := dk_180 0 199 (dk_at dksX3_add_2 0 rfl rfl)
theorem dX3_add_51 : decode cX3_add 51 = .ok (.iconst (-1), 1) := dk_2 (dk_at dksX3_add_2 3 rfl rfl)
theorem dX3_add_52 : decode cX3_add 52 = .ok (.iastore, 1) := dk_79 (dk_at dksX3_add_2 4 rfl rfl)
theorem dX3_add_53 : decode cX3_add 53 = .ok (.aload_n 0, 1) := dk_42 (dk_at dksX3_add_2 5 rfl rfl)
theorem dX3_add_54 : decode cX3_add 54 = .ok (.dup, 1) := dk_89 (dk_at dksX3_add_2 6 rfl rfl)
theorem dX3_add_55 : decode cX3_add 55 = .ok (.getfield 199, 3) := dk_180 0 199 (dk_at dksX3_add_2 7 rfl rfl)
theorem dX3_add_58 : decode cX3_add 58 = .ok (.iconst 1, 1) := dk_4 (dk_at dksX3_add_2 10 rfl rfl)
theorem dX3_add_59 : decode cX3_add 59 = .ok (.iadd, 1) := dk_96 (dk_at dksX3_add_2 11 rfl rfl)
theorem dX3_add_60 : decode cX3_add 60 = .ok (.putfield 199, 3) := dk_181 0 199 (dk_at dksX3_add_2 12 rfl rfl)
theorem dX3_add_63 : decode cX3_add 63 = .ok (.aload_n 0, 1) := dk_42 (dk_at dksX3_add_2 15 rfl rfl)
theorem dX3_add_64 : decode cX3_add 64 = .ok (.getfield 199, 3) := dk_180 0 199 (dk_at dksX3_add_2 16 rfl rfl)
theorem dX3_add_67 : decode cX3_add 67 = .ok (.iconst 1, 1) := dk_4 (dk_at dksX3_add_2 19 rfl rfl)
theorem dX3_add_68 : decode cX3_add 68 = .ok (.isub, 1) := dk_100 (dk_at dksX3_add_2 20 rfl rfl)
theorem dX3_add_69 : decode cX3_add 69 = .ok (.ireturn, 1) := dk_172 (dk_at dksX3_add_2 21 rfl rfl)
abbrev cX3_feed : ByteArray := prog_22_method_18_code
def yX3_feed : MethodName := ⟨RX3, "feed", "(IIIII)I"⟩
def dkwX3_feed_3 : List UInt8 := [182, 0, 212, 42, 180, 0, 205, 172]
abbrev dktX3_feed_3 : List UInt8 := dkwX3_feed_3 ++ []
def dkwX3_feed_2 : List UInt8 := [182, 0, 212, 42, 28, 182, 0, 212, 42, 29, 182, 0, 212, 42, 21, 4, 182, 0, 212, 42, 21, 5]
abbrev dktX3_feed_2 : List UInt8 := dkwX3_feed_2 ++ dktX3_feed_3
def dkwX3_feed_1 : List UInt8 := [21, 4, 184, 0, 208, 96, 21, 5, 184, 0, 208, 96, 17, 0, 160, 164, 0, 5, 2, 172, 42, 27]
abbrev dktX3_feed_1 : List UInt8 := dkwX3_feed_1 ++ dktX3_feed_2
def dkwX3_feed_0 : List UInt8 := [42, 3, 181, 0, 181, 42, 180, 0, 205, 27, 184, 0, 208, 96, 28, 184, 0, 208, 96, 29, 184, 0, 208, 96]
abbrev dktX3_feed_0 : List UInt8 := dkwX3_feed_0 ++ dktX3_feed_1
theorem dksX3_feed_0 : cX3_feed.data.toList.drop 0 = dktX3_feed_0 := by decide +kernel
theorem dksX3_feed_1 : cX3_feed.data.toList.drop 24 = dktX3_feed_1 := dk_seg dksX3_feed_0 24 rfl rfl
theorem dksX3_feed_2 : cX3_feed.data.toList.drop 46 = dktX3_feed_2 := dk_seg dksX3_feed_1 22 rfl rfl
theorem dksX3_feed_3 : cX3_feed.data.toList.drop 68 = dktX3_feed_3 := dk_seg dksX3_feed_2 22 rfl rfl
theorem dX3_feed_0 : decode cX3_feed 0 = .ok (.aload_n 0, 1) := dk_42 (dk_at dksX3_feed_0 0 rfl rfl)
theorem dX3_feed_1 : decode cX3_feed 1 = .ok (.iconst 0, 1) := dk_3 (dk_at dksX3_feed_0 1 rfl rfl)
theorem dX3_feed_2 : decode cX3_feed 2 = .ok (.putfield 181, 3) := dk_181 0 181 (dk_at dksX3_feed_0 2 rfl rfl)
theorem dX3_feed_5 : decode cX3_feed 5 = .ok (.aload_n 0, 1) := dk_42 (dk_at dksX3_feed_0 5 rfl rfl)
theorem dX3_feed_6 : decode cX3_feed 6 = .ok (.getfield 205, 3) := dk_180 0 205 (dk_at dksX3_feed_0 6 rfl rfl)
theorem dX3_feed_9 : decode cX3_feed 9 = .ok (.iload_n 1, 1) := dk_27 (dk_at dksX3_feed_0 9 rfl rfl)
theorem dX3_feed_10 : decode cX3_feed 10 = .ok (.invokestatic 208, 3) := dk_184 0 208 (dk_at dksX3_feed_0 10 rfl rfl)
theorem dX3_feed_13 : decode cX3_feed 13 = .ok (.iadd, 1) := dk_96 (dk_at dksX3_feed_0 13 rfl rfl)
theorem dX3_feed_14 : decode cX3_feed 14 = .ok (.iload_n 2, 1) := dk_28 (dk_at dksX3_feed_0 14 rfl rfl)
theorem dX3_feed_15 : decode cX3_feed 15 = .ok (.invokestatic 208, 3) := dk_184 0 208 (dk_at dksX3_feed_0 15 rfl rfl)
theorem dX3_feed_18 : decode cX3_feed 18 = .ok (.iadd, 1) := dk_96 (dk_at dksX3_feed_0 18 rfl rfl)
theorem dX3_feed_19 : decode cX3_feed 19 = .ok (.iload_n 3, 1) := dk_29 (dk_at dksX3_feed_0 19 rfl rfl)
theorem dX3_feed_20 : decode cX3_feed 20 = .ok (.invokestatic 208, 3) := dk_184 0 208 (dk_at dksX3_feed_0 20 rfl rfl)
theorem dX3_feed_23 : decode cX3_feed 23 = .ok (.iadd, 1) := dk_96 (dk_at dksX3_feed_0 23 rfl rfl)
theorem dX3_feed_24 : decode cX3_feed 24 = .ok (.iload 4, 2) := dk_21 4 (dk_at dksX3_feed_1 0 rfl rfl)
theorem dX3_feed_26 : decode cX3_feed 26 = .ok (.invokestatic 208, 3) := dk_184 0 208 (dk_at dksX3_feed_1 2 rfl rfl)
theorem dX3_feed_29 : decode cX3_feed 29 = .ok (.iadd, 1) := dk_96 (dk_at dksX3_feed_1 5 rfl rfl)
theorem dX3_feed_30 : decode cX3_feed 30 = .ok (.iload 5, 2) := dk_21 5 (dk_at dksX3_feed_1 6 rfl rfl)
theorem dX3_feed_32 : decode cX3_feed 32 = .ok (.invokestatic 208, 3) := dk_184 0 208 (dk_at dksX3_feed_1 8 rfl rfl)
theorem dX3_feed_35 : decode cX3_feed 35 = .ok (.iadd, 1) := dk_96 (dk_at dksX3_feed_1 11 rfl rfl)
theorem dX3_feed_36 : decode cX3_feed 36 = .ok (.sipush 160, 3) := dk_17 0 160 (dk_at dksX3_feed_1 12 rfl rfl)
theorem dX3_feed_39 : decode cX3_feed 39 = .ok (.if_icmp .le 5, 3) := dk_164 0 5 (dk_at dksX3_feed_1 15 rfl rfl)
theorem dX3_feed_42 : decode cX3_feed 42 = .ok (.iconst (-1), 1) := dk_2 (dk_at dksX3_feed_1 18 rfl rfl)
theorem dX3_feed_43 : decode cX3_feed 43 = .ok (.ireturn, 1) := dk_172 (dk_at dksX3_feed_1 19 rfl rfl)
theorem dX3_feed_44 : decode cX3_feed 44 = .ok (.aload_n 0, 1) := dk_42 (dk_at dksX3_feed_1 20 rfl rfl)
theorem dX3_feed_45 : decode cX3_feed 45 = .ok (.iload_n 1, 1) := dk_27 (dk_at dksX3_feed_1 21 rfl rfl)
theorem dX3_feed_46 : decode cX3_feed 46 = .ok (.invokevirtual 212, 3) := dk_182 0 212 (dk_at dksX3_feed_2 0 rfl rfl)
theorem dX3_feed_49 : decode cX3_feed 49 = .ok (.aload_n 0, 1) := dk_42 (dk_at dksX3_feed_2 3 rfl rfl)
theorem dX3_feed_50 : decode cX3_feed 50 = .ok (.iload_n 2, 1) := dk_28 (dk_at dksX3_feed_2 4 rfl rfl)
theorem dX3_feed_51 : decode cX3_feed 51 = .ok (.invokevirtual 212, 3) := dk_182 0 212 (dk_at dksX3_feed_2 5 rfl rfl)
theorem dX3_feed_54 : decode cX3_feed 54 = .ok (.aload_n 0, 1) := dk_42 (dk_at dksX3_feed_2 8 rfl rfl)
theorem dX3_feed_55 : decode cX3_feed 55 = .ok (.iload_n 3, 1) := dk_29 (dk_at dksX3_feed_2 9 rfl rfl)
theorem dX3_feed_56 : decode cX3_feed 56 = .ok (.invokevirtual 212, 3) := dk_182 0 212 (dk_at dksX3_feed_2 10 rfl rfl)
theorem dX3_feed_59 : decode cX3_feed 59 = .ok (.aload_n 0, 1) := dk_42 (dk_at dksX3_feed_2 13 rfl rfl)
theorem dX3_feed_60 : decode cX3_feed 60 = .ok (.iload 4, 2) := dk_21 4 (dk_at dksX3_feed_2 14 rfl rfl)
theorem dX3_feed_62 : decode cX3_feed 62 = .ok (.invokevirtual 212, 3) := dk_182 0 212 (dk_at dksX3_feed_2 16 rfl rfl)
theorem dX3_feed_65 : decode cX3_feed 65 = .ok (.aload_n 0, 1) := dk_42 (dk_at dksX3_feed_2 19 rfl rfl)
theorem dX3_feed_66 : decode cX3_feed 66 = .ok (.iload 5, 2) := dk_21 5 (dk_at dksX3_feed_2 20 rfl rfl)
theorem dX3_feed_68 : decode cX3_feed 68 = .ok (.invokevirtual 212, 3) := dk_182 0 212 (dk_at dksX3_feed_3 0 rfl rfl)
theorem dX3_feed_71 : decode cX3_feed 71 = .ok (.aload_n 0, 1) := dk_42 (dk_at dksX3_feed_3 3 rfl rfl)
theorem dX3_feed_72 : decode cX3_feed 72 = .ok (.getfield 205, 3) := dk_180 0 205 (dk_at dksX3_feed_3 4 rfl rfl)
theorem dX3_feed_75 : decode cX3_feed 75 = .ok (.ireturn, 1) := dk_172 (dk_at dksX3_feed_3 7 rfl rfl)
abbrev cX3_bytesIn : ByteArray := prog_22_method_16_code
def yX3_bytesIn : MethodName := ⟨RX3, "bytesIn", "(I)I"⟩
def dkwX3_bytesIn_1 : List UInt8 := [3, 96, 60, 132, 2, 248, 167, 255, 231, 27, 172]
abbrev dktX3_bytesIn_1 : List UInt8 := dkwX3_bytesIn_1 ++ []
def dkwX3_bytesIn_0 : List UInt8 := [3, 60, 16, 24, 61, 28, 155, 0, 27, 27, 26, 28, 122, 17, 0, 255, 126, 153, 0, 7, 4, 167, 0, 4]
abbrev dktX3_bytesIn_0 : List UInt8 := dkwX3_bytesIn_0 ++ dktX3_bytesIn_1
theorem dksX3_bytesIn_0 : cX3_bytesIn.data.toList.drop 0 = dktX3_bytesIn_0 := by decide +kernel
theorem dksX3_bytesIn_1 : cX3_bytesIn.data.toList.drop 24 = dktX3_bytesIn_1 := dk_seg dksX3_bytesIn_0 24 rfl rfl
theorem dX3_bytesIn_0 : decode cX3_bytesIn 0 = .ok (.iconst 0, 1) := dk_3 (dk_at dksX3_bytesIn_0 0 rfl rfl)
theorem dX3_bytesIn_1 : decode cX3_bytesIn 1 = .ok (.istore_n 1, 1) := dk_60 (dk_at dksX3_bytesIn_0 1 rfl rfl)
theorem dX3_bytesIn_2 : decode cX3_bytesIn 2 = .ok (.bipush 24, 2) := dk_16 24 (dk_at dksX3_bytesIn_0 2 rfl rfl)
theorem dX3_bytesIn_4 : decode cX3_bytesIn 4 = .ok (.istore_n 2, 1) := dk_61 (dk_at dksX3_bytesIn_0 4 rfl rfl)
theorem dX3_bytesIn_5 : decode cX3_bytesIn 5 = .ok (.iload_n 2, 1) := dk_28 (dk_at dksX3_bytesIn_0 5 rfl rfl)
theorem dX3_bytesIn_6 : decode cX3_bytesIn 6 = .ok (.ifCond .lt 27, 3) := dk_155 0 27 (dk_at dksX3_bytesIn_0 6 rfl rfl)
theorem dX3_bytesIn_9 : decode cX3_bytesIn 9 = .ok (.iload_n 1, 1) := dk_27 (dk_at dksX3_bytesIn_0 9 rfl rfl)
theorem dX3_bytesIn_10 : decode cX3_bytesIn 10 = .ok (.iload_n 0, 1) := dk_26 (dk_at dksX3_bytesIn_0 10 rfl rfl)
theorem dX3_bytesIn_11 : decode cX3_bytesIn 11 = .ok (.iload_n 2, 1) := dk_28 (dk_at dksX3_bytesIn_0 11 rfl rfl)
theorem dX3_bytesIn_12 : decode cX3_bytesIn 12 = .ok (.ishr, 1) := dk_122 (dk_at dksX3_bytesIn_0 12 rfl rfl)
theorem dX3_bytesIn_13 : decode cX3_bytesIn 13 = .ok (.sipush 255, 3) := dk_17 0 255 (dk_at dksX3_bytesIn_0 13 rfl rfl)
theorem dX3_bytesIn_16 : decode cX3_bytesIn 16 = .ok (.iand, 1) := dk_126 (dk_at dksX3_bytesIn_0 16 rfl rfl)
theorem dX3_bytesIn_17 : decode cX3_bytesIn 17 = .ok (.ifCond .eq 7, 3) := dk_153 0 7 (dk_at dksX3_bytesIn_0 17 rfl rfl)
theorem dX3_bytesIn_20 : decode cX3_bytesIn 20 = .ok (.iconst 1, 1) := dk_4 (dk_at dksX3_bytesIn_0 20 rfl rfl)
theorem dX3_bytesIn_21 : decode cX3_bytesIn 21 = .ok (.goto 4, 3) := dk_167 0 4 (dk_at dksX3_bytesIn_0 21 rfl rfl)
theorem dX3_bytesIn_24 : decode cX3_bytesIn 24 = .ok (.iconst 0, 1) := dk_3 (dk_at dksX3_bytesIn_1 0 rfl rfl)
theorem dX3_bytesIn_25 : decode cX3_bytesIn 25 = .ok (.iadd, 1) := dk_96 (dk_at dksX3_bytesIn_1 1 rfl rfl)
theorem dX3_bytesIn_26 : decode cX3_bytesIn 26 = .ok (.istore_n 1, 1) := dk_60 (dk_at dksX3_bytesIn_1 2 rfl rfl)
theorem dX3_bytesIn_27 : decode cX3_bytesIn 27 = .ok (.iinc 2 (-8), 3) := dk_132 2 248 (dk_at dksX3_bytesIn_1 3 rfl rfl)
theorem dX3_bytesIn_30 : decode cX3_bytesIn 30 = .ok (.goto (-25), 3) := dk_167 255 231 (dk_at dksX3_bytesIn_1 6 rfl rfl)
theorem dX3_bytesIn_33 : decode cX3_bytesIn 33 = .ok (.iload_n 1, 1) := dk_27 (dk_at dksX3_bytesIn_1 9 rfl rfl)
theorem dX3_bytesIn_34 : decode cX3_bytesIn 34 = .ok (.ireturn, 1) := dk_172 (dk_at dksX3_bytesIn_1 10 rfl rfl)
abbrev cX3_put : ByteArray := prog_22_method_17_code
def yX3_put : MethodName := ⟨RX3, "put", "(I)V"⟩
def dkwX3_put_2 : List UInt8 := [167, 255, 213, 177]
abbrev dktX3_put_2 : List UInt8 := dkwX3_put_2 ++ []
def dkwX3_put_1 : List UInt8 := [42, 180, 0, 205, 27, 28, 122, 145, 84, 42, 89, 180, 0, 205, 4, 96, 181, 0, 205, 132, 2, 248]
abbrev dktX3_put_1 : List UInt8 := dkwX3_put_1 ++ dktX3_put_2
def dkwX3_put_0 : List UInt8 := [16, 24, 61, 28, 155, 0, 45, 27, 28, 122, 17, 0, 255, 126, 154, 0, 6, 167, 0, 26, 42, 180, 0, 41]
abbrev dktX3_put_0 : List UInt8 := dkwX3_put_0 ++ dktX3_put_1
theorem dksX3_put_0 : cX3_put.data.toList.drop 0 = dktX3_put_0 := by decide +kernel
theorem dksX3_put_1 : cX3_put.data.toList.drop 24 = dktX3_put_1 := dk_seg dksX3_put_0 24 rfl rfl
theorem dksX3_put_2 : cX3_put.data.toList.drop 46 = dktX3_put_2 := dk_seg dksX3_put_1 22 rfl rfl
theorem dX3_put_0 : decode cX3_put 0 = .ok (.bipush 24, 2) := dk_16 24 (dk_at dksX3_put_0 0 rfl rfl)
theorem dX3_put_2 : decode cX3_put 2 = .ok (.istore_n 2, 1) := dk_61 (dk_at dksX3_put_0 2 rfl rfl)
theorem dX3_put_3 : decode cX3_put 3 = .ok (.iload_n 2, 1) := dk_28 (dk_at dksX3_put_0 3 rfl rfl)
theorem dX3_put_4 : decode cX3_put 4 = .ok (.ifCond .lt 45, 3) := dk_155 0 45 (dk_at dksX3_put_0 4 rfl rfl)
theorem dX3_put_7 : decode cX3_put 7 = .ok (.iload_n 1, 1) := dk_27 (dk_at dksX3_put_0 7 rfl rfl)
theorem dX3_put_8 : decode cX3_put 8 = .ok (.iload_n 2, 1) := dk_28 (dk_at dksX3_put_0 8 rfl rfl)
theorem dX3_put_9 : decode cX3_put 9 = .ok (.ishr, 1) := dk_122 (dk_at dksX3_put_0 9 rfl rfl)
theorem dX3_put_10 : decode cX3_put 10 = .ok (.sipush 255, 3) := dk_17 0 255 (dk_at dksX3_put_0 10 rfl rfl)
theorem dX3_put_13 : decode cX3_put 13 = .ok (.iand, 1) := dk_126 (dk_at dksX3_put_0 13 rfl rfl)
theorem dX3_put_14 : decode cX3_put 14 = .ok (.ifCond .ne 6, 3) := dk_154 0 6 (dk_at dksX3_put_0 14 rfl rfl)
theorem dX3_put_17 : decode cX3_put 17 = .ok (.goto 26, 3) := dk_167 0 26 (dk_at dksX3_put_0 17 rfl rfl)
theorem dX3_put_20 : decode cX3_put 20 = .ok (.aload_n 0, 1) := dk_42 (dk_at dksX3_put_0 20 rfl rfl)
theorem dX3_put_21 : decode cX3_put 21 = .ok (.getfield 41, 3) := dk_180 0 41 (dk_at dksX3_put_0 21 rfl rfl)
theorem dX3_put_24 : decode cX3_put 24 = .ok (.aload_n 0, 1) := dk_42 (dk_at dksX3_put_1 0 rfl rfl)
theorem dX3_put_25 : decode cX3_put 25 = .ok (.getfield 205, 3) := dk_180 0 205 (dk_at dksX3_put_1 1 rfl rfl)
theorem dX3_put_28 : decode cX3_put 28 = .ok (.iload_n 1, 1) := dk_27 (dk_at dksX3_put_1 4 rfl rfl)
theorem dX3_put_29 : decode cX3_put 29 = .ok (.iload_n 2, 1) := dk_28 (dk_at dksX3_put_1 5 rfl rfl)
theorem dX3_put_30 : decode cX3_put 30 = .ok (.ishr, 1) := dk_122 (dk_at dksX3_put_1 6 rfl rfl)
theorem dX3_put_31 : decode cX3_put 31 = .ok (.i2b, 1) := dk_145 (dk_at dksX3_put_1 7 rfl rfl)
theorem dX3_put_32 : decode cX3_put 32 = .ok (.bastore, 1) := dk_84 (dk_at dksX3_put_1 8 rfl rfl)
theorem dX3_put_33 : decode cX3_put 33 = .ok (.aload_n 0, 1) := dk_42 (dk_at dksX3_put_1 9 rfl rfl)
theorem dX3_put_34 : decode cX3_put 34 = .ok (.dup, 1) := dk_89 (dk_at dksX3_put_1 10 rfl rfl)
theorem dX3_put_35 : decode cX3_put 35 = .ok (.getfield 205, 3) := dk_180 0 205 (dk_at dksX3_put_1 11 rfl rfl)
theorem dX3_put_38 : decode cX3_put 38 = .ok (.iconst 1, 1) := dk_4 (dk_at dksX3_put_1 14 rfl rfl)
theorem dX3_put_39 : decode cX3_put 39 = .ok (.iadd, 1) := dk_96 (dk_at dksX3_put_1 15 rfl rfl)
theorem dX3_put_40 : decode cX3_put 40 = .ok (.putfield 205, 3) := dk_181 0 205 (dk_at dksX3_put_1 16 rfl rfl)
theorem dX3_put_43 : decode cX3_put 43 = .ok (.iinc 2 (-8), 3) := dk_132 2 248 (dk_at dksX3_put_1 19 rfl rfl)
theorem dX3_put_46 : decode cX3_put 46 = .ok (.goto (-43), 3) := dk_167 255 213 (dk_at dksX3_put_2 0 rfl rfl)
theorem dX3_put_49 : decode cX3_put 49 = .ok (.return_, 1) := dk_177 (dk_at dksX3_put_2 3 rfl rfl)
abbrev cX3_end : ByteArray := prog_22_method_19_code
def yX3_end : MethodName := ⟨RX3, "end", "(I)Z"⟩
def dkwX3_end_1 : List UInt8 := [4, 172]
abbrev dktX3_end_1 : List UInt8 := dkwX3_end_1 ++ []
def dkwX3_end_0 : List UInt8 := [42, 3, 181, 0, 181, 27, 155, 0, 11, 27, 42, 180, 0, 205, 164, 0, 5, 3, 172, 42, 27, 181, 0, 205]
abbrev dktX3_end_0 : List UInt8 := dkwX3_end_0 ++ dktX3_end_1
theorem dksX3_end_0 : cX3_end.data.toList.drop 0 = dktX3_end_0 := by decide +kernel
theorem dksX3_end_1 : cX3_end.data.toList.drop 24 = dktX3_end_1 := dk_seg dksX3_end_0 24 rfl rfl
theorem dX3_end_0 : decode cX3_end 0 = .ok (.aload_n 0, 1) := dk_42 (dk_at dksX3_end_0 0 rfl rfl)
theorem dX3_end_1 : decode cX3_end 1 = .ok (.iconst 0, 1) := dk_3 (dk_at dksX3_end_0 1 rfl rfl)
theorem dX3_end_2 : decode cX3_end 2 = .ok (.putfield 181, 3) := dk_181 0 181 (dk_at dksX3_end_0 2 rfl rfl)
theorem dX3_end_5 : decode cX3_end 5 = .ok (.iload_n 1, 1) := dk_27 (dk_at dksX3_end_0 5 rfl rfl)
theorem dX3_end_6 : decode cX3_end 6 = .ok (.ifCond .lt 11, 3) := dk_155 0 11 (dk_at dksX3_end_0 6 rfl rfl)
theorem dX3_end_9 : decode cX3_end 9 = .ok (.iload_n 1, 1) := dk_27 (dk_at dksX3_end_0 9 rfl rfl)
theorem dX3_end_10 : decode cX3_end 10 = .ok (.aload_n 0, 1) := dk_42 (dk_at dksX3_end_0 10 rfl rfl)
theorem dX3_end_11 : decode cX3_end 11 = .ok (.getfield 205, 3) := dk_180 0 205 (dk_at dksX3_end_0 11 rfl rfl)
theorem dX3_end_14 : decode cX3_end 14 = .ok (.if_icmp .le 5, 3) := dk_164 0 5 (dk_at dksX3_end_0 14 rfl rfl)
theorem dX3_end_17 : decode cX3_end 17 = .ok (.iconst 0, 1) := dk_3 (dk_at dksX3_end_0 17 rfl rfl)
theorem dX3_end_18 : decode cX3_end 18 = .ok (.ireturn, 1) := dk_172 (dk_at dksX3_end_0 18 rfl rfl)
theorem dX3_end_19 : decode cX3_end 19 = .ok (.aload_n 0, 1) := dk_42 (dk_at dksX3_end_0 19 rfl rfl)
theorem dX3_end_20 : decode cX3_end 20 = .ok (.iload_n 1, 1) := dk_27 (dk_at dksX3_end_0 20 rfl rfl)
theorem dX3_end_21 : decode cX3_end 21 = .ok (.putfield 205, 3) := dk_181 0 205 (dk_at dksX3_end_0 21 rfl rfl)
theorem dX3_end_24 : decode cX3_end 24 = .ok (.iconst 1, 1) := dk_4 (dk_at dksX3_end_1 0 rfl rfl)
theorem dX3_end_25 : decode cX3_end 25 = .ok (.ireturn, 1) := dk_172 (dk_at dksX3_end_1 1 rfl rfl)
abbrev cX3_make : ByteArray := prog_22_method_20_code
def yX3_make : MethodName := ⟨RX3, "make", "(I)I"⟩
def dkwX3_make_4 : List UInt8 := [16, 37, 42, 180, 0, 13, 27, 46, 104, 28, 96, 17, 3, 250, 112, 4, 96, 27, 182, 0, 202, 172]
abbrev dktX3_make_4 : List UInt8 := dkwX3_make_4 ++ []
def dkwX3_make_3 : List UInt8 := [17, 0, 255, 126, 96, 17, 3, 251, 112, 61, 132, 3, 1, 167, 255, 224, 42, 3, 181, 0, 205, 42, 5]
abbrev dktX3_make_3 : List UInt8 := dkwX3_make_3 ++ dktX3_make_4
def dkwX3_make_2 : List UInt8 := [3, 61, 3, 62, 29, 42, 180, 0, 205, 162, 0, 30, 17, 0, 131, 28, 104, 42, 180, 0, 41, 29, 51]
abbrev dktX3_make_2 : List UInt8 := dkwX3_make_2 ++ dktX3_make_3
def dkwX3_make_1 : List UInt8 := [180, 0, 9, 27, 46, 4, 160, 0, 16, 42, 180, 0, 205, 4, 16, 40, 184, 0, 188, 154, 0, 5, 2, 172]
abbrev dktX3_make_1 : List UInt8 := dkwX3_make_1 ++ dktX3_make_2
def dkwX3_make_0 : List UInt8 := [42, 3, 181, 0, 181, 42, 180, 0, 199, 16, 40, 159, 0, 34, 42, 27, 182, 0, 216, 153, 0, 26, 42]
abbrev dktX3_make_0 : List UInt8 := dkwX3_make_0 ++ dktX3_make_1
theorem dksX3_make_0 : cX3_make.data.toList.drop 0 = dktX3_make_0 := by decide +kernel
theorem dksX3_make_1 : cX3_make.data.toList.drop 23 = dktX3_make_1 := dk_seg dksX3_make_0 23 rfl rfl
theorem dksX3_make_2 : cX3_make.data.toList.drop 47 = dktX3_make_2 := dk_seg dksX3_make_1 24 rfl rfl
theorem dksX3_make_3 : cX3_make.data.toList.drop 70 = dktX3_make_3 := dk_seg dksX3_make_2 23 rfl rfl
theorem dksX3_make_4 : cX3_make.data.toList.drop 93 = dktX3_make_4 := dk_seg dksX3_make_3 23 rfl rfl
theorem dX3_make_0 : decode cX3_make 0 = .ok (.aload_n 0, 1) := dk_42 (dk_at dksX3_make_0 0 rfl rfl)
theorem dX3_make_1 : decode cX3_make 1 = .ok (.iconst 0, 1) := dk_3 (dk_at dksX3_make_0 1 rfl rfl)
theorem dX3_make_2 : decode cX3_make 2 = .ok (.putfield 181, 3) := dk_181 0 181 (dk_at dksX3_make_0 2 rfl rfl)
theorem dX3_make_5 : decode cX3_make 5 = .ok (.aload_n 0, 1) := dk_42 (dk_at dksX3_make_0 5 rfl rfl)
theorem dX3_make_6 : decode cX3_make 6 = .ok (.getfield 199, 3) := dk_180 0 199 (dk_at dksX3_make_0 6 rfl rfl)
theorem dX3_make_9 : decode cX3_make 9 = .ok (.bipush 40, 2) := dk_16 40 (dk_at dksX3_make_0 9 rfl rfl)
theorem dX3_make_11 : decode cX3_make 11 = .ok (.if_icmp .eq 34, 3) := dk_159 0 34 (dk_at dksX3_make_0 11 rfl rfl)
theorem dX3_make_14 : decode cX3_make 14 = .ok (.aload_n 0, 1) := dk_42 (dk_at dksX3_make_0 14 rfl rfl)
theorem dX3_make_15 : decode cX3_make 15 = .ok (.iload_n 1, 1) := dk_27 (dk_at dksX3_make_0 15 rfl rfl)
theorem dX3_make_16 : decode cX3_make 16 = .ok (.invokevirtual 216, 3) := dk_182 0 216 (dk_at dksX3_make_0 16 rfl rfl)
theorem dX3_make_19 : decode cX3_make 19 = .ok (.ifCond .eq 26, 3) := dk_153 0 26 (dk_at dksX3_make_0 19 rfl rfl)
theorem dX3_make_22 : decode cX3_make 22 = .ok (.aload_n 0, 1) := dk_42 (dk_at dksX3_make_0 22 rfl rfl)
theorem dX3_make_23 : decode cX3_make 23 = .ok (.getfield 9, 3) := dk_180 0 9 (dk_at dksX3_make_1 0 rfl rfl)
theorem dX3_make_26 : decode cX3_make 26 = .ok (.iload_n 1, 1) := dk_27 (dk_at dksX3_make_1 3 rfl rfl)
theorem dX3_make_27 : decode cX3_make 27 = .ok (.iaload, 1) := dk_46 (dk_at dksX3_make_1 4 rfl rfl)
theorem dX3_make_28 : decode cX3_make 28 = .ok (.iconst 1, 1) := dk_4 (dk_at dksX3_make_1 5 rfl rfl)
theorem dX3_make_29 : decode cX3_make 29 = .ok (.if_icmp .ne 16, 3) := dk_160 0 16 (dk_at dksX3_make_1 6 rfl rfl)
theorem dX3_make_32 : decode cX3_make 32 = .ok (.aload_n 0, 1) := dk_42 (dk_at dksX3_make_1 9 rfl rfl)
theorem dX3_make_33 : decode cX3_make 33 = .ok (.getfield 205, 3) := dk_180 0 205 (dk_at dksX3_make_1 10 rfl rfl)
theorem dX3_make_36 : decode cX3_make 36 = .ok (.iconst 1, 1) := dk_4 (dk_at dksX3_make_1 13 rfl rfl)
theorem dX3_make_37 : decode cX3_make 37 = .ok (.bipush 40, 2) := dk_16 40 (dk_at dksX3_make_1 14 rfl rfl)
theorem dX3_make_39 : decode cX3_make 39 = .ok (.invokestatic 188, 3) := dk_184 0 188 (dk_at dksX3_make_1 16 rfl rfl)
theorem dX3_make_42 : decode cX3_make 42 = .ok (.ifCond .ne 5, 3) := dk_154 0 5 (dk_at dksX3_make_1 19 rfl rfl)
theorem dX3_make_45 : decode cX3_make 45 = .ok (.iconst (-1), 1) := dk_2 (dk_at dksX3_make_1 22 rfl rfl)
theorem dX3_make_46 : decode cX3_make 46 = .ok (.ireturn, 1) := dk_172 (dk_at dksX3_make_1 23 rfl rfl)
theorem dX3_make_47 : decode cX3_make 47 = .ok (.iconst 0, 1) := dk_3 (dk_at dksX3_make_2 0 rfl rfl)
theorem dX3_make_48 : decode cX3_make 48 = .ok (.istore_n 2, 1) := dk_61 (dk_at dksX3_make_2 1 rfl rfl)
theorem dX3_make_49 : decode cX3_make 49 = .ok (.iconst 0, 1) := dk_3 (dk_at dksX3_make_2 2 rfl rfl)
theorem dX3_make_50 : decode cX3_make 50 = .ok (.istore_n 3, 1) := dk_62 (dk_at dksX3_make_2 3 rfl rfl)
theorem dX3_make_51 : decode cX3_make 51 = .ok (.iload_n 3, 1) := dk_29 (dk_at dksX3_make_2 4 rfl rfl)
theorem dX3_make_52 : decode cX3_make 52 = .ok (.aload_n 0, 1) := dk_42 (dk_at dksX3_make_2 5 rfl rfl)
theorem dX3_make_53 : decode cX3_make 53 = .ok (.getfield 205, 3) := dk_180 0 205 (dk_at dksX3_make_2 6 rfl rfl)
theorem dX3_make_56 : decode cX3_make 56 = .ok (.if_icmp .ge 30, 3) := dk_162 0 30 (dk_at dksX3_make_2 9 rfl rfl)
theorem dX3_make_59 : decode cX3_make 59 = .ok (.sipush 131, 3) := dk_17 0 131 (dk_at dksX3_make_2 12 rfl rfl)
theorem dX3_make_62 : decode cX3_make 62 = .ok (.iload_n 2, 1) := dk_28 (dk_at dksX3_make_2 15 rfl rfl)
theorem dX3_make_63 : decode cX3_make 63 = .ok (.imul, 1) := dk_104 (dk_at dksX3_make_2 16 rfl rfl)
theorem dX3_make_64 : decode cX3_make 64 = .ok (.aload_n 0, 1) := dk_42 (dk_at dksX3_make_2 17 rfl rfl)
theorem dX3_make_65 : decode cX3_make 65 = .ok (.getfield 41, 3) := dk_180 0 41 (dk_at dksX3_make_2 18 rfl rfl)
theorem dX3_make_68 : decode cX3_make 68 = .ok (.iload_n 3, 1) := dk_29 (dk_at dksX3_make_2 21 rfl rfl)
theorem dX3_make_69 : decode cX3_make 69 = .ok (.baload, 1) := dk_51 (dk_at dksX3_make_2 22 rfl rfl)
theorem dX3_make_70 : decode cX3_make 70 = .ok (.sipush 255, 3) := dk_17 0 255 (dk_at dksX3_make_3 0 rfl rfl)
theorem dX3_make_73 : decode cX3_make 73 = .ok (.iand, 1) := dk_126 (dk_at dksX3_make_3 3 rfl rfl)
theorem dX3_make_74 : decode cX3_make 74 = .ok (.iadd, 1) := dk_96 (dk_at dksX3_make_3 4 rfl rfl)
theorem dX3_make_75 : decode cX3_make 75 = .ok (.sipush 1019, 3) := dk_17 3 251 (dk_at dksX3_make_3 5 rfl rfl)
theorem dX3_make_78 : decode cX3_make 78 = .ok (.irem, 1) := dk_112 (dk_at dksX3_make_3 8 rfl rfl)
theorem dX3_make_79 : decode cX3_make 79 = .ok (.istore_n 2, 1) := dk_61 (dk_at dksX3_make_3 9 rfl rfl)
theorem dX3_make_80 : decode cX3_make 80 = .ok (.iinc 3 1, 3) := dk_132 3 1 (dk_at dksX3_make_3 10 rfl rfl)
theorem dX3_make_83 : decode cX3_make 83 = .ok (.goto (-32), 3) := dk_167 255 224 (dk_at dksX3_make_3 13 rfl rfl)
theorem dX3_make_86 : decode cX3_make 86 = .ok (.aload_n 0, 1) := dk_42 (dk_at dksX3_make_3 16 rfl rfl)
theorem dX3_make_87 : decode cX3_make 87 = .ok (.iconst 0, 1) := dk_3 (dk_at dksX3_make_3 17 rfl rfl)
theorem dX3_make_88 : decode cX3_make 88 = .ok (.putfield 205, 3) := dk_181 0 205 (dk_at dksX3_make_3 18 rfl rfl)
theorem dX3_make_91 : decode cX3_make 91 = .ok (.aload_n 0, 1) := dk_42 (dk_at dksX3_make_3 21 rfl rfl)
theorem dX3_make_92 : decode cX3_make 92 = .ok (.iconst 2, 1) := dk_5 (dk_at dksX3_make_3 22 rfl rfl)
theorem dX3_make_93 : decode cX3_make 93 = .ok (.bipush 37, 2) := dk_16 37 (dk_at dksX3_make_4 0 rfl rfl)
theorem dX3_make_95 : decode cX3_make 95 = .ok (.aload_n 0, 1) := dk_42 (dk_at dksX3_make_4 2 rfl rfl)
theorem dX3_make_96 : decode cX3_make 96 = .ok (.getfield 13, 3) := dk_180 0 13 (dk_at dksX3_make_4 3 rfl rfl)
theorem dX3_make_99 : decode cX3_make 99 = .ok (.iload_n 1, 1) := dk_27 (dk_at dksX3_make_4 6 rfl rfl)
theorem dX3_make_100 : decode cX3_make 100 = .ok (.iaload, 1) := dk_46 (dk_at dksX3_make_4 7 rfl rfl)
theorem dX3_make_101 : decode cX3_make 101 = .ok (.imul, 1) := dk_104 (dk_at dksX3_make_4 8 rfl rfl)
theorem dX3_make_102 : decode cX3_make 102 = .ok (.iload_n 2, 1) := dk_28 (dk_at dksX3_make_4 9 rfl rfl)
theorem dX3_make_103 : decode cX3_make 103 = .ok (.iadd, 1) := dk_96 (dk_at dksX3_make_4 10 rfl rfl)
theorem dX3_make_104 : decode cX3_make 104 = .ok (.sipush 1018, 3) := dk_17 3 250 (dk_at dksX3_make_4 11 rfl rfl)
theorem dX3_make_107 : decode cX3_make 107 = .ok (.irem, 1) := dk_112 (dk_at dksX3_make_4 14 rfl rfl)
theorem dX3_make_108 : decode cX3_make 108 = .ok (.iconst 1, 1) := dk_4 (dk_at dksX3_make_4 15 rfl rfl)
theorem dX3_make_109 : decode cX3_make 109 = .ok (.iadd, 1) := dk_96 (dk_at dksX3_make_4 16 rfl rfl)
theorem dX3_make_110 : decode cX3_make 110 = .ok (.iload_n 1, 1) := dk_27 (dk_at dksX3_make_4 17 rfl rfl)
theorem dX3_make_111 : decode cX3_make 111 = .ok (.invokevirtual 202, 3) := dk_182 0 202 (dk_at dksX3_make_4 18 rfl rfl)
theorem dX3_make_114 : decode cX3_make 114 = .ok (.ireturn, 1) := dk_172 (dk_at dksX3_make_4 21 rfl rfl)
abbrev cX3_isKey : ByteArray := prog_22_method_11_code
def yX3_isKey : MethodName := ⟨RX3, "isKey", "(I)Z"⟩
def dkwX3_isKey_0 : List UInt8 := [27, 155, 0, 15, 27, 42, 180, 0, 199, 162, 0, 7, 4, 167, 0, 4, 3, 172]
abbrev dktX3_isKey_0 : List UInt8 := dkwX3_isKey_0 ++ []
theorem dksX3_isKey_0 : cX3_isKey.data.toList.drop 0 = dktX3_isKey_0 := by decide +kernel
theorem dX3_isKey_0 : decode cX3_isKey 0 = .ok (.iload_n 1, 1) := dk_27 (dk_at dksX3_isKey_0 0 rfl rfl)
theorem dX3_isKey_1 : decode cX3_isKey 1 = .ok (.ifCond .lt 15, 3) := dk_155 0 15 (dk_at dksX3_isKey_0 1 rfl rfl)
theorem dX3_isKey_4 : decode cX3_isKey 4 = .ok (.iload_n 1, 1) := dk_27 (dk_at dksX3_isKey_0 4 rfl rfl)
theorem dX3_isKey_5 : decode cX3_isKey 5 = .ok (.aload_n 0, 1) := dk_42 (dk_at dksX3_isKey_0 5 rfl rfl)
theorem dX3_isKey_6 : decode cX3_isKey 6 = .ok (.getfield 199, 3) := dk_180 0 199 (dk_at dksX3_isKey_0 6 rfl rfl)
theorem dX3_isKey_9 : decode cX3_isKey 9 = .ok (.if_icmp .ge 7, 3) := dk_162 0 7 (dk_at dksX3_isKey_0 9 rfl rfl)
theorem dX3_isKey_12 : decode cX3_isKey 12 = .ok (.iconst 1, 1) := dk_4 (dk_at dksX3_isKey_0 12 rfl rfl)
theorem dX3_isKey_13 : decode cX3_isKey 13 = .ok (.goto 4, 3) := dk_167 0 4 (dk_at dksX3_isKey_0 13 rfl rfl)
theorem dX3_isKey_16 : decode cX3_isKey 16 = .ok (.iconst 0, 1) := dk_3 (dk_at dksX3_isKey_0 16 rfl rfl)
theorem dX3_isKey_17 : decode cX3_isKey 17 = .ok (.ireturn, 1) := dk_172 (dk_at dksX3_isKey_0 17 rfl rfl)
abbrev cX3_open : ByteArray := prog_22_method_21_code
def yX3_open : MethodName := ⟨RX3, "open", "(I)I"⟩
def dkwX3_open_1 : List UInt8 := [3, 167, 0, 12, 42, 180, 0, 13, 27, 46, 184, 0, 220, 172]
abbrev dktX3_open_1 : List UInt8 := dkwX3_open_1 ++ []
def dkwX3_open_0 : List UInt8 := [42, 42, 27, 182, 0, 216, 153, 0, 7, 3, 167, 0, 4, 4, 181, 0, 181, 42, 180, 0, 181, 158, 0, 7]
abbrev dktX3_open_0 : List UInt8 := dkwX3_open_0 ++ dktX3_open_1
theorem dksX3_open_0 : cX3_open.data.toList.drop 0 = dktX3_open_0 := by decide +kernel
theorem dksX3_open_1 : cX3_open.data.toList.drop 24 = dktX3_open_1 := dk_seg dksX3_open_0 24 rfl rfl
theorem dX3_open_0 : decode cX3_open 0 = .ok (.aload_n 0, 1) := dk_42 (dk_at dksX3_open_0 0 rfl rfl)
theorem dX3_open_1 : decode cX3_open 1 = .ok (.aload_n 0, 1) := dk_42 (dk_at dksX3_open_0 1 rfl rfl)
theorem dX3_open_2 : decode cX3_open 2 = .ok (.iload_n 1, 1) := dk_27 (dk_at dksX3_open_0 2 rfl rfl)
theorem dX3_open_3 : decode cX3_open 3 = .ok (.invokevirtual 216, 3) := dk_182 0 216 (dk_at dksX3_open_0 3 rfl rfl)
theorem dX3_open_6 : decode cX3_open 6 = .ok (.ifCond .eq 7, 3) := dk_153 0 7 (dk_at dksX3_open_0 6 rfl rfl)
theorem dX3_open_9 : decode cX3_open 9 = .ok (.iconst 0, 1) := dk_3 (dk_at dksX3_open_0 9 rfl rfl)
theorem dX3_open_10 : decode cX3_open 10 = .ok (.goto 4, 3) := dk_167 0 4 (dk_at dksX3_open_0 10 rfl rfl)
theorem dX3_open_13 : decode cX3_open 13 = .ok (.iconst 1, 1) := dk_4 (dk_at dksX3_open_0 13 rfl rfl)
theorem dX3_open_14 : decode cX3_open 14 = .ok (.putfield 181, 3) := dk_181 0 181 (dk_at dksX3_open_0 14 rfl rfl)
theorem dX3_open_17 : decode cX3_open 17 = .ok (.aload_n 0, 1) := dk_42 (dk_at dksX3_open_0 17 rfl rfl)
theorem dX3_open_18 : decode cX3_open 18 = .ok (.getfield 181, 3) := dk_180 0 181 (dk_at dksX3_open_0 18 rfl rfl)
theorem dX3_open_21 : decode cX3_open 21 = .ok (.ifCond .le 7, 3) := dk_158 0 7 (dk_at dksX3_open_0 21 rfl rfl)
theorem dX3_open_24 : decode cX3_open 24 = .ok (.iconst 0, 1) := dk_3 (dk_at dksX3_open_1 0 rfl rfl)
theorem dX3_open_25 : decode cX3_open 25 = .ok (.goto 12, 3) := dk_167 0 12 (dk_at dksX3_open_1 1 rfl rfl)
theorem dX3_open_28 : decode cX3_open 28 = .ok (.aload_n 0, 1) := dk_42 (dk_at dksX3_open_1 4 rfl rfl)
theorem dX3_open_29 : decode cX3_open 29 = .ok (.getfield 13, 3) := dk_180 0 13 (dk_at dksX3_open_1 5 rfl rfl)
theorem dX3_open_32 : decode cX3_open 32 = .ok (.iload_n 1, 1) := dk_27 (dk_at dksX3_open_1 8 rfl rfl)
theorem dX3_open_33 : decode cX3_open 33 = .ok (.iaload, 1) := dk_46 (dk_at dksX3_open_1 9 rfl rfl)
theorem dX3_open_34 : decode cX3_open 34 = .ok (.invokestatic 220, 3) := dk_184 0 220 (dk_at dksX3_open_1 10 rfl rfl)
theorem dX3_open_37 : decode cX3_open 37 = .ok (.ireturn, 1) := dk_172 (dk_at dksX3_open_1 13 rfl rfl)
abbrev cX3_four : ByteArray := prog_22_method_8_code
def yX3_four : MethodName := ⟨RX3, "fou\x72", "(I)I"⟩
def dkwX3_four_0 : List UInt8 := [7, 26, 17, 7, 247, 184, 0, 192, 172]
abbrev dktX3_four_0 : List UInt8 := dkwX3_four_0 ++ []
theorem dksX3_four_0 : cX3_four.data.toList.drop 0 = dktX3_four_0 := by decide +kernel
theorem dX3_four_0 : decode cX3_four 0 = .ok (.iconst 4, 1) := dk_7 (dk_at dksX3_four_0 0 rfl rfl)
theorem dX3_four_1 : decode cX3_four 1 = .ok (.iload_n 0, 1) := dk_26 (dk_at dksX3_four_0 1 rfl rfl)
theorem dX3_four_2 : decode cX3_four 2 = .ok (.sipush 2039, 3) := dk_17 7 247 (dk_at dksX3_four_0 2 rfl rfl)
theorem dX3_four_5 : decode cX3_four 5 = .ok (.invokestatic 192, 3) := dk_184 0 192 (dk_at dksX3_four_0 5 rfl rfl)
theorem dX3_four_8 : decode cX3_four 8 = .ok (.ireturn, 1) := dk_172 (dk_at dksX3_four_0 8 rfl rfl)
abbrev cX3_power : ByteArray := prog_22_method_7_code
def yX3_power : MethodName := ⟨RX3, "powe\x72", "(III)I"⟩
def dkwX3_power_1 : List UInt8 := [172]
abbrev dktX3_power_1 : List UInt8 := dkwX3_power_1 ++ []
def dkwX3_power_0 : List UInt8 := [4, 62, 3, 54, 4, 21, 4, 27, 162, 0, 15, 29, 26, 104, 28, 112, 62, 132, 4, 1, 167, 255, 241, 29]
abbrev dktX3_power_0 : List UInt8 := dkwX3_power_0 ++ dktX3_power_1
theorem dksX3_power_0 : cX3_power.data.toList.drop 0 = dktX3_power_0 := by decide +kernel
theorem dksX3_power_1 : cX3_power.data.toList.drop 24 = dktX3_power_1 := dk_seg dksX3_power_0 24 rfl rfl
theorem dX3_power_0 : decode cX3_power 0 = .ok (.iconst 1, 1) := dk_4 (dk_at dksX3_power_0 0 rfl rfl)
theorem dX3_power_1 : decode cX3_power 1 = .ok (.istore_n 3, 1) := dk_62 (dk_at dksX3_power_0 1 rfl rfl)
theorem dX3_power_2 : decode cX3_power 2 = .ok (.iconst 0, 1) := dk_3 (dk_at dksX3_power_0 2 rfl rfl)
theorem dX3_power_3 : decode cX3_power 3 = .ok (.istore 4, 2) := dk_54 4 (dk_at dksX3_power_0 3 rfl rfl)
theorem dX3_power_5 : decode cX3_power 5 = .ok (.iload 4, 2) := dk_21 4 (dk_at dksX3_power_0 5 rfl rfl)
theorem dX3_power_7 : decode cX3_power 7 = .ok (.iload_n 1, 1) := dk_27 (dk_at dksX3_power_0 7 rfl rfl)
theorem dX3_power_8 : decode cX3_power 8 = .ok (.if_icmp .ge 15, 3) := dk_162 0 15 (dk_at dksX3_power_0 8 rfl rfl)
theorem dX3_power_11 : decode cX3_power 11 = .ok (.iload_n 3, 1) := dk_29 (dk_at dksX3_power_0 11 rfl rfl)
theorem dX3_power_12 : decode cX3_power 12 = .ok (.iload_n 0, 1) := dk_26 (dk_at dksX3_power_0 12 rfl rfl)
theorem dX3_power_13 : decode cX3_power 13 = .ok (.imul, 1) := dk_104 (dk_at dksX3_power_0 13 rfl rfl)
theorem dX3_power_14 : decode cX3_power 14 = .ok (.iload_n 2, 1) := dk_28 (dk_at dksX3_power_0 14 rfl rfl)
theorem dX3_power_15 : decode cX3_power 15 = .ok (.irem, 1) := dk_112 (dk_at dksX3_power_0 15 rfl rfl)
theorem dX3_power_16 : decode cX3_power 16 = .ok (.istore_n 3, 1) := dk_62 (dk_at dksX3_power_0 16 rfl rfl)
theorem dX3_power_17 : decode cX3_power 17 = .ok (.iinc 4 1, 3) := dk_132 4 1 (dk_at dksX3_power_0 17 rfl rfl)
theorem dX3_power_20 : decode cX3_power 20 = .ok (.goto (-15), 3) := dk_167 255 241 (dk_at dksX3_power_0 20 rfl rfl)
theorem dX3_power_23 : decode cX3_power 23 = .ok (.iload_n 3, 1) := dk_29 (dk_at dksX3_power_0 23 rfl rfl)
theorem dX3_power_24 : decode cX3_power 24 = .ok (.ireturn, 1) := dk_172 (dk_at dksX3_power_1 0 rfl rfl)
abbrev cX3_give : ByteArray := prog_22_method_24_code
def yX3_give : MethodName := ⟨RX3, "give", "(II)Z"⟩
def dkwX3_give_0 : List UInt8 := [42, 27, 28, 4, 182, 0, 232, 172]
abbrev dktX3_give_0 : List UInt8 := dkwX3_give_0 ++ []
theorem dksX3_give_0 : cX3_give.data.toList.drop 0 = dktX3_give_0 := by decide +kernel
theorem dX3_give_0 : decode cX3_give 0 = .ok (.aload_n 0, 1) := dk_42 (dk_at dksX3_give_0 0 rfl rfl)
theorem dX3_give_1 : decode cX3_give 1 = .ok (.iload_n 1, 1) := dk_27 (dk_at dksX3_give_0 1 rfl rfl)
theorem dX3_give_2 : decode cX3_give 2 = .ok (.iload_n 2, 1) := dk_28 (dk_at dksX3_give_0 2 rfl rfl)
theorem dX3_give_3 : decode cX3_give 3 = .ok (.iconst 1, 1) := dk_4 (dk_at dksX3_give_0 3 rfl rfl)
theorem dX3_give_4 : decode cX3_give 4 = .ok (.invokevirtual 232, 3) := dk_182 0 232 (dk_at dksX3_give_0 4 rfl rfl)
theorem dX3_give_7 : decode cX3_give 7 = .ok (.ireturn, 1) := dk_172 (dk_at dksX3_give_0 7 rfl rfl)
abbrev cX3_hands : ByteArray := prog_22_method_23_code
def yX3_hands : MethodName := ⟨RX3, "hands", "(IIZ)Z"⟩
def dkwX3_hands_3 : List UInt8 := [180, 0, 34, 42, 180, 0, 223, 29, 84, 42, 89, 180, 0, 223, 4, 96, 181, 0, 223, 4, 172]
abbrev dktX3_hands_3 : List UInt8 := dkwX3_hands_3 ++ []
def dkwX3_hands_2 : List UInt8 := [180, 0, 28, 42, 180, 0, 223, 28, 79, 42, 180, 0, 31, 42, 180, 0, 223, 42, 180, 0, 185, 79, 42]
abbrev dktX3_hands_2 : List UInt8 := dkwX3_hands_2 ++ dktX3_hands_3
def dkwX3_hands_1 : List UInt8 := [42, 180, 0, 185, 182, 0, 229, 29, 160, 0, 5, 3, 172, 42, 180, 0, 25, 42, 180, 0, 223, 27, 79, 42]
abbrev dktX3_hands_1 : List UInt8 := dkwX3_hands_1 ++ dktX3_hands_2
def dkwX3_hands_0 : List UInt8 := [42, 3, 181, 0, 181, 42, 27, 182, 0, 226, 153, 0, 25, 42, 28, 182, 0, 216, 153, 0, 17, 42, 27, 28]
abbrev dktX3_hands_0 : List UInt8 := dkwX3_hands_0 ++ dktX3_hands_1
theorem dksX3_hands_0 : cX3_hands.data.toList.drop 0 = dktX3_hands_0 := by decide +kernel
theorem dksX3_hands_1 : cX3_hands.data.toList.drop 24 = dktX3_hands_1 := dk_seg dksX3_hands_0 24 rfl rfl
theorem dksX3_hands_2 : cX3_hands.data.toList.drop 48 = dktX3_hands_2 := dk_seg dksX3_hands_1 24 rfl rfl
theorem dksX3_hands_3 : cX3_hands.data.toList.drop 71 = dktX3_hands_3 := dk_seg dksX3_hands_2 23 rfl rfl
theorem dX3_hands_0 : decode cX3_hands 0 = .ok (.aload_n 0, 1) := dk_42 (dk_at dksX3_hands_0 0 rfl rfl)
theorem dX3_hands_1 : decode cX3_hands 1 = .ok (.iconst 0, 1) := dk_3 (dk_at dksX3_hands_0 1 rfl rfl)
theorem dX3_hands_2 : decode cX3_hands 2 = .ok (.putfield 181, 3) := dk_181 0 181 (dk_at dksX3_hands_0 2 rfl rfl)
theorem dX3_hands_5 : decode cX3_hands 5 = .ok (.aload_n 0, 1) := dk_42 (dk_at dksX3_hands_0 5 rfl rfl)
theorem dX3_hands_6 : decode cX3_hands 6 = .ok (.iload_n 1, 1) := dk_27 (dk_at dksX3_hands_0 6 rfl rfl)
theorem dX3_hands_7 : decode cX3_hands 7 = .ok (.invokevirtual 226, 3) := dk_182 0 226 (dk_at dksX3_hands_0 7 rfl rfl)
theorem dX3_hands_10 : decode cX3_hands 10 = .ok (.ifCond .eq 25, 3) := dk_153 0 25 (dk_at dksX3_hands_0 10 rfl rfl)
theorem dX3_hands_13 : decode cX3_hands 13 = .ok (.aload_n 0, 1) := dk_42 (dk_at dksX3_hands_0 13 rfl rfl)
theorem dX3_hands_14 : decode cX3_hands 14 = .ok (.iload_n 2, 1) := dk_28 (dk_at dksX3_hands_0 14 rfl rfl)
theorem dX3_hands_15 : decode cX3_hands 15 = .ok (.invokevirtual 216, 3) := dk_182 0 216 (dk_at dksX3_hands_0 15 rfl rfl)
theorem dX3_hands_18 : decode cX3_hands 18 = .ok (.ifCond .eq 17, 3) := dk_153 0 17 (dk_at dksX3_hands_0 18 rfl rfl)
theorem dX3_hands_21 : decode cX3_hands 21 = .ok (.aload_n 0, 1) := dk_42 (dk_at dksX3_hands_0 21 rfl rfl)
theorem dX3_hands_22 : decode cX3_hands 22 = .ok (.iload_n 1, 1) := dk_27 (dk_at dksX3_hands_0 22 rfl rfl)
theorem dX3_hands_23 : decode cX3_hands 23 = .ok (.iload_n 2, 1) := dk_28 (dk_at dksX3_hands_0 23 rfl rfl)
theorem dX3_hands_24 : decode cX3_hands 24 = .ok (.aload_n 0, 1) := dk_42 (dk_at dksX3_hands_1 0 rfl rfl)
theorem dX3_hands_25 : decode cX3_hands 25 = .ok (.getfield 185, 3) := dk_180 0 185 (dk_at dksX3_hands_1 1 rfl rfl)
theorem dX3_hands_28 : decode cX3_hands 28 = .ok (.invokevirtual 229, 3) := dk_182 0 229 (dk_at dksX3_hands_1 4 rfl rfl)
theorem dX3_hands_31 : decode cX3_hands 31 = .ok (.iload_n 3, 1) := dk_29 (dk_at dksX3_hands_1 7 rfl rfl)
theorem dX3_hands_32 : decode cX3_hands 32 = .ok (.if_icmp .ne 5, 3) := dk_160 0 5 (dk_at dksX3_hands_1 8 rfl rfl)
theorem dX3_hands_35 : decode cX3_hands 35 = .ok (.iconst 0, 1) := dk_3 (dk_at dksX3_hands_1 11 rfl rfl)
theorem dX3_hands_36 : decode cX3_hands 36 = .ok (.ireturn, 1) := dk_172 (dk_at dksX3_hands_1 12 rfl rfl)
theorem dX3_hands_37 : decode cX3_hands 37 = .ok (.aload_n 0, 1) := dk_42 (dk_at dksX3_hands_1 13 rfl rfl)
theorem dX3_hands_38 : decode cX3_hands 38 = .ok (.getfield 25, 3) := dk_180 0 25 (dk_at dksX3_hands_1 14 rfl rfl)
theorem dX3_hands_41 : decode cX3_hands 41 = .ok (.aload_n 0, 1) := dk_42 (dk_at dksX3_hands_1 17 rfl rfl)
theorem dX3_hands_42 : decode cX3_hands 42 = .ok (.getfield 223, 3) := dk_180 0 223 (dk_at dksX3_hands_1 18 rfl rfl)
theorem dX3_hands_45 : decode cX3_hands 45 = .ok (.iload_n 1, 1) := dk_27 (dk_at dksX3_hands_1 21 rfl rfl)
theorem dX3_hands_46 : decode cX3_hands 46 = .ok (.iastore, 1) := dk_79 (dk_at dksX3_hands_1 22 rfl rfl)
theorem dX3_hands_47 : decode cX3_hands 47 = .ok (.aload_n 0, 1) := dk_42 (dk_at dksX3_hands_1 23 rfl rfl)
theorem dX3_hands_48 : decode cX3_hands 48 = .ok (.getfield 28, 3) := dk_180 0 28 (dk_at dksX3_hands_2 0 rfl rfl)
theorem dX3_hands_51 : decode cX3_hands 51 = .ok (.aload_n 0, 1) := dk_42 (dk_at dksX3_hands_2 3 rfl rfl)
theorem dX3_hands_52 : decode cX3_hands 52 = .ok (.getfield 223, 3) := dk_180 0 223 (dk_at dksX3_hands_2 4 rfl rfl)
theorem dX3_hands_55 : decode cX3_hands 55 = .ok (.iload_n 2, 1) := dk_28 (dk_at dksX3_hands_2 7 rfl rfl)
theorem dX3_hands_56 : decode cX3_hands 56 = .ok (.iastore, 1) := dk_79 (dk_at dksX3_hands_2 8 rfl rfl)
theorem dX3_hands_57 : decode cX3_hands 57 = .ok (.aload_n 0, 1) := dk_42 (dk_at dksX3_hands_2 9 rfl rfl)
theorem dX3_hands_58 : decode cX3_hands 58 = .ok (.getfield 31, 3) := dk_180 0 31 (dk_at dksX3_hands_2 10 rfl rfl)
theorem dX3_hands_61 : decode cX3_hands 61 = .ok (.aload_n 0, 1) := dk_42 (dk_at dksX3_hands_2 13 rfl rfl)
theorem dX3_hands_62 : decode cX3_hands 62 = .ok (.getfield 223, 3) := dk_180 0 223 (dk_at dksX3_hands_2 14 rfl rfl)
theorem dX3_hands_65 : decode cX3_hands 65 = .ok (.aload_n 0, 1) := dk_42 (dk_at dksX3_hands_2 17 rfl rfl)
theorem dX3_hands_66 : decode cX3_hands 66 = .ok (.getfield 185, 3) := dk_180 0 185 (dk_at dksX3_hands_2 18 rfl rfl)
theorem dX3_hands_69 : decode cX3_hands 69 = .ok (.iastore, 1) := dk_79 (dk_at dksX3_hands_2 21 rfl rfl)
theorem dX3_hands_70 : decode cX3_hands 70 = .ok (.aload_n 0, 1) := dk_42 (dk_at dksX3_hands_2 22 rfl rfl)
theorem dX3_hands_71 : decode cX3_hands 71 = .ok (.getfield 34, 3) := dk_180 0 34 (dk_at dksX3_hands_3 0 rfl rfl)
theorem dX3_hands_74 : decode cX3_hands 74 = .ok (.aload_n 0, 1) := dk_42 (dk_at dksX3_hands_3 3 rfl rfl)
theorem dX3_hands_75 : decode cX3_hands 75 = .ok (.getfield 223, 3) := dk_180 0 223 (dk_at dksX3_hands_3 4 rfl rfl)
theorem dX3_hands_78 : decode cX3_hands 78 = .ok (.iload_n 3, 1) := dk_29 (dk_at dksX3_hands_3 7 rfl rfl)
theorem dX3_hands_79 : decode cX3_hands 79 = .ok (.bastore, 1) := dk_84 (dk_at dksX3_hands_3 8 rfl rfl)
theorem dX3_hands_80 : decode cX3_hands 80 = .ok (.aload_n 0, 1) := dk_42 (dk_at dksX3_hands_3 9 rfl rfl)
theorem dX3_hands_81 : decode cX3_hands 81 = .ok (.dup, 1) := dk_89 (dk_at dksX3_hands_3 10 rfl rfl)
theorem dX3_hands_82 : decode cX3_hands 82 = .ok (.getfield 223, 3) := dk_180 0 223 (dk_at dksX3_hands_3 11 rfl rfl)
theorem dX3_hands_85 : decode cX3_hands 85 = .ok (.iconst 1, 1) := dk_4 (dk_at dksX3_hands_3 14 rfl rfl)
theorem dX3_hands_86 : decode cX3_hands 86 = .ok (.iadd, 1) := dk_96 (dk_at dksX3_hands_3 15 rfl rfl)
theorem dX3_hands_87 : decode cX3_hands 87 = .ok (.putfield 223, 3) := dk_181 0 223 (dk_at dksX3_hands_3 16 rfl rfl)
theorem dX3_hands_90 : decode cX3_hands 90 = .ok (.iconst 1, 1) := dk_4 (dk_at dksX3_hands_3 19 rfl rfl)
theorem dX3_hands_91 : decode cX3_hands 91 = .ok (.ireturn, 1) := dk_172 (dk_at dksX3_hands_3 20 rfl rfl)
abbrev cX3_isHolder : ByteArray := prog_22_method_10_code
def yX3_isHolder : MethodName := ⟨RX3, "isHolde\x72", "(I)Z"⟩
def dkwX3_isHolder_0 : List UInt8 := [27, 155, 0, 15, 27, 42, 180, 0, 196, 162, 0, 7, 4, 167, 0, 4, 3, 172]
abbrev dktX3_isHolder_0 : List UInt8 := dkwX3_isHolder_0 ++ []
theorem dksX3_isHolder_0 : cX3_isHolder.data.toList.drop 0 = dktX3_isHolder_0 := by decide +kernel
theorem dX3_isHolder_0 : decode cX3_isHolder 0 = .ok (.iload_n 1, 1) := dk_27 (dk_at dksX3_isHolder_0 0 rfl rfl)
theorem dX3_isHolder_1 : decode cX3_isHolder 1 = .ok (.ifCond .lt 15, 3) := dk_155 0 15 (dk_at dksX3_isHolder_0 1 rfl rfl)
theorem dX3_isHolder_4 : decode cX3_isHolder 4 = .ok (.iload_n 1, 1) := dk_27 (dk_at dksX3_isHolder_0 4 rfl rfl)
theorem dX3_isHolder_5 : decode cX3_isHolder 5 = .ok (.aload_n 0, 1) := dk_42 (dk_at dksX3_isHolder_0 5 rfl rfl)
theorem dX3_isHolder_6 : decode cX3_isHolder 6 = .ok (.getfield 196, 3) := dk_180 0 196 (dk_at dksX3_isHolder_0 6 rfl rfl)
theorem dX3_isHolder_9 : decode cX3_isHolder 9 = .ok (.if_icmp .ge 7, 3) := dk_162 0 7 (dk_at dksX3_isHolder_0 9 rfl rfl)
theorem dX3_isHolder_12 : decode cX3_isHolder 12 = .ok (.iconst 1, 1) := dk_4 (dk_at dksX3_isHolder_0 12 rfl rfl)
theorem dX3_isHolder_13 : decode cX3_isHolder 13 = .ok (.goto 4, 3) := dk_167 0 4 (dk_at dksX3_isHolder_0 13 rfl rfl)
theorem dX3_isHolder_16 : decode cX3_isHolder 16 = .ok (.iconst 0, 1) := dk_3 (dk_at dksX3_isHolder_0 16 rfl rfl)
theorem dX3_isHolder_17 : decode cX3_isHolder 17 = .ok (.ireturn, 1) := dk_172 (dk_at dksX3_isHolder_0 17 rfl rfl)
abbrev cX3_has : ByteArray := prog_22_method_22_code
def yX3_has : MethodName := ⟨RX3, "has", "(III)Z"⟩
def dkwX3_has_2 : List UInt8 := [163, 0, 12, 42, 180, 0, 34, 21, 5, 51, 54, 4, 132, 5, 1, 167, 255, 202, 21, 4, 172]
abbrev dktX3_has_2 : List UInt8 := dkwX3_has_2 ++ []
def dkwX3_has_1 : List UInt8 := [160, 0, 34, 42, 180, 0, 28, 21, 5, 46, 28, 160, 0, 23, 42, 180, 0, 31, 21, 5, 46, 29]
abbrev dktX3_has_1 : List UInt8 := dkwX3_has_1 ++ dktX3_has_2
def dkwX3_has_0 : List UInt8 := [3, 54, 4, 3, 54, 5, 21, 5, 42, 180, 0, 223, 162, 0, 51, 42, 180, 0, 25, 21, 5, 46, 27]
abbrev dktX3_has_0 : List UInt8 := dkwX3_has_0 ++ dktX3_has_1
theorem dksX3_has_0 : cX3_has.data.toList.drop 0 = dktX3_has_0 := by decide +kernel
theorem dksX3_has_1 : cX3_has.data.toList.drop 23 = dktX3_has_1 := dk_seg dksX3_has_0 23 rfl rfl
theorem dksX3_has_2 : cX3_has.data.toList.drop 45 = dktX3_has_2 := dk_seg dksX3_has_1 22 rfl rfl
theorem dX3_has_0 : decode cX3_has 0 = .ok (.iconst 0, 1) := dk_3 (dk_at dksX3_has_0 0 rfl rfl)
theorem dX3_has_1 : decode cX3_has 1 = .ok (.istore 4, 2) := dk_54 4 (dk_at dksX3_has_0 1 rfl rfl)
theorem dX3_has_3 : decode cX3_has 3 = .ok (.iconst 0, 1) := dk_3 (dk_at dksX3_has_0 3 rfl rfl)
theorem dX3_has_4 : decode cX3_has 4 = .ok (.istore 5, 2) := dk_54 5 (dk_at dksX3_has_0 4 rfl rfl)
theorem dX3_has_6 : decode cX3_has 6 = .ok (.iload 5, 2) := dk_21 5 (dk_at dksX3_has_0 6 rfl rfl)
theorem dX3_has_8 : decode cX3_has 8 = .ok (.aload_n 0, 1) := dk_42 (dk_at dksX3_has_0 8 rfl rfl)
theorem dX3_has_9 : decode cX3_has 9 = .ok (.getfield 223, 3) := dk_180 0 223 (dk_at dksX3_has_0 9 rfl rfl)
theorem dX3_has_12 : decode cX3_has 12 = .ok (.if_icmp .ge 51, 3) := dk_162 0 51 (dk_at dksX3_has_0 12 rfl rfl)
theorem dX3_has_15 : decode cX3_has 15 = .ok (.aload_n 0, 1) := dk_42 (dk_at dksX3_has_0 15 rfl rfl)
theorem dX3_has_16 : decode cX3_has 16 = .ok (.getfield 25, 3) := dk_180 0 25 (dk_at dksX3_has_0 16 rfl rfl)
theorem dX3_has_19 : decode cX3_has 19 = .ok (.iload 5, 2) := dk_21 5 (dk_at dksX3_has_0 19 rfl rfl)
theorem dX3_has_21 : decode cX3_has 21 = .ok (.iaload, 1) := dk_46 (dk_at dksX3_has_0 21 rfl rfl)
theorem dX3_has_22 : decode cX3_has 22 = .ok (.iload_n 1, 1) := dk_27 (dk_at dksX3_has_0 22 rfl rfl)
theorem dX3_has_23 : decode cX3_has 23 = .ok (.if_icmp .ne 34, 3) := dk_160 0 34 (dk_at dksX3_has_1 0 rfl rfl)
theorem dX3_has_26 : decode cX3_has 26 = .ok (.aload_n 0, 1) := dk_42 (dk_at dksX3_has_1 3 rfl rfl)
theorem dX3_has_27 : decode cX3_has 27 = .ok (.getfield 28, 3) := dk_180 0 28 (dk_at dksX3_has_1 4 rfl rfl)
theorem dX3_has_30 : decode cX3_has 30 = .ok (.iload 5, 2) := dk_21 5 (dk_at dksX3_has_1 7 rfl rfl)
theorem dX3_has_32 : decode cX3_has 32 = .ok (.iaload, 1) := dk_46 (dk_at dksX3_has_1 9 rfl rfl)
theorem dX3_has_33 : decode cX3_has 33 = .ok (.iload_n 2, 1) := dk_28 (dk_at dksX3_has_1 10 rfl rfl)
theorem dX3_has_34 : decode cX3_has 34 = .ok (.if_icmp .ne 23, 3) := dk_160 0 23 (dk_at dksX3_has_1 11 rfl rfl)
theorem dX3_has_37 : decode cX3_has 37 = .ok (.aload_n 0, 1) := dk_42 (dk_at dksX3_has_1 14 rfl rfl)
theorem dX3_has_38 : decode cX3_has 38 = .ok (.getfield 31, 3) := dk_180 0 31 (dk_at dksX3_has_1 15 rfl rfl)
theorem dX3_has_41 : decode cX3_has 41 = .ok (.iload 5, 2) := dk_21 5 (dk_at dksX3_has_1 18 rfl rfl)
theorem dX3_has_43 : decode cX3_has 43 = .ok (.iaload, 1) := dk_46 (dk_at dksX3_has_1 20 rfl rfl)
theorem dX3_has_44 : decode cX3_has 44 = .ok (.iload_n 3, 1) := dk_29 (dk_at dksX3_has_1 21 rfl rfl)
theorem dX3_has_45 : decode cX3_has 45 = .ok (.if_icmp .gt 12, 3) := dk_163 0 12 (dk_at dksX3_has_2 0 rfl rfl)
theorem dX3_has_48 : decode cX3_has 48 = .ok (.aload_n 0, 1) := dk_42 (dk_at dksX3_has_2 3 rfl rfl)
theorem dX3_has_49 : decode cX3_has 49 = .ok (.getfield 34, 3) := dk_180 0 34 (dk_at dksX3_has_2 4 rfl rfl)
theorem dX3_has_52 : decode cX3_has 52 = .ok (.iload 5, 2) := dk_21 5 (dk_at dksX3_has_2 7 rfl rfl)
theorem dX3_has_54 : decode cX3_has 54 = .ok (.baload, 1) := dk_51 (dk_at dksX3_has_2 9 rfl rfl)
theorem dX3_has_55 : decode cX3_has 55 = .ok (.istore 4, 2) := dk_54 4 (dk_at dksX3_has_2 10 rfl rfl)
theorem dX3_has_57 : decode cX3_has 57 = .ok (.iinc 5 1, 3) := dk_132 5 1 (dk_at dksX3_has_2 12 rfl rfl)
theorem dX3_has_60 : decode cX3_has 60 = .ok (.goto (-54), 3) := dk_167 255 202 (dk_at dksX3_has_2 15 rfl rfl)
theorem dX3_has_63 : decode cX3_has 63 = .ok (.iload 4, 2) := dk_21 4 (dk_at dksX3_has_2 18 rfl rfl)
theorem dX3_has_65 : decode cX3_has 65 = .ok (.ireturn, 1) := dk_172 (dk_at dksX3_has_2 20 rfl rfl)
abbrev cX3_take : ByteArray := prog_22_method_25_code
def yX3_take : MethodName := ⟨RX3, "take", "(II)Z"⟩
def dkwX3_take_0 : List UInt8 := [42, 27, 28, 3, 182, 0, 232, 172]
abbrev dktX3_take_0 : List UInt8 := dkwX3_take_0 ++ []
theorem dksX3_take_0 : cX3_take.data.toList.drop 0 = dktX3_take_0 := by decide +kernel
theorem dX3_take_0 : decode cX3_take 0 = .ok (.aload_n 0, 1) := dk_42 (dk_at dksX3_take_0 0 rfl rfl)
theorem dX3_take_1 : decode cX3_take 1 = .ok (.iload_n 1, 1) := dk_27 (dk_at dksX3_take_0 1 rfl rfl)
theorem dX3_take_2 : decode cX3_take 2 = .ok (.iload_n 2, 1) := dk_28 (dk_at dksX3_take_0 2 rfl rfl)
theorem dX3_take_3 : decode cX3_take 3 = .ok (.iconst 0, 1) := dk_3 (dk_at dksX3_take_0 3 rfl rfl)
theorem dX3_take_4 : decode cX3_take 4 = .ok (.invokevirtual 232, 3) := dk_182 0 232 (dk_at dksX3_take_0 4 rfl rfl)
theorem dX3_take_7 : decode cX3_take 7 = .ok (.ireturn, 1) := dk_172 (dk_at dksX3_take_0 7 rfl rfl)
abbrev cX3_wrap : ByteArray := prog_22_method_26_code
def yX3_wrap : MethodName := ⟨RX3, "wrap", "(II)I"⟩
def dkwX3_wrap_4 : List UInt8 := [180, 0, 236, 4, 100, 172]
abbrev dktX3_wrap_4 : List UInt8 := dkwX3_wrap_4 ++ []
def dkwX3_wrap_3 : List UInt8 := [180, 0, 54, 42, 180, 0, 236, 17, 39, 15, 79, 42, 89, 180, 0, 236, 4, 96, 181, 0, 236, 42]
abbrev dktX3_wrap_3 : List UInt8 := dkwX3_wrap_3 ++ dktX3_wrap_4
def dkwX3_wrap_2 : List UInt8 := [180, 0, 48, 42, 180, 0, 236, 28, 79, 42, 180, 0, 51, 42, 180, 0, 236, 42, 180, 0, 185, 79, 42]
abbrev dktX3_wrap_2 : List UInt8 := dkwX3_wrap_2 ++ dktX3_wrap_3
def dkwX3_wrap_1 : List UInt8 := [182, 0, 216, 153, 0, 8, 27, 28, 160, 0, 5, 2, 172, 42, 180, 0, 45, 42, 180, 0, 236, 27, 79, 42]
abbrev dktX3_wrap_1 : List UInt8 := dkwX3_wrap_1 ++ dktX3_wrap_2
def dkwX3_wrap_0 : List UInt8 := [42, 3, 181, 0, 181, 42, 180, 0, 236, 16, 40, 159, 0, 24, 42, 27, 182, 0, 216, 153, 0, 16, 42, 28]
abbrev dktX3_wrap_0 : List UInt8 := dkwX3_wrap_0 ++ dktX3_wrap_1
theorem dksX3_wrap_0 : cX3_wrap.data.toList.drop 0 = dktX3_wrap_0 := by decide +kernel
theorem dksX3_wrap_1 : cX3_wrap.data.toList.drop 24 = dktX3_wrap_1 := dk_seg dksX3_wrap_0 24 rfl rfl
theorem dksX3_wrap_2 : cX3_wrap.data.toList.drop 48 = dktX3_wrap_2 := dk_seg dksX3_wrap_1 24 rfl rfl
theorem dksX3_wrap_3 : cX3_wrap.data.toList.drop 71 = dktX3_wrap_3 := dk_seg dksX3_wrap_2 23 rfl rfl
theorem dksX3_wrap_4 : cX3_wrap.data.toList.drop 93 = dktX3_wrap_4 := dk_seg dksX3_wrap_3 22 rfl rfl
theorem dX3_wrap_0 : decode cX3_wrap 0 = .ok (.aload_n 0, 1) := dk_42 (dk_at dksX3_wrap_0 0 rfl rfl)
theorem dX3_wrap_1 : decode cX3_wrap 1 = .ok (.iconst 0, 1) := dk_3 (dk_at dksX3_wrap_0 1 rfl rfl)
theorem dX3_wrap_2 : decode cX3_wrap 2 = .ok (.putfield 181, 3) := dk_181 0 181 (dk_at dksX3_wrap_0 2 rfl rfl)
theorem dX3_wrap_5 : decode cX3_wrap 5 = .ok (.aload_n 0, 1) := dk_42 (dk_at dksX3_wrap_0 5 rfl rfl)
theorem dX3_wrap_6 : decode cX3_wrap 6 = .ok (.getfield 236, 3) := dk_180 0 236 (dk_at dksX3_wrap_0 6 rfl rfl)
theorem dX3_wrap_9 : decode cX3_wrap 9 = .ok (.bipush 40, 2) := dk_16 40 (dk_at dksX3_wrap_0 9 rfl rfl)
theorem dX3_wrap_11 : decode cX3_wrap 11 = .ok (.if_icmp .eq 24, 3) := dk_159 0 24 (dk_at dksX3_wrap_0 11 rfl rfl)
theorem dX3_wrap_14 : decode cX3_wrap 14 = .ok (.aload_n 0, 1) := dk_42 (dk_at dksX3_wrap_0 14 rfl rfl)
theorem dX3_wrap_15 : decode cX3_wrap 15 = .ok (.iload_n 1, 1) := dk_27 (dk_at dksX3_wrap_0 15 rfl rfl)
theorem dX3_wrap_16 : decode cX3_wrap 16 = .ok (.invokevirtual 216, 3) := dk_182 0 216 (dk_at dksX3_wrap_0 16 rfl rfl)
theorem dX3_wrap_19 : decode cX3_wrap 19 = .ok (.ifCond .eq 16, 3) := dk_153 0 16 (dk_at dksX3_wrap_0 19 rfl rfl)
theorem dX3_wrap_22 : decode cX3_wrap 22 = .ok (.aload_n 0, 1) := dk_42 (dk_at dksX3_wrap_0 22 rfl rfl)
theorem dX3_wrap_23 : decode cX3_wrap 23 = .ok (.iload_n 2, 1) := dk_28 (dk_at dksX3_wrap_0 23 rfl rfl)
theorem dX3_wrap_24 : decode cX3_wrap 24 = .ok (.invokevirtual 216, 3) := dk_182 0 216 (dk_at dksX3_wrap_1 0 rfl rfl)
theorem dX3_wrap_27 : decode cX3_wrap 27 = .ok (.ifCond .eq 8, 3) := dk_153 0 8 (dk_at dksX3_wrap_1 3 rfl rfl)
theorem dX3_wrap_30 : decode cX3_wrap 30 = .ok (.iload_n 1, 1) := dk_27 (dk_at dksX3_wrap_1 6 rfl rfl)
theorem dX3_wrap_31 : decode cX3_wrap 31 = .ok (.iload_n 2, 1) := dk_28 (dk_at dksX3_wrap_1 7 rfl rfl)
theorem dX3_wrap_32 : decode cX3_wrap 32 = .ok (.if_icmp .ne 5, 3) := dk_160 0 5 (dk_at dksX3_wrap_1 8 rfl rfl)
theorem dX3_wrap_35 : decode cX3_wrap 35 = .ok (.iconst (-1), 1) := dk_2 (dk_at dksX3_wrap_1 11 rfl rfl)
theorem dX3_wrap_36 : decode cX3_wrap 36 = .ok (.ireturn, 1) := dk_172 (dk_at dksX3_wrap_1 12 rfl rfl)
theorem dX3_wrap_37 : decode cX3_wrap 37 = .ok (.aload_n 0, 1) := dk_42 (dk_at dksX3_wrap_1 13 rfl rfl)
theorem dX3_wrap_38 : decode cX3_wrap 38 = .ok (.getfield 45, 3) := dk_180 0 45 (dk_at dksX3_wrap_1 14 rfl rfl)
theorem dX3_wrap_41 : decode cX3_wrap 41 = .ok (.aload_n 0, 1) := dk_42 (dk_at dksX3_wrap_1 17 rfl rfl)
theorem dX3_wrap_42 : decode cX3_wrap 42 = .ok (.getfield 236, 3) := dk_180 0 236 (dk_at dksX3_wrap_1 18 rfl rfl)
theorem dX3_wrap_45 : decode cX3_wrap 45 = .ok (.iload_n 1, 1) := dk_27 (dk_at dksX3_wrap_1 21 rfl rfl)
theorem dX3_wrap_46 : decode cX3_wrap 46 = .ok (.iastore, 1) := dk_79 (dk_at dksX3_wrap_1 22 rfl rfl)
theorem dX3_wrap_47 : decode cX3_wrap 47 = .ok (.aload_n 0, 1) := dk_42 (dk_at dksX3_wrap_1 23 rfl rfl)
theorem dX3_wrap_48 : decode cX3_wrap 48 = .ok (.getfield 48, 3) := dk_180 0 48 (dk_at dksX3_wrap_2 0 rfl rfl)
theorem dX3_wrap_51 : decode cX3_wrap 51 = .ok (.aload_n 0, 1) := dk_42 (dk_at dksX3_wrap_2 3 rfl rfl)
theorem dX3_wrap_52 : decode cX3_wrap 52 = .ok (.getfield 236, 3) := dk_180 0 236 (dk_at dksX3_wrap_2 4 rfl rfl)
theorem dX3_wrap_55 : decode cX3_wrap 55 = .ok (.iload_n 2, 1) := dk_28 (dk_at dksX3_wrap_2 7 rfl rfl)
theorem dX3_wrap_56 : decode cX3_wrap 56 = .ok (.iastore, 1) := dk_79 (dk_at dksX3_wrap_2 8 rfl rfl)
theorem dX3_wrap_57 : decode cX3_wrap 57 = .ok (.aload_n 0, 1) := dk_42 (dk_at dksX3_wrap_2 9 rfl rfl)
theorem dX3_wrap_58 : decode cX3_wrap 58 = .ok (.getfield 51, 3) := dk_180 0 51 (dk_at dksX3_wrap_2 10 rfl rfl)
theorem dX3_wrap_61 : decode cX3_wrap 61 = .ok (.aload_n 0, 1) := dk_42 (dk_at dksX3_wrap_2 13 rfl rfl)
theorem dX3_wrap_62 : decode cX3_wrap 62 = .ok (.getfield 236, 3) := dk_180 0 236 (dk_at dksX3_wrap_2 14 rfl rfl)
theorem dX3_wrap_65 : decode cX3_wrap 65 = .ok (.aload_n 0, 1) := dk_42 (dk_at dksX3_wrap_2 17 rfl rfl)
theorem dX3_wrap_66 : decode cX3_wrap 66 = .ok (.getfield 185, 3) := dk_180 0 185 (dk_at dksX3_wrap_2 18 rfl rfl)
theorem dX3_wrap_69 : decode cX3_wrap 69 = .ok (.iastore, 1) := dk_79 (dk_at dksX3_wrap_2 21 rfl rfl)
theorem dX3_wrap_70 : decode cX3_wrap 70 = .ok (.aload_n 0, 1) := dk_42 (dk_at dksX3_wrap_2 22 rfl rfl)
theorem dX3_wrap_71 : decode cX3_wrap 71 = .ok (.getfield 54, 3) := dk_180 0 54 (dk_at dksX3_wrap_3 0 rfl rfl)
theorem dX3_wrap_74 : decode cX3_wrap 74 = .ok (.aload_n 0, 1) := dk_42 (dk_at dksX3_wrap_3 3 rfl rfl)
theorem dX3_wrap_75 : decode cX3_wrap 75 = .ok (.getfield 236, 3) := dk_180 0 236 (dk_at dksX3_wrap_3 4 rfl rfl)
theorem dX3_wrap_78 : decode cX3_wrap 78 = .ok (.sipush 9999, 3) := dk_17 39 15 (dk_at dksX3_wrap_3 7 rfl rfl)
theorem dX3_wrap_81 : decode cX3_wrap 81 = .ok (.iastore, 1) := dk_79 (dk_at dksX3_wrap_3 10 rfl rfl)
theorem dX3_wrap_82 : decode cX3_wrap 82 = .ok (.aload_n 0, 1) := dk_42 (dk_at dksX3_wrap_3 11 rfl rfl)
theorem dX3_wrap_83 : decode cX3_wrap 83 = .ok (.dup, 1) := dk_89 (dk_at dksX3_wrap_3 12 rfl rfl)
theorem dX3_wrap_84 : decode cX3_wrap 84 = .ok (.getfield 236, 3) := dk_180 0 236 (dk_at dksX3_wrap_3 13 rfl rfl)
theorem dX3_wrap_87 : decode cX3_wrap 87 = .ok (.iconst 1, 1) := dk_4 (dk_at dksX3_wrap_3 16 rfl rfl)
theorem dX3_wrap_88 : decode cX3_wrap 88 = .ok (.iadd, 1) := dk_96 (dk_at dksX3_wrap_3 17 rfl rfl)
theorem dX3_wrap_89 : decode cX3_wrap 89 = .ok (.putfield 236, 3) := dk_181 0 236 (dk_at dksX3_wrap_3 18 rfl rfl)
theorem dX3_wrap_92 : decode cX3_wrap 92 = .ok (.aload_n 0, 1) := dk_42 (dk_at dksX3_wrap_3 21 rfl rfl)
theorem dX3_wrap_93 : decode cX3_wrap 93 = .ok (.getfield 236, 3) := dk_180 0 236 (dk_at dksX3_wrap_4 0 rfl rfl)
theorem dX3_wrap_96 : decode cX3_wrap 96 = .ok (.iconst 1, 1) := dk_4 (dk_at dksX3_wrap_4 3 rfl rfl)
theorem dX3_wrap_97 : decode cX3_wrap 97 = .ok (.isub, 1) := dk_100 (dk_at dksX3_wrap_4 4 rfl rfl)
theorem dX3_wrap_98 : decode cX3_wrap 98 = .ok (.ireturn, 1) := dk_172 (dk_at dksX3_wrap_4 5 rfl rfl)
abbrev cX3_cut : ByteArray := prog_22_method_27_code
def yX3_cut : MethodName := ⟨RX3, "cut", "(I)Z"⟩
def dkwX3_cut_1 : List UInt8 := [46, 17, 39, 15, 159, 0, 5, 3, 172, 42, 180, 0, 54, 27, 42, 180, 0, 185, 79, 4, 172]
abbrev dktX3_cut_1 : List UInt8 := dkwX3_cut_1 ++ []
def dkwX3_cut_0 : List UInt8 := [42, 3, 181, 0, 181, 27, 3, 42, 180, 0, 236, 4, 100, 184, 0, 188, 153, 0, 15, 42, 180, 0, 54, 27]
abbrev dktX3_cut_0 : List UInt8 := dkwX3_cut_0 ++ dktX3_cut_1
theorem dksX3_cut_0 : cX3_cut.data.toList.drop 0 = dktX3_cut_0 := by decide +kernel
theorem dksX3_cut_1 : cX3_cut.data.toList.drop 24 = dktX3_cut_1 := dk_seg dksX3_cut_0 24 rfl rfl
theorem dX3_cut_0 : decode cX3_cut 0 = .ok (.aload_n 0, 1) := dk_42 (dk_at dksX3_cut_0 0 rfl rfl)
theorem dX3_cut_1 : decode cX3_cut 1 = .ok (.iconst 0, 1) := dk_3 (dk_at dksX3_cut_0 1 rfl rfl)
theorem dX3_cut_2 : decode cX3_cut 2 = .ok (.putfield 181, 3) := dk_181 0 181 (dk_at dksX3_cut_0 2 rfl rfl)
theorem dX3_cut_5 : decode cX3_cut 5 = .ok (.iload_n 1, 1) := dk_27 (dk_at dksX3_cut_0 5 rfl rfl)
theorem dX3_cut_6 : decode cX3_cut 6 = .ok (.iconst 0, 1) := dk_3 (dk_at dksX3_cut_0 6 rfl rfl)
theorem dX3_cut_7 : decode cX3_cut 7 = .ok (.aload_n 0, 1) := dk_42 (dk_at dksX3_cut_0 7 rfl rfl)
theorem dX3_cut_8 : decode cX3_cut 8 = .ok (.getfield 236, 3) := dk_180 0 236 (dk_at dksX3_cut_0 8 rfl rfl)
theorem dX3_cut_11 : decode cX3_cut 11 = .ok (.iconst 1, 1) := dk_4 (dk_at dksX3_cut_0 11 rfl rfl)
theorem dX3_cut_12 : decode cX3_cut 12 = .ok (.isub, 1) := dk_100 (dk_at dksX3_cut_0 12 rfl rfl)
theorem dX3_cut_13 : decode cX3_cut 13 = .ok (.invokestatic 188, 3) := dk_184 0 188 (dk_at dksX3_cut_0 13 rfl rfl)
theorem dX3_cut_16 : decode cX3_cut 16 = .ok (.ifCond .eq 15, 3) := dk_153 0 15 (dk_at dksX3_cut_0 16 rfl rfl)
theorem dX3_cut_19 : decode cX3_cut 19 = .ok (.aload_n 0, 1) := dk_42 (dk_at dksX3_cut_0 19 rfl rfl)
theorem dX3_cut_20 : decode cX3_cut 20 = .ok (.getfield 54, 3) := dk_180 0 54 (dk_at dksX3_cut_0 20 rfl rfl)
theorem dX3_cut_23 : decode cX3_cut 23 = .ok (.iload_n 1, 1) := dk_27 (dk_at dksX3_cut_0 23 rfl rfl)
theorem dX3_cut_24 : decode cX3_cut 24 = .ok (.iaload, 1) := dk_46 (dk_at dksX3_cut_1 0 rfl rfl)
theorem dX3_cut_25 : decode cX3_cut 25 = .ok (.sipush 9999, 3) := dk_17 39 15 (dk_at dksX3_cut_1 1 rfl rfl)
theorem dX3_cut_28 : decode cX3_cut 28 = .ok (.if_icmp .eq 5, 3) := dk_159 0 5 (dk_at dksX3_cut_1 4 rfl rfl)
theorem dX3_cut_31 : decode cX3_cut 31 = .ok (.iconst 0, 1) := dk_3 (dk_at dksX3_cut_1 7 rfl rfl)
theorem dX3_cut_32 : decode cX3_cut 32 = .ok (.ireturn, 1) := dk_172 (dk_at dksX3_cut_1 8 rfl rfl)
theorem dX3_cut_33 : decode cX3_cut 33 = .ok (.aload_n 0, 1) := dk_42 (dk_at dksX3_cut_1 9 rfl rfl)
theorem dX3_cut_34 : decode cX3_cut 34 = .ok (.getfield 54, 3) := dk_180 0 54 (dk_at dksX3_cut_1 10 rfl rfl)
theorem dX3_cut_37 : decode cX3_cut 37 = .ok (.iload_n 1, 1) := dk_27 (dk_at dksX3_cut_1 13 rfl rfl)
theorem dX3_cut_38 : decode cX3_cut 38 = .ok (.aload_n 0, 1) := dk_42 (dk_at dksX3_cut_1 14 rfl rfl)
theorem dX3_cut_39 : decode cX3_cut 39 = .ok (.getfield 185, 3) := dk_180 0 185 (dk_at dksX3_cut_1 15 rfl rfl)
theorem dX3_cut_42 : decode cX3_cut 42 = .ok (.iastore, 1) := dk_79 (dk_at dksX3_cut_1 18 rfl rfl)
theorem dX3_cut_43 : decode cX3_cut 43 = .ok (.iconst 1, 1) := dk_4 (dk_at dksX3_cut_1 19 rfl rfl)
theorem dX3_cut_44 : decode cX3_cut 44 = .ok (.ireturn, 1) := dk_172 (dk_at dksX3_cut_1 20 rfl rfl)
abbrev cX3_part : ByteArray := prog_22_method_31_code
def yX3_part : MethodName := ⟨RX3, "part", "(IIIJ)I"⟩
def dkwX3_part_2 : List UInt8 := [22, 4, 182, 1, 7, 167, 0, 4, 2, 172]
abbrev dktX3_part_2 : List UInt8 := dkwX3_part_2 ++ []
def dkwX3_part_1 : List UInt8 := [4, 182, 0, 254, 153, 0, 27, 29, 4, 28, 184, 1, 2, 184, 0, 188, 153, 0, 15, 42, 27, 28, 29]
abbrev dktX3_part_1 : List UInt8 := dkwX3_part_1 ++ dktX3_part_2
def dkwX3_part_0 : List UInt8 := [42, 3, 181, 0, 181, 42, 180, 0, 243, 16, 40, 162, 0, 44, 42, 27, 182, 0, 216, 153, 0, 36, 42, 28]
abbrev dktX3_part_0 : List UInt8 := dkwX3_part_0 ++ dktX3_part_1
theorem dksX3_part_0 : cX3_part.data.toList.drop 0 = dktX3_part_0 := by decide +kernel
theorem dksX3_part_1 : cX3_part.data.toList.drop 24 = dktX3_part_1 := dk_seg dksX3_part_0 24 rfl rfl
theorem dksX3_part_2 : cX3_part.data.toList.drop 47 = dktX3_part_2 := dk_seg dksX3_part_1 23 rfl rfl
theorem dX3_part_0 : decode cX3_part 0 = .ok (.aload_n 0, 1) := dk_42 (dk_at dksX3_part_0 0 rfl rfl)
theorem dX3_part_1 : decode cX3_part 1 = .ok (.iconst 0, 1) := dk_3 (dk_at dksX3_part_0 1 rfl rfl)
theorem dX3_part_2 : decode cX3_part 2 = .ok (.putfield 181, 3) := dk_181 0 181 (dk_at dksX3_part_0 2 rfl rfl)
theorem dX3_part_5 : decode cX3_part 5 = .ok (.aload_n 0, 1) := dk_42 (dk_at dksX3_part_0 5 rfl rfl)
theorem dX3_part_6 : decode cX3_part 6 = .ok (.getfield 243, 3) := dk_180 0 243 (dk_at dksX3_part_0 6 rfl rfl)
theorem dX3_part_9 : decode cX3_part 9 = .ok (.bipush 40, 2) := dk_16 40 (dk_at dksX3_part_0 9 rfl rfl)
theorem dX3_part_11 : decode cX3_part 11 = .ok (.if_icmp .ge 44, 3) := dk_162 0 44 (dk_at dksX3_part_0 11 rfl rfl)
theorem dX3_part_14 : decode cX3_part 14 = .ok (.aload_n 0, 1) := dk_42 (dk_at dksX3_part_0 14 rfl rfl)
theorem dX3_part_15 : decode cX3_part 15 = .ok (.iload_n 1, 1) := dk_27 (dk_at dksX3_part_0 15 rfl rfl)
theorem dX3_part_16 : decode cX3_part 16 = .ok (.invokevirtual 216, 3) := dk_182 0 216 (dk_at dksX3_part_0 16 rfl rfl)
theorem dX3_part_19 : decode cX3_part 19 = .ok (.ifCond .eq 36, 3) := dk_153 0 36 (dk_at dksX3_part_0 19 rfl rfl)
theorem dX3_part_22 : decode cX3_part 22 = .ok (.aload_n 0, 1) := dk_42 (dk_at dksX3_part_0 22 rfl rfl)
theorem dX3_part_23 : decode cX3_part 23 = .ok (.iload_n 2, 1) := dk_28 (dk_at dksX3_part_0 23 rfl rfl)
theorem dX3_part_24 : decode cX3_part 24 = .ok (.iconst 1, 1) := dk_4 (dk_at dksX3_part_1 0 rfl rfl)
theorem dX3_part_25 : decode cX3_part 25 = .ok (.invokevirtual 254, 3) := dk_182 0 254 (dk_at dksX3_part_1 1 rfl rfl)
theorem dX3_part_28 : decode cX3_part 28 = .ok (.ifCond .eq 27, 3) := dk_153 0 27 (dk_at dksX3_part_1 4 rfl rfl)
theorem dX3_part_31 : decode cX3_part 31 = .ok (.iload_n 3, 1) := dk_29 (dk_at dksX3_part_1 7 rfl rfl)
theorem dX3_part_32 : decode cX3_part 32 = .ok (.iconst 1, 1) := dk_4 (dk_at dksX3_part_1 8 rfl rfl)
theorem dX3_part_33 : decode cX3_part 33 = .ok (.iload_n 2, 1) := dk_28 (dk_at dksX3_part_1 9 rfl rfl)
theorem dX3_part_34 : decode cX3_part 34 = .ok (.invokestatic 258, 3) := dk_184 1 2 (dk_at dksX3_part_1 10 rfl rfl)
theorem dX3_part_37 : decode cX3_part 37 = .ok (.invokestatic 188, 3) := dk_184 0 188 (dk_at dksX3_part_1 13 rfl rfl)
theorem dX3_part_40 : decode cX3_part 40 = .ok (.ifCond .eq 15, 3) := dk_153 0 15 (dk_at dksX3_part_1 16 rfl rfl)
theorem dX3_part_43 : decode cX3_part 43 = .ok (.aload_n 0, 1) := dk_42 (dk_at dksX3_part_1 19 rfl rfl)
theorem dX3_part_44 : decode cX3_part 44 = .ok (.iload_n 1, 1) := dk_27 (dk_at dksX3_part_1 20 rfl rfl)
theorem dX3_part_45 : decode cX3_part 45 = .ok (.iload_n 2, 1) := dk_28 (dk_at dksX3_part_1 21 rfl rfl)
theorem dX3_part_46 : decode cX3_part 46 = .ok (.iload_n 3, 1) := dk_29 (dk_at dksX3_part_1 22 rfl rfl)
theorem dX3_part_47 : decode cX3_part 47 = .ok (.lload 4, 2) := dk_22 4 (dk_at dksX3_part_2 0 rfl rfl)
theorem dX3_part_49 : decode cX3_part 49 = .ok (.invokevirtual 263, 3) := dk_182 1 7 (dk_at dksX3_part_2 2 rfl rfl)
theorem dX3_part_52 : decode cX3_part 52 = .ok (.goto 4, 3) := dk_167 0 4 (dk_at dksX3_part_2 5 rfl rfl)
theorem dX3_part_55 : decode cX3_part 55 = .ok (.iconst (-1), 1) := dk_2 (dk_at dksX3_part_2 8 rfl rfl)
theorem dX3_part_56 : decode cX3_part 56 = .ok (.ireturn, 1) := dk_172 (dk_at dksX3_part_2 9 rfl rfl)
abbrev cX3_areHolders : ByteArray := prog_22_method_12_code
def yX3_areHolders : MethodName := ⟨RX3, "areHolders", "(II)Z"⟩
def dkwX3_areHolders_0 : List UInt8 := [27, 28, 161, 0, 17, 27, 4, 42, 180, 0, 196, 120, 162, 0, 7, 4, 167, 0, 4, 3, 172]
abbrev dktX3_areHolders_0 : List UInt8 := dkwX3_areHolders_0 ++ []
theorem dksX3_areHolders_0 : cX3_areHolders.data.toList.drop 0 = dktX3_areHolders_0 := by decide +kernel
theorem dX3_areHolders_0 : decode cX3_areHolders 0 = .ok (.iload_n 1, 1) := dk_27 (dk_at dksX3_areHolders_0 0 rfl rfl)
theorem dX3_areHolders_1 : decode cX3_areHolders 1 = .ok (.iload_n 2, 1) := dk_28 (dk_at dksX3_areHolders_0 1 rfl rfl)
theorem dX3_areHolders_2 : decode cX3_areHolders 2 = .ok (.if_icmp .lt 17, 3) := dk_161 0 17 (dk_at dksX3_areHolders_0 2 rfl rfl)
theorem dX3_areHolders_5 : decode cX3_areHolders 5 = .ok (.iload_n 1, 1) := dk_27 (dk_at dksX3_areHolders_0 5 rfl rfl)
theorem dX3_areHolders_6 : decode cX3_areHolders 6 = .ok (.iconst 1, 1) := dk_4 (dk_at dksX3_areHolders_0 6 rfl rfl)
theorem dX3_areHolders_7 : decode cX3_areHolders 7 = .ok (.aload_n 0, 1) := dk_42 (dk_at dksX3_areHolders_0 7 rfl rfl)
theorem dX3_areHolders_8 : decode cX3_areHolders 8 = .ok (.getfield 196, 3) := dk_180 0 196 (dk_at dksX3_areHolders_0 8 rfl rfl)
theorem dX3_areHolders_11 : decode cX3_areHolders 11 = .ok (.ishl, 1) := dk_120 (dk_at dksX3_areHolders_0 11 rfl rfl)
theorem dX3_areHolders_12 : decode cX3_areHolders 12 = .ok (.if_icmp .ge 7, 3) := dk_162 0 7 (dk_at dksX3_areHolders_0 12 rfl rfl)
theorem dX3_areHolders_15 : decode cX3_areHolders 15 = .ok (.iconst 1, 1) := dk_4 (dk_at dksX3_areHolders_0 15 rfl rfl)
theorem dX3_areHolders_16 : decode cX3_areHolders 16 = .ok (.goto 4, 3) := dk_167 0 4 (dk_at dksX3_areHolders_0 16 rfl rfl)
theorem dX3_areHolders_19 : decode cX3_areHolders 19 = .ok (.iconst 0, 1) := dk_3 (dk_at dksX3_areHolders_0 19 rfl rfl)
theorem dX3_areHolders_20 : decode cX3_areHolders 20 = .ok (.ireturn, 1) := dk_172 (dk_at dksX3_areHolders_0 20 rfl rfl)
abbrev cX3_parted : ByteArray := prog_22_method_30_code
def yX3_parted : MethodName := ⟨RX3, "parted", "(IIIJ)I"⟩
def dkwX3_parted_5 : List UInt8 := [89, 180, 0, 243, 4, 96, 181, 0, 243, 21, 6, 172]
abbrev dktX3_parted_5 : List UInt8 := dkwX3_parted_5 ++ []
def dkwX3_parted_4 : List UInt8 := [16, 12, 21, 6, 104, 21, 9, 96, 22, 7, 17, 3, 251, 184, 0, 250, 79, 132, 9, 1, 167, 255, 219, 42]
abbrev dktX3_parted_4 : List UInt8 := dkwX3_parted_4 ++ dktX3_parted_5
def dkwX3_parted_3 : List UInt8 := [22, 4, 55, 7, 4, 54, 9, 21, 9, 29, 162, 0, 37, 22, 7, 184, 0, 246, 55, 7, 42, 180, 0, 72]
abbrev dktX3_parted_3 : List UInt8 := dkwX3_parted_3 ++ dktX3_parted_4
def dkwX3_parted_2 : List UInt8 := [17, 39, 15, 79, 42, 180, 0, 72, 16, 12, 21, 6, 104, 42, 180, 0, 13, 27, 46, 17, 3, 251, 112, 79]
abbrev dktX3_parted_2 : List UInt8 := dkwX3_parted_2 ++ dktX3_parted_3
def dkwX3_parted_1 : List UInt8 := [180, 0, 63, 21, 6, 29, 79, 42, 180, 0, 66, 21, 6, 42, 180, 0, 185, 79, 42, 180, 0, 69, 21, 6]
abbrev dktX3_parted_1 : List UInt8 := dkwX3_parted_1 ++ dktX3_parted_2
def dkwX3_parted_0 : List UInt8 := [42, 180, 0, 243, 54, 6, 42, 180, 0, 57, 21, 6, 27, 79, 42, 180, 0, 60, 21, 6, 28, 79, 42]
abbrev dktX3_parted_0 : List UInt8 := dkwX3_parted_0 ++ dktX3_parted_1
theorem dksX3_parted_0 : cX3_parted.data.toList.drop 0 = dktX3_parted_0 := by decide +kernel
theorem dksX3_parted_1 : cX3_parted.data.toList.drop 23 = dktX3_parted_1 := dk_seg dksX3_parted_0 23 rfl rfl
theorem dksX3_parted_2 : cX3_parted.data.toList.drop 47 = dktX3_parted_2 := dk_seg dksX3_parted_1 24 rfl rfl
theorem dksX3_parted_3 : cX3_parted.data.toList.drop 71 = dktX3_parted_3 := dk_seg dksX3_parted_2 24 rfl rfl
theorem dksX3_parted_4 : cX3_parted.data.toList.drop 95 = dktX3_parted_4 := dk_seg dksX3_parted_3 24 rfl rfl
theorem dksX3_parted_5 : cX3_parted.data.toList.drop 119 = dktX3_parted_5 := dk_seg dksX3_parted_4 24 rfl rfl
theorem dX3_parted_0 : decode cX3_parted 0 = .ok (.aload_n 0, 1) := dk_42 (dk_at dksX3_parted_0 0 rfl rfl)
theorem dX3_parted_1 : decode cX3_parted 1 = .ok (.getfield 243, 3) := dk_180 0 243 (dk_at dksX3_parted_0 1 rfl rfl)
theorem dX3_parted_4 : decode cX3_parted 4 = .ok (.istore 6, 2) := dk_54 6 (dk_at dksX3_parted_0 4 rfl rfl)
theorem dX3_parted_6 : decode cX3_parted 6 = .ok (.aload_n 0, 1) := dk_42 (dk_at dksX3_parted_0 6 rfl rfl)
theorem dX3_parted_7 : decode cX3_parted 7 = .ok (.getfield 57, 3) := dk_180 0 57 (dk_at dksX3_parted_0 7 rfl rfl)
theorem dX3_parted_10 : decode cX3_parted 10 = .ok (.iload 6, 2) := dk_21 6 (dk_at dksX3_parted_0 10 rfl rfl)
theorem dX3_parted_12 : decode cX3_parted 12 = .ok (.iload_n 1, 1) := dk_27 (dk_at dksX3_parted_0 12 rfl rfl)
theorem dX3_parted_13 : decode cX3_parted 13 = .ok (.iastore, 1) := dk_79 (dk_at dksX3_parted_0 13 rfl rfl)
theorem dX3_parted_14 : decode cX3_parted 14 = .ok (.aload_n 0, 1) := dk_42 (dk_at dksX3_parted_0 14 rfl rfl)
theorem dX3_parted_15 : decode cX3_parted 15 = .ok (.getfield 60, 3) := dk_180 0 60 (dk_at dksX3_parted_0 15 rfl rfl)
theorem dX3_parted_18 : decode cX3_parted 18 = .ok (.iload 6, 2) := dk_21 6 (dk_at dksX3_parted_0 18 rfl rfl)
theorem dX3_parted_20 : decode cX3_parted 20 = .ok (.iload_n 2, 1) := dk_28 (dk_at dksX3_parted_0 20 rfl rfl)
theorem dX3_parted_21 : decode cX3_parted 21 = .ok (.iastore, 1) := dk_79 (dk_at dksX3_parted_0 21 rfl rfl)
theorem dX3_parted_22 : decode cX3_parted 22 = .ok (.aload_n 0, 1) := dk_42 (dk_at dksX3_parted_0 22 rfl rfl)
theorem dX3_parted_23 : decode cX3_parted 23 = .ok (.getfield 63, 3) := dk_180 0 63 (dk_at dksX3_parted_1 0 rfl rfl)
theorem dX3_parted_26 : decode cX3_parted 26 = .ok (.iload 6, 2) := dk_21 6 (dk_at dksX3_parted_1 3 rfl rfl)
theorem dX3_parted_28 : decode cX3_parted 28 = .ok (.iload_n 3, 1) := dk_29 (dk_at dksX3_parted_1 5 rfl rfl)
theorem dX3_parted_29 : decode cX3_parted 29 = .ok (.iastore, 1) := dk_79 (dk_at dksX3_parted_1 6 rfl rfl)
theorem dX3_parted_30 : decode cX3_parted 30 = .ok (.aload_n 0, 1) := dk_42 (dk_at dksX3_parted_1 7 rfl rfl)
theorem dX3_parted_31 : decode cX3_parted 31 = .ok (.getfield 66, 3) := dk_180 0 66 (dk_at dksX3_parted_1 8 rfl rfl)
theorem dX3_parted_34 : decode cX3_parted 34 = .ok (.iload 6, 2) := dk_21 6 (dk_at dksX3_parted_1 11 rfl rfl)
theorem dX3_parted_36 : decode cX3_parted 36 = .ok (.aload_n 0, 1) := dk_42 (dk_at dksX3_parted_1 13 rfl rfl)
theorem dX3_parted_37 : decode cX3_parted 37 = .ok (.getfield 185, 3) := dk_180 0 185 (dk_at dksX3_parted_1 14 rfl rfl)
theorem dX3_parted_40 : decode cX3_parted 40 = .ok (.iastore, 1) := dk_79 (dk_at dksX3_parted_1 17 rfl rfl)
theorem dX3_parted_41 : decode cX3_parted 41 = .ok (.aload_n 0, 1) := dk_42 (dk_at dksX3_parted_1 18 rfl rfl)
theorem dX3_parted_42 : decode cX3_parted 42 = .ok (.getfield 69, 3) := dk_180 0 69 (dk_at dksX3_parted_1 19 rfl rfl)
theorem dX3_parted_45 : decode cX3_parted 45 = .ok (.iload 6, 2) := dk_21 6 (dk_at dksX3_parted_1 22 rfl rfl)
theorem dX3_parted_47 : decode cX3_parted 47 = .ok (.sipush 9999, 3) := dk_17 39 15 (dk_at dksX3_parted_2 0 rfl rfl)
theorem dX3_parted_50 : decode cX3_parted 50 = .ok (.iastore, 1) := dk_79 (dk_at dksX3_parted_2 3 rfl rfl)
theorem dX3_parted_51 : decode cX3_parted 51 = .ok (.aload_n 0, 1) := dk_42 (dk_at dksX3_parted_2 4 rfl rfl)
theorem dX3_parted_52 : decode cX3_parted 52 = .ok (.getfield 72, 3) := dk_180 0 72 (dk_at dksX3_parted_2 5 rfl rfl)
theorem dX3_parted_55 : decode cX3_parted 55 = .ok (.bipush 12, 2) := dk_16 12 (dk_at dksX3_parted_2 8 rfl rfl)
theorem dX3_parted_57 : decode cX3_parted 57 = .ok (.iload 6, 2) := dk_21 6 (dk_at dksX3_parted_2 10 rfl rfl)
theorem dX3_parted_59 : decode cX3_parted 59 = .ok (.imul, 1) := dk_104 (dk_at dksX3_parted_2 12 rfl rfl)
theorem dX3_parted_60 : decode cX3_parted 60 = .ok (.aload_n 0, 1) := dk_42 (dk_at dksX3_parted_2 13 rfl rfl)
theorem dX3_parted_61 : decode cX3_parted 61 = .ok (.getfield 13, 3) := dk_180 0 13 (dk_at dksX3_parted_2 14 rfl rfl)
theorem dX3_parted_64 : decode cX3_parted 64 = .ok (.iload_n 1, 1) := dk_27 (dk_at dksX3_parted_2 17 rfl rfl)
theorem dX3_parted_65 : decode cX3_parted 65 = .ok (.iaload, 1) := dk_46 (dk_at dksX3_parted_2 18 rfl rfl)
theorem dX3_parted_66 : decode cX3_parted 66 = .ok (.sipush 1019, 3) := dk_17 3 251 (dk_at dksX3_parted_2 19 rfl rfl)
theorem dX3_parted_69 : decode cX3_parted 69 = .ok (.irem, 1) := dk_112 (dk_at dksX3_parted_2 22 rfl rfl)
theorem dX3_parted_70 : decode cX3_parted 70 = .ok (.iastore, 1) := dk_79 (dk_at dksX3_parted_2 23 rfl rfl)
theorem dX3_parted_71 : decode cX3_parted 71 = .ok (.lload 4, 2) := dk_22 4 (dk_at dksX3_parted_3 0 rfl rfl)
theorem dX3_parted_73 : decode cX3_parted 73 = .ok (.lstore 7, 2) := dk_55 7 (dk_at dksX3_parted_3 2 rfl rfl)
theorem dX3_parted_75 : decode cX3_parted 75 = .ok (.iconst 1, 1) := dk_4 (dk_at dksX3_parted_3 4 rfl rfl)
theorem dX3_parted_76 : decode cX3_parted 76 = .ok (.istore 9, 2) := dk_54 9 (dk_at dksX3_parted_3 5 rfl rfl)
theorem dX3_parted_78 : decode cX3_parted 78 = .ok (.iload 9, 2) := dk_21 9 (dk_at dksX3_parted_3 7 rfl rfl)
theorem dX3_parted_80 : decode cX3_parted 80 = .ok (.iload_n 3, 1) := dk_29 (dk_at dksX3_parted_3 9 rfl rfl)
theorem dX3_parted_81 : decode cX3_parted 81 = .ok (.if_icmp .ge 37, 3) := dk_162 0 37 (dk_at dksX3_parted_3 10 rfl rfl)
theorem dX3_parted_84 : decode cX3_parted 84 = .ok (.lload 7, 2) := dk_22 7 (dk_at dksX3_parted_3 13 rfl rfl)
theorem dX3_parted_86 : decode cX3_parted 86 = .ok (.invokestatic 246, 3) := dk_184 0 246 (dk_at dksX3_parted_3 15 rfl rfl)
theorem dX3_parted_89 : decode cX3_parted 89 = .ok (.lstore 7, 2) := dk_55 7 (dk_at dksX3_parted_3 18 rfl rfl)
theorem dX3_parted_91 : decode cX3_parted 91 = .ok (.aload_n 0, 1) := dk_42 (dk_at dksX3_parted_3 20 rfl rfl)
theorem dX3_parted_92 : decode cX3_parted 92 = .ok (.getfield 72, 3) := dk_180 0 72 (dk_at dksX3_parted_3 21 rfl rfl)
theorem dX3_parted_95 : decode cX3_parted 95 = .ok (.bipush 12, 2) := dk_16 12 (dk_at dksX3_parted_4 0 rfl rfl)
theorem dX3_parted_97 : decode cX3_parted 97 = .ok (.iload 6, 2) := dk_21 6 (dk_at dksX3_parted_4 2 rfl rfl)
theorem dX3_parted_99 : decode cX3_parted 99 = .ok (.imul, 1) := dk_104 (dk_at dksX3_parted_4 4 rfl rfl)
theorem dX3_parted_100 : decode cX3_parted 100 = .ok (.iload 9, 2) := dk_21 9 (dk_at dksX3_parted_4 5 rfl rfl)
theorem dX3_parted_102 : decode cX3_parted 102 = .ok (.iadd, 1) := dk_96 (dk_at dksX3_parted_4 7 rfl rfl)
theorem dX3_parted_103 : decode cX3_parted 103 = .ok (.lload 7, 2) := dk_22 7 (dk_at dksX3_parted_4 8 rfl rfl)
theorem dX3_parted_105 : decode cX3_parted 105 = .ok (.sipush 1019, 3) := dk_17 3 251 (dk_at dksX3_parted_4 10 rfl rfl)
theorem dX3_parted_108 : decode cX3_parted 108 = .ok (.invokestatic 250, 3) := dk_184 0 250 (dk_at dksX3_parted_4 13 rfl rfl)
theorem dX3_parted_111 : decode cX3_parted 111 = .ok (.iastore, 1) := dk_79 (dk_at dksX3_parted_4 16 rfl rfl)
theorem dX3_parted_112 : decode cX3_parted 112 = .ok (.iinc 9 1, 3) := dk_132 9 1 (dk_at dksX3_parted_4 17 rfl rfl)
theorem dX3_parted_115 : decode cX3_parted 115 = .ok (.goto (-37), 3) := dk_167 255 219 (dk_at dksX3_parted_4 20 rfl rfl)
theorem dX3_parted_118 : decode cX3_parted 118 = .ok (.aload_n 0, 1) := dk_42 (dk_at dksX3_parted_4 23 rfl rfl)
theorem dX3_parted_119 : decode cX3_parted 119 = .ok (.dup, 1) := dk_89 (dk_at dksX3_parted_5 0 rfl rfl)
theorem dX3_parted_120 : decode cX3_parted 120 = .ok (.getfield 243, 3) := dk_180 0 243 (dk_at dksX3_parted_5 1 rfl rfl)
theorem dX3_parted_123 : decode cX3_parted 123 = .ok (.iconst 1, 1) := dk_4 (dk_at dksX3_parted_5 4 rfl rfl)
theorem dX3_parted_124 : decode cX3_parted 124 = .ok (.iadd, 1) := dk_96 (dk_at dksX3_parted_5 5 rfl rfl)
theorem dX3_parted_125 : decode cX3_parted 125 = .ok (.putfield 243, 3) := dk_181 0 243 (dk_at dksX3_parted_5 6 rfl rfl)
theorem dX3_parted_128 : decode cX3_parted 128 = .ok (.iload 6, 2) := dk_21 6 (dk_at dksX3_parted_5 9 rfl rfl)
theorem dX3_parted_130 : decode cX3_parted 130 = .ok (.ireturn, 1) := dk_172 (dk_at dksX3_parted_5 11 rfl rfl)
abbrev cX3_next : ByteArray := prog_22_method_28_code
def yX3_next : MethodName := ⟨RX3, "next", "(J)J"⟩
def dkwX3_next_0 : List UInt8 := [30, 20, 0, 239, 105, 20, 0, 241, 97, 173]
abbrev dktX3_next_0 : List UInt8 := dkwX3_next_0 ++ []
theorem dksX3_next_0 : cX3_next.data.toList.drop 0 = dktX3_next_0 := by decide +kernel
theorem dX3_next_0 : decode cX3_next 0 = .ok (.lload_n 0, 1) := dk_30 (dk_at dksX3_next_0 0 rfl rfl)
theorem dX3_next_1 : decode cX3_next 1 = .ok (.ldc2_w 239, 3) := dk_20 0 239 (dk_at dksX3_next_0 1 rfl rfl)
theorem dX3_next_4 : decode cX3_next 4 = .ok (.lmul, 1) := dk_105 (dk_at dksX3_next_0 4 rfl rfl)
theorem dX3_next_5 : decode cX3_next 5 = .ok (.ldc2_w 241, 3) := dk_20 0 241 (dk_at dksX3_next_0 5 rfl rfl)
theorem dX3_next_8 : decode cX3_next 8 = .ok (.ladd, 1) := dk_97 (dk_at dksX3_next_0 8 rfl rfl)
theorem dX3_next_9 : decode cX3_next 9 = .ok (.lreturn, 1) := dk_173 (dk_at dksX3_next_0 9 rfl rfl)
abbrev cX3_drawn : ByteArray := prog_22_method_29_code
def yX3_drawn : MethodName := ⟨RX3, "drawn", "(JI)I"⟩
def dkwX3_drawn_0 : List UInt8 := [30, 16, 33, 125, 28, 133, 113, 136, 172]
abbrev dktX3_drawn_0 : List UInt8 := dkwX3_drawn_0 ++ []
theorem dksX3_drawn_0 : cX3_drawn.data.toList.drop 0 = dktX3_drawn_0 := by decide +kernel
theorem dX3_drawn_0 : decode cX3_drawn 0 = .ok (.lload_n 0, 1) := dk_30 (dk_at dksX3_drawn_0 0 rfl rfl)
theorem dX3_drawn_1 : decode cX3_drawn 1 = .ok (.bipush 33, 2) := dk_16 33 (dk_at dksX3_drawn_0 1 rfl rfl)
theorem dX3_drawn_3 : decode cX3_drawn 3 = .ok (.lushr, 1) := dk_125 (dk_at dksX3_drawn_0 3 rfl rfl)
theorem dX3_drawn_4 : decode cX3_drawn 4 = .ok (.iload_n 2, 1) := dk_28 (dk_at dksX3_drawn_0 4 rfl rfl)
theorem dX3_drawn_5 : decode cX3_drawn 5 = .ok (.i2l, 1) := dk_133 (dk_at dksX3_drawn_0 5 rfl rfl)
theorem dX3_drawn_6 : decode cX3_drawn 6 = .ok (.lrem, 1) := dk_113 (dk_at dksX3_drawn_0 6 rfl rfl)
theorem dX3_drawn_7 : decode cX3_drawn 7 = .ok (.l2i, 1) := dk_136 (dk_at dksX3_drawn_0 7 rfl rfl)
theorem dX3_drawn_8 : decode cX3_drawn 8 = .ok (.ireturn, 1) := dk_172 (dk_at dksX3_drawn_0 8 rfl rfl)
abbrev cX3_again : ByteArray := prog_22_method_33_code
def yX3_again : MethodName := ⟨RX3, "again", "(IJ)I"⟩
def dkwX3_again_2 : List UInt8 := [42, 180, 0, 57, 27, 46, 42, 180, 0, 60, 27, 46, 42, 180, 0, 63, 27, 46, 32, 182, 1, 7, 172]
abbrev dktX3_again_2 : List UInt8 := dkwX3_again_2 ++ []
def dkwX3_again_1 : List UInt8 := [180, 0, 69, 27, 46, 17, 39, 15, 159, 0, 5, 2, 172, 42, 180, 0, 69, 27, 42, 180, 0, 185, 79, 42]
abbrev dktX3_again_1 : List UInt8 := dkwX3_again_1 ++ dktX3_again_2
def dkwX3_again_0 : List UInt8 := [42, 3, 181, 0, 181, 42, 180, 0, 243, 16, 40, 159, 0, 23, 42, 27, 182, 1, 11, 153, 0, 15, 42]
abbrev dktX3_again_0 : List UInt8 := dkwX3_again_0 ++ dktX3_again_1
theorem dksX3_again_0 : cX3_again.data.toList.drop 0 = dktX3_again_0 := by decide +kernel
theorem dksX3_again_1 : cX3_again.data.toList.drop 23 = dktX3_again_1 := dk_seg dksX3_again_0 23 rfl rfl
theorem dksX3_again_2 : cX3_again.data.toList.drop 47 = dktX3_again_2 := dk_seg dksX3_again_1 24 rfl rfl
theorem dX3_again_0 : decode cX3_again 0 = .ok (.aload_n 0, 1) := dk_42 (dk_at dksX3_again_0 0 rfl rfl)
theorem dX3_again_1 : decode cX3_again 1 = .ok (.iconst 0, 1) := dk_3 (dk_at dksX3_again_0 1 rfl rfl)
theorem dX3_again_2 : decode cX3_again 2 = .ok (.putfield 181, 3) := dk_181 0 181 (dk_at dksX3_again_0 2 rfl rfl)
theorem dX3_again_5 : decode cX3_again 5 = .ok (.aload_n 0, 1) := dk_42 (dk_at dksX3_again_0 5 rfl rfl)
theorem dX3_again_6 : decode cX3_again 6 = .ok (.getfield 243, 3) := dk_180 0 243 (dk_at dksX3_again_0 6 rfl rfl)
theorem dX3_again_9 : decode cX3_again 9 = .ok (.bipush 40, 2) := dk_16 40 (dk_at dksX3_again_0 9 rfl rfl)
theorem dX3_again_11 : decode cX3_again 11 = .ok (.if_icmp .eq 23, 3) := dk_159 0 23 (dk_at dksX3_again_0 11 rfl rfl)
theorem dX3_again_14 : decode cX3_again 14 = .ok (.aload_n 0, 1) := dk_42 (dk_at dksX3_again_0 14 rfl rfl)
theorem dX3_again_15 : decode cX3_again 15 = .ok (.iload_n 1, 1) := dk_27 (dk_at dksX3_again_0 15 rfl rfl)
theorem dX3_again_16 : decode cX3_again 16 = .ok (.invokevirtual 267, 3) := dk_182 1 11 (dk_at dksX3_again_0 16 rfl rfl)
theorem dX3_again_19 : decode cX3_again 19 = .ok (.ifCond .eq 15, 3) := dk_153 0 15 (dk_at dksX3_again_0 19 rfl rfl)
theorem dX3_again_22 : decode cX3_again 22 = .ok (.aload_n 0, 1) := dk_42 (dk_at dksX3_again_0 22 rfl rfl)
theorem dX3_again_23 : decode cX3_again 23 = .ok (.getfield 69, 3) := dk_180 0 69 (dk_at dksX3_again_1 0 rfl rfl)
theorem dX3_again_26 : decode cX3_again 26 = .ok (.iload_n 1, 1) := dk_27 (dk_at dksX3_again_1 3 rfl rfl)
theorem dX3_again_27 : decode cX3_again 27 = .ok (.iaload, 1) := dk_46 (dk_at dksX3_again_1 4 rfl rfl)
theorem dX3_again_28 : decode cX3_again 28 = .ok (.sipush 9999, 3) := dk_17 39 15 (dk_at dksX3_again_1 5 rfl rfl)
theorem dX3_again_31 : decode cX3_again 31 = .ok (.if_icmp .eq 5, 3) := dk_159 0 5 (dk_at dksX3_again_1 8 rfl rfl)
theorem dX3_again_34 : decode cX3_again 34 = .ok (.iconst (-1), 1) := dk_2 (dk_at dksX3_again_1 11 rfl rfl)
theorem dX3_again_35 : decode cX3_again 35 = .ok (.ireturn, 1) := dk_172 (dk_at dksX3_again_1 12 rfl rfl)
theorem dX3_again_36 : decode cX3_again 36 = .ok (.aload_n 0, 1) := dk_42 (dk_at dksX3_again_1 13 rfl rfl)
theorem dX3_again_37 : decode cX3_again 37 = .ok (.getfield 69, 3) := dk_180 0 69 (dk_at dksX3_again_1 14 rfl rfl)
theorem dX3_again_40 : decode cX3_again 40 = .ok (.iload_n 1, 1) := dk_27 (dk_at dksX3_again_1 17 rfl rfl)
theorem dX3_again_41 : decode cX3_again 41 = .ok (.aload_n 0, 1) := dk_42 (dk_at dksX3_again_1 18 rfl rfl)
theorem dX3_again_42 : decode cX3_again 42 = .ok (.getfield 185, 3) := dk_180 0 185 (dk_at dksX3_again_1 19 rfl rfl)
theorem dX3_again_45 : decode cX3_again 45 = .ok (.iastore, 1) := dk_79 (dk_at dksX3_again_1 22 rfl rfl)
theorem dX3_again_46 : decode cX3_again 46 = .ok (.aload_n 0, 1) := dk_42 (dk_at dksX3_again_1 23 rfl rfl)
theorem dX3_again_47 : decode cX3_again 47 = .ok (.aload_n 0, 1) := dk_42 (dk_at dksX3_again_2 0 rfl rfl)
theorem dX3_again_48 : decode cX3_again 48 = .ok (.getfield 57, 3) := dk_180 0 57 (dk_at dksX3_again_2 1 rfl rfl)
theorem dX3_again_51 : decode cX3_again 51 = .ok (.iload_n 1, 1) := dk_27 (dk_at dksX3_again_2 4 rfl rfl)
theorem dX3_again_52 : decode cX3_again 52 = .ok (.iaload, 1) := dk_46 (dk_at dksX3_again_2 5 rfl rfl)
theorem dX3_again_53 : decode cX3_again 53 = .ok (.aload_n 0, 1) := dk_42 (dk_at dksX3_again_2 6 rfl rfl)
theorem dX3_again_54 : decode cX3_again 54 = .ok (.getfield 60, 3) := dk_180 0 60 (dk_at dksX3_again_2 7 rfl rfl)
theorem dX3_again_57 : decode cX3_again 57 = .ok (.iload_n 1, 1) := dk_27 (dk_at dksX3_again_2 10 rfl rfl)
theorem dX3_again_58 : decode cX3_again 58 = .ok (.iaload, 1) := dk_46 (dk_at dksX3_again_2 11 rfl rfl)
theorem dX3_again_59 : decode cX3_again 59 = .ok (.aload_n 0, 1) := dk_42 (dk_at dksX3_again_2 12 rfl rfl)
theorem dX3_again_60 : decode cX3_again 60 = .ok (.getfield 63, 3) := dk_180 0 63 (dk_at dksX3_again_2 13 rfl rfl)
theorem dX3_again_63 : decode cX3_again 63 = .ok (.iload_n 1, 1) := dk_27 (dk_at dksX3_again_2 16 rfl rfl)
theorem dX3_again_64 : decode cX3_again 64 = .ok (.iaload, 1) := dk_46 (dk_at dksX3_again_2 17 rfl rfl)
theorem dX3_again_65 : decode cX3_again 65 = .ok (.lload_n 2, 1) := dk_32 (dk_at dksX3_again_2 18 rfl rfl)
theorem dX3_again_66 : decode cX3_again 66 = .ok (.invokevirtual 263, 3) := dk_182 1 7 (dk_at dksX3_again_2 19 rfl rfl)
theorem dX3_again_69 : decode cX3_again 69 = .ok (.ireturn, 1) := dk_172 (dk_at dksX3_again_2 22 rfl rfl)
abbrev cX3_isParting : ByteArray := prog_22_method_32_code
def yX3_isParting : MethodName := ⟨RX3, "isParting", "(I)Z"⟩
def dkwX3_isParting_0 : List UInt8 := [27, 155, 0, 15, 27, 42, 180, 0, 243, 162, 0, 7, 4, 167, 0, 4, 3, 172]
abbrev dktX3_isParting_0 : List UInt8 := dkwX3_isParting_0 ++ []
theorem dksX3_isParting_0 : cX3_isParting.data.toList.drop 0 = dktX3_isParting_0 := by decide +kernel
theorem dX3_isParting_0 : decode cX3_isParting 0 = .ok (.iload_n 1, 1) := dk_27 (dk_at dksX3_isParting_0 0 rfl rfl)
theorem dX3_isParting_1 : decode cX3_isParting 1 = .ok (.ifCond .lt 15, 3) := dk_155 0 15 (dk_at dksX3_isParting_0 1 rfl rfl)
theorem dX3_isParting_4 : decode cX3_isParting 4 = .ok (.iload_n 1, 1) := dk_27 (dk_at dksX3_isParting_0 4 rfl rfl)
theorem dX3_isParting_5 : decode cX3_isParting 5 = .ok (.aload_n 0, 1) := dk_42 (dk_at dksX3_isParting_0 5 rfl rfl)
theorem dX3_isParting_6 : decode cX3_isParting 6 = .ok (.getfield 243, 3) := dk_180 0 243 (dk_at dksX3_isParting_0 6 rfl rfl)
theorem dX3_isParting_9 : decode cX3_isParting 9 = .ok (.if_icmp .ge 7, 3) := dk_162 0 7 (dk_at dksX3_isParting_0 9 rfl rfl)
theorem dX3_isParting_12 : decode cX3_isParting 12 = .ok (.iconst 1, 1) := dk_4 (dk_at dksX3_isParting_0 12 rfl rfl)
theorem dX3_isParting_13 : decode cX3_isParting 13 = .ok (.goto 4, 3) := dk_167 0 4 (dk_at dksX3_isParting_0 13 rfl rfl)
theorem dX3_isParting_16 : decode cX3_isParting 16 = .ok (.iconst 0, 1) := dk_3 (dk_at dksX3_isParting_0 16 rfl rfl)
theorem dX3_isParting_17 : decode cX3_isParting 17 = .ok (.ireturn, 1) := dk_172 (dk_at dksX3_isParting_0 17 rfl rfl)
abbrev cX3_piece : ByteArray := prog_22_method_36_code
def yX3_piece : MethodName := ⟨RX3, "piece", "(II)I"⟩
def dkwX3_piece_1 : List UInt8 := [172]
abbrev dktX3_piece_1 : List UInt8 := dkwX3_piece_1 ++ []
def dkwX3_piece_0 : List UInt8 := [42, 3, 181, 0, 181, 42, 27, 28, 182, 1, 14, 153, 0, 12, 42, 27, 28, 182, 1, 17, 167, 0, 4, 2]
abbrev dktX3_piece_0 : List UInt8 := dkwX3_piece_0 ++ dktX3_piece_1
theorem dksX3_piece_0 : cX3_piece.data.toList.drop 0 = dktX3_piece_0 := by decide +kernel
theorem dksX3_piece_1 : cX3_piece.data.toList.drop 24 = dktX3_piece_1 := dk_seg dksX3_piece_0 24 rfl rfl
theorem dX3_piece_0 : decode cX3_piece 0 = .ok (.aload_n 0, 1) := dk_42 (dk_at dksX3_piece_0 0 rfl rfl)
theorem dX3_piece_1 : decode cX3_piece 1 = .ok (.iconst 0, 1) := dk_3 (dk_at dksX3_piece_0 1 rfl rfl)
theorem dX3_piece_2 : decode cX3_piece 2 = .ok (.putfield 181, 3) := dk_181 0 181 (dk_at dksX3_piece_0 2 rfl rfl)
theorem dX3_piece_5 : decode cX3_piece 5 = .ok (.aload_n 0, 1) := dk_42 (dk_at dksX3_piece_0 5 rfl rfl)
theorem dX3_piece_6 : decode cX3_piece 6 = .ok (.iload_n 1, 1) := dk_27 (dk_at dksX3_piece_0 6 rfl rfl)
theorem dX3_piece_7 : decode cX3_piece 7 = .ok (.iload_n 2, 1) := dk_28 (dk_at dksX3_piece_0 7 rfl rfl)
theorem dX3_piece_8 : decode cX3_piece 8 = .ok (.invokevirtual 270, 3) := dk_182 1 14 (dk_at dksX3_piece_0 8 rfl rfl)
theorem dX3_piece_11 : decode cX3_piece 11 = .ok (.ifCond .eq 12, 3) := dk_153 0 12 (dk_at dksX3_piece_0 11 rfl rfl)
theorem dX3_piece_14 : decode cX3_piece 14 = .ok (.aload_n 0, 1) := dk_42 (dk_at dksX3_piece_0 14 rfl rfl)
theorem dX3_piece_15 : decode cX3_piece 15 = .ok (.iload_n 1, 1) := dk_27 (dk_at dksX3_piece_0 15 rfl rfl)
theorem dX3_piece_16 : decode cX3_piece 16 = .ok (.iload_n 2, 1) := dk_28 (dk_at dksX3_piece_0 16 rfl rfl)
theorem dX3_piece_17 : decode cX3_piece 17 = .ok (.invokevirtual 273, 3) := dk_182 1 17 (dk_at dksX3_piece_0 17 rfl rfl)
theorem dX3_piece_20 : decode cX3_piece 20 = .ok (.goto 4, 3) := dk_167 0 4 (dk_at dksX3_piece_0 20 rfl rfl)
theorem dX3_piece_23 : decode cX3_piece 23 = .ok (.iconst (-1), 1) := dk_2 (dk_at dksX3_piece_0 23 rfl rfl)
theorem dX3_piece_24 : decode cX3_piece 24 = .ok (.ireturn, 1) := dk_172 (dk_at dksX3_piece_1 0 rfl rfl)
