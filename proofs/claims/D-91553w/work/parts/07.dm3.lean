set_option maxRecDepth 100000
abbrev cX3_several : ByteArray := prog_22_method_84_code
def yX3_several : MethodName := ⟨RX3, "several", "(IIIJ)I"⟩
def dkwX3_several_13 : List UInt8 := [167, 255, 184, 42, 21, 8, 21, 9, 42, 180, 0, 57, 27, 46, 29, 182, 1, 178, 172]
abbrev dktX3_several_13 : List UInt8 := dkwX3_several_13 ++ []
def dkwX3_several_12 : List UInt8 := [17, 3, 251, 112, 42, 27, 21, 11, 182, 1, 17, 104, 96, 17, 3, 251, 112, 54, 9, 132, 11, 1]
abbrev dktX3_several_12 : List UInt8 := dkwX3_several_12 ++ dktX3_several_13
def dkwX3_several_11 : List UInt8 := [55, 6, 21, 9, 22, 6, 17, 3, 250, 184, 0, 250, 96, 4, 96, 21, 10, 21, 11, 28, 184, 1, 32, 104]
abbrev dktX3_several_11 : List UInt8 := dkwX3_several_11 ++ dktX3_several_12
def dkwX3_several_10 : List UInt8 := [180, 0, 196, 162, 0, 69, 28, 21, 11, 122, 4, 126, 154, 0, 6, 167, 0, 51, 22, 6, 184, 0, 246]
abbrev dktX3_several_10 : List UInt8 := dkwX3_several_10 ++ dktX3_several_11
def dkwX3_several_9 : List UInt8 := [16, 254, 21, 11, 100, 172, 132, 11, 1, 167, 255, 213, 22, 4, 55, 6, 3, 54, 11, 21, 11, 42]
abbrev dktX3_several_9 : List UInt8 := dkwX3_several_9 ++ dktX3_several_10
def dkwX3_several_8 : List UInt8 := [153, 0, 35, 28, 21, 11, 122, 4, 126, 4, 160, 0, 19, 42, 180, 0, 38, 21, 11, 51, 153, 0, 9]
abbrev dktX3_several_8 : List UInt8 := dkwX3_several_8 ++ dktX3_several_9
def dkwX3_several_7 : List UInt8 := [180, 0, 100, 29, 46, 184, 1, 175, 54, 10, 3, 54, 11, 21, 11, 42, 180, 0, 196, 162, 0, 40, 21, 10]
abbrev dktX3_several_7 : List UInt8 := dkwX3_several_7 ++ dktX3_several_8
def dkwX3_several_6 : List UInt8 := [184, 0, 250, 4, 96, 184, 0, 220, 104, 17, 7, 247, 112, 54, 8, 132, 10, 1, 167, 255, 203, 21, 8, 42]
abbrev dktX3_several_6 : List UInt8 := dkwX3_several_6 ++ dktX3_several_7
def dkwX3_several_5 : List UInt8 := [4, 126, 154, 0, 6, 167, 0, 32, 22, 6, 184, 0, 246, 55, 6, 21, 8, 22, 6, 17, 3, 250]
abbrev dktX3_several_5 : List UInt8 := dkwX3_several_5 ++ dktX3_several_6
def dkwX3_several_4 : List UInt8 := [55, 6, 4, 54, 8, 3, 54, 9, 3, 54, 10, 21, 10, 42, 180, 0, 196, 162, 0, 50, 28, 21, 10, 122]
abbrev dktX3_several_4 : List UInt8 := dkwX3_several_4 ++ dktX3_several_5
def dkwX3_several_3 : List UInt8 := [182, 1, 153, 153, 0, 16, 42, 42, 180, 0, 57, 27, 46, 182, 1, 182, 154, 0, 5, 2, 172, 22, 4]
abbrev dktX3_several_3 : List UInt8 := dkwX3_several_3 ++ dktX3_several_4
def dkwX3_several_2 : List UInt8 := [27, 46, 2, 130, 126, 154, 0, 37, 28, 184, 1, 2, 42, 180, 0, 63, 27, 46, 161, 0, 24, 42, 29]
abbrev dktX3_several_2 : List UInt8 := dkwX3_several_2 ++ dktX3_several_3
def dkwX3_several_1 : List UInt8 := [42, 180, 0, 185, 182, 1, 38, 153, 0, 59, 42, 28, 4, 182, 0, 254, 153, 0, 50, 28, 42, 180, 0, 60]
abbrev dktX3_several_1 : List UInt8 := dkwX3_several_1 ++ dktX3_several_2
def dkwX3_several_0 : List UInt8 := [42, 3, 181, 0, 181, 42, 180, 1, 172, 16, 80, 159, 0, 79, 42, 27, 182, 1, 11, 153, 0, 71, 42, 27]
abbrev dktX3_several_0 : List UInt8 := dkwX3_several_0 ++ dktX3_several_1
theorem dksX3_several_0 : cX3_several.data.toList.drop 0 = dktX3_several_0 := by decide +kernel
theorem dksX3_several_1 : cX3_several.data.toList.drop 24 = dktX3_several_1 := dk_seg dksX3_several_0 24 rfl rfl
theorem dksX3_several_2 : cX3_several.data.toList.drop 48 = dktX3_several_2 := dk_seg dksX3_several_1 24 rfl rfl
theorem dksX3_several_3 : cX3_several.data.toList.drop 71 = dktX3_several_3 := dk_seg dksX3_several_2 23 rfl rfl
theorem dksX3_several_4 : cX3_several.data.toList.drop 94 = dktX3_several_4 := dk_seg dksX3_several_3 23 rfl rfl
theorem dksX3_several_5 : cX3_several.data.toList.drop 118 = dktX3_several_5 := dk_seg dksX3_several_4 24 rfl rfl
theorem dksX3_several_6 : cX3_several.data.toList.drop 140 = dktX3_several_6 := dk_seg dksX3_several_5 22 rfl rfl
theorem dksX3_several_7 : cX3_several.data.toList.drop 164 = dktX3_several_7 := dk_seg dksX3_several_6 24 rfl rfl
theorem dksX3_several_8 : cX3_several.data.toList.drop 188 = dktX3_several_8 := dk_seg dksX3_several_7 24 rfl rfl
theorem dksX3_several_9 : cX3_several.data.toList.drop 211 = dktX3_several_9 := dk_seg dksX3_several_8 23 rfl rfl
theorem dksX3_several_10 : cX3_several.data.toList.drop 233 = dktX3_several_10 := dk_seg dksX3_several_9 22 rfl rfl
theorem dksX3_several_11 : cX3_several.data.toList.drop 256 = dktX3_several_11 := dk_seg dksX3_several_10 23 rfl rfl
theorem dksX3_several_12 : cX3_several.data.toList.drop 280 = dktX3_several_12 := dk_seg dksX3_several_11 24 rfl rfl
theorem dksX3_several_13 : cX3_several.data.toList.drop 302 = dktX3_several_13 := dk_seg dksX3_several_12 22 rfl rfl
theorem dX3_several_0 : decode cX3_several 0 = .ok (.aload_n 0, 1) := dk_42 (dk_at dksX3_several_0 0 rfl rfl)
theorem dX3_several_1 : decode cX3_several 1 = .ok (.iconst 0, 1) := dk_3 (dk_at dksX3_several_0 1 rfl rfl)
theorem dX3_several_2 : decode cX3_several 2 = .ok (.putfield 181, 3) := dk_181 0 181 (dk_at dksX3_several_0 2 rfl rfl)
theorem dX3_several_5 : decode cX3_several 5 = .ok (.aload_n 0, 1) := dk_42 (dk_at dksX3_several_0 5 rfl rfl)
theorem dX3_several_6 : decode cX3_several 6 = .ok (.getfield 428, 3) := dk_180 1 172 (dk_at dksX3_several_0 6 rfl rfl)
theorem dX3_several_9 : decode cX3_several 9 = .ok (.bipush 80, 2) := dk_16 80 (dk_at dksX3_several_0 9 rfl rfl)
theorem dX3_several_11 : decode cX3_several 11 = .ok (.if_icmp .eq 79, 3) := dk_159 0 79 (dk_at dksX3_several_0 11 rfl rfl)
theorem dX3_several_14 : decode cX3_several 14 = .ok (.aload_n 0, 1) := dk_42 (dk_at dksX3_several_0 14 rfl rfl)
theorem dX3_several_15 : decode cX3_several 15 = .ok (.iload_n 1, 1) := dk_27 (dk_at dksX3_several_0 15 rfl rfl)
theorem dX3_several_16 : decode cX3_several 16 = .ok (.invokevirtual 267, 3) := dk_182 1 11 (dk_at dksX3_several_0 16 rfl rfl)
theorem dX3_several_19 : decode cX3_several 19 = .ok (.ifCond .eq 71, 3) := dk_153 0 71 (dk_at dksX3_several_0 19 rfl rfl)
theorem dX3_several_22 : decode cX3_several 22 = .ok (.aload_n 0, 1) := dk_42 (dk_at dksX3_several_0 22 rfl rfl)
theorem dX3_several_23 : decode cX3_several 23 = .ok (.iload_n 1, 1) := dk_27 (dk_at dksX3_several_0 23 rfl rfl)
theorem dX3_several_24 : decode cX3_several 24 = .ok (.aload_n 0, 1) := dk_42 (dk_at dksX3_several_1 0 rfl rfl)
theorem dX3_several_25 : decode cX3_several 25 = .ok (.getfield 185, 3) := dk_180 0 185 (dk_at dksX3_several_1 1 rfl rfl)
theorem dX3_several_28 : decode cX3_several 28 = .ok (.invokevirtual 294, 3) := dk_182 1 38 (dk_at dksX3_several_1 4 rfl rfl)
theorem dX3_several_31 : decode cX3_several 31 = .ok (.ifCond .eq 59, 3) := dk_153 0 59 (dk_at dksX3_several_1 7 rfl rfl)
theorem dX3_several_34 : decode cX3_several 34 = .ok (.aload_n 0, 1) := dk_42 (dk_at dksX3_several_1 10 rfl rfl)
theorem dX3_several_35 : decode cX3_several 35 = .ok (.iload_n 2, 1) := dk_28 (dk_at dksX3_several_1 11 rfl rfl)
theorem dX3_several_36 : decode cX3_several 36 = .ok (.iconst 1, 1) := dk_4 (dk_at dksX3_several_1 12 rfl rfl)
theorem dX3_several_37 : decode cX3_several 37 = .ok (.invokevirtual 254, 3) := dk_182 0 254 (dk_at dksX3_several_1 13 rfl rfl)
theorem dX3_several_40 : decode cX3_several 40 = .ok (.ifCond .eq 50, 3) := dk_153 0 50 (dk_at dksX3_several_1 16 rfl rfl)
theorem dX3_several_43 : decode cX3_several 43 = .ok (.iload_n 2, 1) := dk_28 (dk_at dksX3_several_1 19 rfl rfl)
theorem dX3_several_44 : decode cX3_several 44 = .ok (.aload_n 0, 1) := dk_42 (dk_at dksX3_several_1 20 rfl rfl)
theorem dX3_several_45 : decode cX3_several 45 = .ok (.getfield 60, 3) := dk_180 0 60 (dk_at dksX3_several_1 21 rfl rfl)
theorem dX3_several_48 : decode cX3_several 48 = .ok (.iload_n 1, 1) := dk_27 (dk_at dksX3_several_2 0 rfl rfl)
theorem dX3_several_49 : decode cX3_several 49 = .ok (.iaload, 1) := dk_46 (dk_at dksX3_several_2 1 rfl rfl)
theorem dX3_several_50 : decode cX3_several 50 = .ok (.iconst (-1), 1) := dk_2 (dk_at dksX3_several_2 2 rfl rfl)
theorem dX3_several_51 : decode cX3_several 51 = .ok (.ixor, 1) := dk_130 (dk_at dksX3_several_2 3 rfl rfl)
theorem dX3_several_52 : decode cX3_several 52 = .ok (.iand, 1) := dk_126 (dk_at dksX3_several_2 4 rfl rfl)
theorem dX3_several_53 : decode cX3_several 53 = .ok (.ifCond .ne 37, 3) := dk_154 0 37 (dk_at dksX3_several_2 5 rfl rfl)
theorem dX3_several_56 : decode cX3_several 56 = .ok (.iload_n 2, 1) := dk_28 (dk_at dksX3_several_2 8 rfl rfl)
theorem dX3_several_57 : decode cX3_several 57 = .ok (.invokestatic 258, 3) := dk_184 1 2 (dk_at dksX3_several_2 9 rfl rfl)
theorem dX3_several_60 : decode cX3_several 60 = .ok (.aload_n 0, 1) := dk_42 (dk_at dksX3_several_2 12 rfl rfl)
theorem dX3_several_61 : decode cX3_several 61 = .ok (.getfield 63, 3) := dk_180 0 63 (dk_at dksX3_several_2 13 rfl rfl)
theorem dX3_several_64 : decode cX3_several 64 = .ok (.iload_n 1, 1) := dk_27 (dk_at dksX3_several_2 16 rfl rfl)
theorem dX3_several_65 : decode cX3_several 65 = .ok (.iaload, 1) := dk_46 (dk_at dksX3_several_2 17 rfl rfl)
theorem dX3_several_66 : decode cX3_several 66 = .ok (.if_icmp .lt 24, 3) := dk_161 0 24 (dk_at dksX3_several_2 18 rfl rfl)
theorem dX3_several_69 : decode cX3_several 69 = .ok (.aload_n 0, 1) := dk_42 (dk_at dksX3_several_2 21 rfl rfl)
theorem dX3_several_70 : decode cX3_several 70 = .ok (.iload_n 3, 1) := dk_29 (dk_at dksX3_several_2 22 rfl rfl)
theorem dX3_several_71 : decode cX3_several 71 = .ok (.invokevirtual 409, 3) := dk_182 1 153 (dk_at dksX3_several_3 0 rfl rfl)
theorem dX3_several_74 : decode cX3_several 74 = .ok (.ifCond .eq 16, 3) := dk_153 0 16 (dk_at dksX3_several_3 3 rfl rfl)
theorem dX3_several_77 : decode cX3_several 77 = .ok (.aload_n 0, 1) := dk_42 (dk_at dksX3_several_3 6 rfl rfl)
theorem dX3_several_78 : decode cX3_several 78 = .ok (.aload_n 0, 1) := dk_42 (dk_at dksX3_several_3 7 rfl rfl)
theorem dX3_several_79 : decode cX3_several 79 = .ok (.getfield 57, 3) := dk_180 0 57 (dk_at dksX3_several_3 8 rfl rfl)
theorem dX3_several_82 : decode cX3_several 82 = .ok (.iload_n 1, 1) := dk_27 (dk_at dksX3_several_3 11 rfl rfl)
theorem dX3_several_83 : decode cX3_several 83 = .ok (.iaload, 1) := dk_46 (dk_at dksX3_several_3 12 rfl rfl)
theorem dX3_several_84 : decode cX3_several 84 = .ok (.invokevirtual 438, 3) := dk_182 1 182 (dk_at dksX3_several_3 13 rfl rfl)
theorem dX3_several_87 : decode cX3_several 87 = .ok (.ifCond .ne 5, 3) := dk_154 0 5 (dk_at dksX3_several_3 16 rfl rfl)
theorem dX3_several_90 : decode cX3_several 90 = .ok (.iconst (-1), 1) := dk_2 (dk_at dksX3_several_3 19 rfl rfl)
theorem dX3_several_91 : decode cX3_several 91 = .ok (.ireturn, 1) := dk_172 (dk_at dksX3_several_3 20 rfl rfl)
theorem dX3_several_92 : decode cX3_several 92 = .ok (.lload 4, 2) := dk_22 4 (dk_at dksX3_several_3 21 rfl rfl)
theorem dX3_several_94 : decode cX3_several 94 = .ok (.lstore 6, 2) := dk_55 6 (dk_at dksX3_several_4 0 rfl rfl)
theorem dX3_several_96 : decode cX3_several 96 = .ok (.iconst 1, 1) := dk_4 (dk_at dksX3_several_4 2 rfl rfl)
theorem dX3_several_97 : decode cX3_several 97 = .ok (.istore 8, 2) := dk_54 8 (dk_at dksX3_several_4 3 rfl rfl)
theorem dX3_several_99 : decode cX3_several 99 = .ok (.iconst 0, 1) := dk_3 (dk_at dksX3_several_4 5 rfl rfl)
theorem dX3_several_100 : decode cX3_several 100 = .ok (.istore 9, 2) := dk_54 9 (dk_at dksX3_several_4 6 rfl rfl)
theorem dX3_several_102 : decode cX3_several 102 = .ok (.iconst 0, 1) := dk_3 (dk_at dksX3_several_4 8 rfl rfl)
theorem dX3_several_103 : decode cX3_several 103 = .ok (.istore 10, 2) := dk_54 10 (dk_at dksX3_several_4 9 rfl rfl)
theorem dX3_several_105 : decode cX3_several 105 = .ok (.iload 10, 2) := dk_21 10 (dk_at dksX3_several_4 11 rfl rfl)
theorem dX3_several_107 : decode cX3_several 107 = .ok (.aload_n 0, 1) := dk_42 (dk_at dksX3_several_4 13 rfl rfl)
theorem dX3_several_108 : decode cX3_several 108 = .ok (.getfield 196, 3) := dk_180 0 196 (dk_at dksX3_several_4 14 rfl rfl)
theorem dX3_several_111 : decode cX3_several 111 = .ok (.if_icmp .ge 50, 3) := dk_162 0 50 (dk_at dksX3_several_4 17 rfl rfl)
theorem dX3_several_114 : decode cX3_several 114 = .ok (.iload_n 2, 1) := dk_28 (dk_at dksX3_several_4 20 rfl rfl)
theorem dX3_several_115 : decode cX3_several 115 = .ok (.iload 10, 2) := dk_21 10 (dk_at dksX3_several_4 21 rfl rfl)
theorem dX3_several_117 : decode cX3_several 117 = .ok (.ishr, 1) := dk_122 (dk_at dksX3_several_4 23 rfl rfl)
theorem dX3_several_118 : decode cX3_several 118 = .ok (.iconst 1, 1) := dk_4 (dk_at dksX3_several_5 0 rfl rfl)
theorem dX3_several_119 : decode cX3_several 119 = .ok (.iand, 1) := dk_126 (dk_at dksX3_several_5 1 rfl rfl)
theorem dX3_several_120 : decode cX3_several 120 = .ok (.ifCond .ne 6, 3) := dk_154 0 6 (dk_at dksX3_several_5 2 rfl rfl)
theorem dX3_several_123 : decode cX3_several 123 = .ok (.goto 32, 3) := dk_167 0 32 (dk_at dksX3_several_5 5 rfl rfl)
theorem dX3_several_126 : decode cX3_several 126 = .ok (.lload 6, 2) := dk_22 6 (dk_at dksX3_several_5 8 rfl rfl)
theorem dX3_several_128 : decode cX3_several 128 = .ok (.invokestatic 246, 3) := dk_184 0 246 (dk_at dksX3_several_5 10 rfl rfl)
theorem dX3_several_131 : decode cX3_several 131 = .ok (.lstore 6, 2) := dk_55 6 (dk_at dksX3_several_5 13 rfl rfl)
theorem dX3_several_133 : decode cX3_several 133 = .ok (.iload 8, 2) := dk_21 8 (dk_at dksX3_several_5 15 rfl rfl)
theorem dX3_several_135 : decode cX3_several 135 = .ok (.lload 6, 2) := dk_22 6 (dk_at dksX3_several_5 17 rfl rfl)
theorem dX3_several_137 : decode cX3_several 137 = .ok (.sipush 1018, 3) := dk_17 3 250 (dk_at dksX3_several_5 19 rfl rfl)
theorem dX3_several_140 : decode cX3_several 140 = .ok (.invokestatic 250, 3) := dk_184 0 250 (dk_at dksX3_several_6 0 rfl rfl)
theorem dX3_several_143 : decode cX3_several 143 = .ok (.iconst 1, 1) := dk_4 (dk_at dksX3_several_6 3 rfl rfl)
theorem dX3_several_144 : decode cX3_several 144 = .ok (.iadd, 1) := dk_96 (dk_at dksX3_several_6 4 rfl rfl)
theorem dX3_several_145 : decode cX3_several 145 = .ok (.invokestatic 220, 3) := dk_184 0 220 (dk_at dksX3_several_6 5 rfl rfl)
theorem dX3_several_148 : decode cX3_several 148 = .ok (.imul, 1) := dk_104 (dk_at dksX3_several_6 8 rfl rfl)
theorem dX3_several_149 : decode cX3_several 149 = .ok (.sipush 2039, 3) := dk_17 7 247 (dk_at dksX3_several_6 9 rfl rfl)
theorem dX3_several_152 : decode cX3_several 152 = .ok (.irem, 1) := dk_112 (dk_at dksX3_several_6 12 rfl rfl)
theorem dX3_several_153 : decode cX3_several 153 = .ok (.istore 8, 2) := dk_54 8 (dk_at dksX3_several_6 13 rfl rfl)
theorem dX3_several_155 : decode cX3_several 155 = .ok (.iinc 10 1, 3) := dk_132 10 1 (dk_at dksX3_several_6 15 rfl rfl)
theorem dX3_several_158 : decode cX3_several 158 = .ok (.goto (-53), 3) := dk_167 255 203 (dk_at dksX3_several_6 18 rfl rfl)
theorem dX3_several_161 : decode cX3_several 161 = .ok (.iload 8, 2) := dk_21 8 (dk_at dksX3_several_6 21 rfl rfl)
theorem dX3_several_163 : decode cX3_several 163 = .ok (.aload_n 0, 1) := dk_42 (dk_at dksX3_several_6 23 rfl rfl)
theorem dX3_several_164 : decode cX3_several 164 = .ok (.getfield 100, 3) := dk_180 0 100 (dk_at dksX3_several_7 0 rfl rfl)
theorem dX3_several_167 : decode cX3_several 167 = .ok (.iload_n 3, 1) := dk_29 (dk_at dksX3_several_7 3 rfl rfl)
theorem dX3_several_168 : decode cX3_several 168 = .ok (.iaload, 1) := dk_46 (dk_at dksX3_several_7 4 rfl rfl)
theorem dX3_several_169 : decode cX3_several 169 = .ok (.invokestatic 431, 3) := dk_184 1 175 (dk_at dksX3_several_7 5 rfl rfl)
theorem dX3_several_172 : decode cX3_several 172 = .ok (.istore 10, 2) := dk_54 10 (dk_at dksX3_several_7 8 rfl rfl)
theorem dX3_several_174 : decode cX3_several 174 = .ok (.iconst 0, 1) := dk_3 (dk_at dksX3_several_7 10 rfl rfl)
theorem dX3_several_175 : decode cX3_several 175 = .ok (.istore 11, 2) := dk_54 11 (dk_at dksX3_several_7 11 rfl rfl)
theorem dX3_several_177 : decode cX3_several 177 = .ok (.iload 11, 2) := dk_21 11 (dk_at dksX3_several_7 13 rfl rfl)
theorem dX3_several_179 : decode cX3_several 179 = .ok (.aload_n 0, 1) := dk_42 (dk_at dksX3_several_7 15 rfl rfl)
theorem dX3_several_180 : decode cX3_several 180 = .ok (.getfield 196, 3) := dk_180 0 196 (dk_at dksX3_several_7 16 rfl rfl)
theorem dX3_several_183 : decode cX3_several 183 = .ok (.if_icmp .ge 40, 3) := dk_162 0 40 (dk_at dksX3_several_7 19 rfl rfl)
theorem dX3_several_186 : decode cX3_several 186 = .ok (.iload 10, 2) := dk_21 10 (dk_at dksX3_several_7 22 rfl rfl)
theorem dX3_several_188 : decode cX3_several 188 = .ok (.ifCond .eq 35, 3) := dk_153 0 35 (dk_at dksX3_several_8 0 rfl rfl)
theorem dX3_several_191 : decode cX3_several 191 = .ok (.iload_n 2, 1) := dk_28 (dk_at dksX3_several_8 3 rfl rfl)
theorem dX3_several_192 : decode cX3_several 192 = .ok (.iload 11, 2) := dk_21 11 (dk_at dksX3_several_8 4 rfl rfl)
theorem dX3_several_194 : decode cX3_several 194 = .ok (.ishr, 1) := dk_122 (dk_at dksX3_several_8 6 rfl rfl)
theorem dX3_several_195 : decode cX3_several 195 = .ok (.iconst 1, 1) := dk_4 (dk_at dksX3_several_8 7 rfl rfl)
theorem dX3_several_196 : decode cX3_several 196 = .ok (.iand, 1) := dk_126 (dk_at dksX3_several_8 8 rfl rfl)
theorem dX3_several_197 : decode cX3_several 197 = .ok (.iconst 1, 1) := dk_4 (dk_at dksX3_several_8 9 rfl rfl)
theorem dX3_several_198 : decode cX3_several 198 = .ok (.if_icmp .ne 19, 3) := dk_160 0 19 (dk_at dksX3_several_8 10 rfl rfl)
theorem dX3_several_201 : decode cX3_several 201 = .ok (.aload_n 0, 1) := dk_42 (dk_at dksX3_several_8 13 rfl rfl)
theorem dX3_several_202 : decode cX3_several 202 = .ok (.getfield 38, 3) := dk_180 0 38 (dk_at dksX3_several_8 14 rfl rfl)
theorem dX3_several_205 : decode cX3_several 205 = .ok (.iload 11, 2) := dk_21 11 (dk_at dksX3_several_8 17 rfl rfl)
theorem dX3_several_207 : decode cX3_several 207 = .ok (.baload, 1) := dk_51 (dk_at dksX3_several_8 19 rfl rfl)
theorem dX3_several_208 : decode cX3_several 208 = .ok (.ifCond .eq 9, 3) := dk_153 0 9 (dk_at dksX3_several_8 20 rfl rfl)
theorem dX3_several_211 : decode cX3_several 211 = .ok (.bipush (-2), 2) := dk_16 254 (dk_at dksX3_several_9 0 rfl rfl)
theorem dX3_several_213 : decode cX3_several 213 = .ok (.iload 11, 2) := dk_21 11 (dk_at dksX3_several_9 2 rfl rfl)
theorem dX3_several_215 : decode cX3_several 215 = .ok (.isub, 1) := dk_100 (dk_at dksX3_several_9 4 rfl rfl)
theorem dX3_several_216 : decode cX3_several 216 = .ok (.ireturn, 1) := dk_172 (dk_at dksX3_several_9 5 rfl rfl)
theorem dX3_several_217 : decode cX3_several 217 = .ok (.iinc 11 1, 3) := dk_132 11 1 (dk_at dksX3_several_9 6 rfl rfl)
theorem dX3_several_220 : decode cX3_several 220 = .ok (.goto (-43), 3) := dk_167 255 213 (dk_at dksX3_several_9 9 rfl rfl)
theorem dX3_several_223 : decode cX3_several 223 = .ok (.lload 4, 2) := dk_22 4 (dk_at dksX3_several_9 12 rfl rfl)
theorem dX3_several_225 : decode cX3_several 225 = .ok (.lstore 6, 2) := dk_55 6 (dk_at dksX3_several_9 14 rfl rfl)
theorem dX3_several_227 : decode cX3_several 227 = .ok (.iconst 0, 1) := dk_3 (dk_at dksX3_several_9 16 rfl rfl)
theorem dX3_several_228 : decode cX3_several 228 = .ok (.istore 11, 2) := dk_54 11 (dk_at dksX3_several_9 17 rfl rfl)
theorem dX3_several_230 : decode cX3_several 230 = .ok (.iload 11, 2) := dk_21 11 (dk_at dksX3_several_9 19 rfl rfl)
theorem dX3_several_232 : decode cX3_several 232 = .ok (.aload_n 0, 1) := dk_42 (dk_at dksX3_several_9 21 rfl rfl)
theorem dX3_several_233 : decode cX3_several 233 = .ok (.getfield 196, 3) := dk_180 0 196 (dk_at dksX3_several_10 0 rfl rfl)
theorem dX3_several_236 : decode cX3_several 236 = .ok (.if_icmp .ge 69, 3) := dk_162 0 69 (dk_at dksX3_several_10 3 rfl rfl)
theorem dX3_several_239 : decode cX3_several 239 = .ok (.iload_n 2, 1) := dk_28 (dk_at dksX3_several_10 6 rfl rfl)
theorem dX3_several_240 : decode cX3_several 240 = .ok (.iload 11, 2) := dk_21 11 (dk_at dksX3_several_10 7 rfl rfl)
theorem dX3_several_242 : decode cX3_several 242 = .ok (.ishr, 1) := dk_122 (dk_at dksX3_several_10 9 rfl rfl)
theorem dX3_several_243 : decode cX3_several 243 = .ok (.iconst 1, 1) := dk_4 (dk_at dksX3_several_10 10 rfl rfl)
theorem dX3_several_244 : decode cX3_several 244 = .ok (.iand, 1) := dk_126 (dk_at dksX3_several_10 11 rfl rfl)
theorem dX3_several_245 : decode cX3_several 245 = .ok (.ifCond .ne 6, 3) := dk_154 0 6 (dk_at dksX3_several_10 12 rfl rfl)
theorem dX3_several_248 : decode cX3_several 248 = .ok (.goto 51, 3) := dk_167 0 51 (dk_at dksX3_several_10 15 rfl rfl)
theorem dX3_several_251 : decode cX3_several 251 = .ok (.lload 6, 2) := dk_22 6 (dk_at dksX3_several_10 18 rfl rfl)
theorem dX3_several_253 : decode cX3_several 253 = .ok (.invokestatic 246, 3) := dk_184 0 246 (dk_at dksX3_several_10 20 rfl rfl)
theorem dX3_several_256 : decode cX3_several 256 = .ok (.lstore 6, 2) := dk_55 6 (dk_at dksX3_several_11 0 rfl rfl)
theorem dX3_several_258 : decode cX3_several 258 = .ok (.iload 9, 2) := dk_21 9 (dk_at dksX3_several_11 2 rfl rfl)
theorem dX3_several_260 : decode cX3_several 260 = .ok (.lload 6, 2) := dk_22 6 (dk_at dksX3_several_11 4 rfl rfl)
theorem dX3_several_262 : decode cX3_several 262 = .ok (.sipush 1018, 3) := dk_17 3 250 (dk_at dksX3_several_11 6 rfl rfl)
theorem dX3_several_265 : decode cX3_several 265 = .ok (.invokestatic 250, 3) := dk_184 0 250 (dk_at dksX3_several_11 9 rfl rfl)
theorem dX3_several_268 : decode cX3_several 268 = .ok (.iadd, 1) := dk_96 (dk_at dksX3_several_11 12 rfl rfl)
theorem dX3_several_269 : decode cX3_several 269 = .ok (.iconst 1, 1) := dk_4 (dk_at dksX3_several_11 13 rfl rfl)
theorem dX3_several_270 : decode cX3_several 270 = .ok (.iadd, 1) := dk_96 (dk_at dksX3_several_11 14 rfl rfl)
theorem dX3_several_271 : decode cX3_several 271 = .ok (.iload 10, 2) := dk_21 10 (dk_at dksX3_several_11 15 rfl rfl)
theorem dX3_several_273 : decode cX3_several 273 = .ok (.iload 11, 2) := dk_21 11 (dk_at dksX3_several_11 17 rfl rfl)
theorem dX3_several_275 : decode cX3_several 275 = .ok (.iload_n 2, 1) := dk_28 (dk_at dksX3_several_11 19 rfl rfl)
theorem dX3_several_276 : decode cX3_several 276 = .ok (.invokestatic 288, 3) := dk_184 1 32 (dk_at dksX3_several_11 20 rfl rfl)
theorem dX3_several_279 : decode cX3_several 279 = .ok (.imul, 1) := dk_104 (dk_at dksX3_several_11 23 rfl rfl)
theorem dX3_several_280 : decode cX3_several 280 = .ok (.sipush 1019, 3) := dk_17 3 251 (dk_at dksX3_several_12 0 rfl rfl)
theorem dX3_several_283 : decode cX3_several 283 = .ok (.irem, 1) := dk_112 (dk_at dksX3_several_12 3 rfl rfl)
theorem dX3_several_284 : decode cX3_several 284 = .ok (.aload_n 0, 1) := dk_42 (dk_at dksX3_several_12 4 rfl rfl)
theorem dX3_several_285 : decode cX3_several 285 = .ok (.iload_n 1, 1) := dk_27 (dk_at dksX3_several_12 5 rfl rfl)
theorem dX3_several_286 : decode cX3_several 286 = .ok (.iload 11, 2) := dk_21 11 (dk_at dksX3_several_12 6 rfl rfl)
theorem dX3_several_288 : decode cX3_several 288 = .ok (.invokevirtual 273, 3) := dk_182 1 17 (dk_at dksX3_several_12 8 rfl rfl)
theorem dX3_several_291 : decode cX3_several 291 = .ok (.imul, 1) := dk_104 (dk_at dksX3_several_12 11 rfl rfl)
theorem dX3_several_292 : decode cX3_several 292 = .ok (.iadd, 1) := dk_96 (dk_at dksX3_several_12 12 rfl rfl)
theorem dX3_several_293 : decode cX3_several 293 = .ok (.sipush 1019, 3) := dk_17 3 251 (dk_at dksX3_several_12 13 rfl rfl)
theorem dX3_several_296 : decode cX3_several 296 = .ok (.irem, 1) := dk_112 (dk_at dksX3_several_12 16 rfl rfl)
theorem dX3_several_297 : decode cX3_several 297 = .ok (.istore 9, 2) := dk_54 9 (dk_at dksX3_several_12 17 rfl rfl)
theorem dX3_several_299 : decode cX3_several 299 = .ok (.iinc 11 1, 3) := dk_132 11 1 (dk_at dksX3_several_12 19 rfl rfl)
theorem dX3_several_302 : decode cX3_several 302 = .ok (.goto (-72), 3) := dk_167 255 184 (dk_at dksX3_several_13 0 rfl rfl)
theorem dX3_several_305 : decode cX3_several 305 = .ok (.aload_n 0, 1) := dk_42 (dk_at dksX3_several_13 3 rfl rfl)
theorem dX3_several_306 : decode cX3_several 306 = .ok (.iload 8, 2) := dk_21 8 (dk_at dksX3_several_13 4 rfl rfl)
theorem dX3_several_308 : decode cX3_several 308 = .ok (.iload 9, 2) := dk_21 9 (dk_at dksX3_several_13 6 rfl rfl)
theorem dX3_several_310 : decode cX3_several 310 = .ok (.aload_n 0, 1) := dk_42 (dk_at dksX3_several_13 8 rfl rfl)
theorem dX3_several_311 : decode cX3_several 311 = .ok (.getfield 57, 3) := dk_180 0 57 (dk_at dksX3_several_13 9 rfl rfl)
theorem dX3_several_314 : decode cX3_several 314 = .ok (.iload_n 1, 1) := dk_27 (dk_at dksX3_several_13 12 rfl rfl)
theorem dX3_several_315 : decode cX3_several 315 = .ok (.iaload, 1) := dk_46 (dk_at dksX3_several_13 13 rfl rfl)
theorem dX3_several_316 : decode cX3_several 316 = .ok (.iload_n 3, 1) := dk_29 (dk_at dksX3_several_13 14 rfl rfl)
theorem dX3_several_317 : decode cX3_several 317 = .ok (.invokevirtual 434, 3) := dk_182 1 178 (dk_at dksX3_several_13 15 rfl rfl)
theorem dX3_several_320 : decode cX3_several 320 = .ok (.ireturn, 1) := dk_172 (dk_at dksX3_several_13 18 rfl rfl)
abbrev cX3_signed : ByteArray := prog_22_method_85_code
def yX3_signed : MethodName := ⟨RX3, "signed", "(II)I"⟩
def dkwX3_signed_3 : List UInt8 := [180, 0, 145, 27, 46, 172, 42, 180, 0, 148, 27, 46, 172, 2, 172]
abbrev dktX3_signed_3 : List UInt8 := dkwX3_signed_3 ++ []
def dkwX3_signed_2 : List UInt8 := [42, 180, 0, 136, 27, 46, 172, 42, 180, 0, 139, 27, 46, 172, 42, 180, 0, 142, 27, 46, 172, 42]
abbrev dktX3_signed_2 : List UInt8 := dkwX3_signed_2 ++ dktX3_signed_3
def dkwX3_signed_1 : List UInt8 := [170, 0, 0, 0, 0, 69, 0, 0, 0, 0, 0, 0, 0, 4, 0, 0, 0, 34, 0, 0, 0, 41, 0, 0, 0, 48, 0, 0, 0, 55, 0, 0, 0, 62]
abbrev dktX3_signed_1 : List UInt8 := dkwX3_signed_1 ++ dktX3_signed_2
def dkwX3_signed_0 : List UInt8 := [42, 3, 181, 0, 181, 27, 3, 42, 180, 1, 172, 4, 100, 184, 0, 188, 154, 0, 5, 2, 172, 28]
abbrev dktX3_signed_0 : List UInt8 := dkwX3_signed_0 ++ dktX3_signed_1
theorem dksX3_signed_0 : cX3_signed.data.toList.drop 0 = dktX3_signed_0 := by decide +kernel
theorem dksX3_signed_1 : cX3_signed.data.toList.drop 22 = dktX3_signed_1 := dk_seg dksX3_signed_0 22 rfl rfl
theorem dksX3_signed_2 : cX3_signed.data.toList.drop 56 = dktX3_signed_2 := dk_seg dksX3_signed_1 34 rfl rfl
theorem dksX3_signed_3 : cX3_signed.data.toList.drop 78 = dktX3_signed_3 := dk_seg dksX3_signed_2 22 rfl rfl
theorem dX3_signed_0 : decode cX3_signed 0 = .ok (.aload_n 0, 1) := dk_42 (dk_at dksX3_signed_0 0 rfl rfl)
theorem dX3_signed_1 : decode cX3_signed 1 = .ok (.iconst 0, 1) := dk_3 (dk_at dksX3_signed_0 1 rfl rfl)
theorem dX3_signed_2 : decode cX3_signed 2 = .ok (.putfield 181, 3) := dk_181 0 181 (dk_at dksX3_signed_0 2 rfl rfl)
theorem dX3_signed_5 : decode cX3_signed 5 = .ok (.iload_n 1, 1) := dk_27 (dk_at dksX3_signed_0 5 rfl rfl)
theorem dX3_signed_6 : decode cX3_signed 6 = .ok (.iconst 0, 1) := dk_3 (dk_at dksX3_signed_0 6 rfl rfl)
theorem dX3_signed_7 : decode cX3_signed 7 = .ok (.aload_n 0, 1) := dk_42 (dk_at dksX3_signed_0 7 rfl rfl)
theorem dX3_signed_8 : decode cX3_signed 8 = .ok (.getfield 428, 3) := dk_180 1 172 (dk_at dksX3_signed_0 8 rfl rfl)
theorem dX3_signed_11 : decode cX3_signed 11 = .ok (.iconst 1, 1) := dk_4 (dk_at dksX3_signed_0 11 rfl rfl)
theorem dX3_signed_12 : decode cX3_signed 12 = .ok (.isub, 1) := dk_100 (dk_at dksX3_signed_0 12 rfl rfl)
theorem dX3_signed_13 : decode cX3_signed 13 = .ok (.invokestatic 188, 3) := dk_184 0 188 (dk_at dksX3_signed_0 13 rfl rfl)
theorem dX3_signed_16 : decode cX3_signed 16 = .ok (.ifCond .ne 5, 3) := dk_154 0 5 (dk_at dksX3_signed_0 16 rfl rfl)
theorem dX3_signed_19 : decode cX3_signed 19 = .ok (.iconst (-1), 1) := dk_2 (dk_at dksX3_signed_0 19 rfl rfl)
theorem dX3_signed_20 : decode cX3_signed 20 = .ok (.ireturn, 1) := dk_172 (dk_at dksX3_signed_0 20 rfl rfl)
theorem dX3_signed_21 : decode cX3_signed 21 = .ok (.iload_n 2, 1) := dk_28 (dk_at dksX3_signed_0 21 rfl rfl)
theorem dX3_signed_22 : decode cX3_signed 22 = .ok (.tableswitch 69 0 4 #[34, 41, 48, 55, 62], 34) := by decide +kernel
theorem dX3_signed_56 : decode cX3_signed 56 = .ok (.aload_n 0, 1) := dk_42 (dk_at dksX3_signed_2 0 rfl rfl)
theorem dX3_signed_57 : decode cX3_signed 57 = .ok (.getfield 136, 3) := dk_180 0 136 (dk_at dksX3_signed_2 1 rfl rfl)
theorem dX3_signed_60 : decode cX3_signed 60 = .ok (.iload_n 1, 1) := dk_27 (dk_at dksX3_signed_2 4 rfl rfl)
theorem dX3_signed_61 : decode cX3_signed 61 = .ok (.iaload, 1) := dk_46 (dk_at dksX3_signed_2 5 rfl rfl)
theorem dX3_signed_62 : decode cX3_signed 62 = .ok (.ireturn, 1) := dk_172 (dk_at dksX3_signed_2 6 rfl rfl)
theorem dX3_signed_63 : decode cX3_signed 63 = .ok (.aload_n 0, 1) := dk_42 (dk_at dksX3_signed_2 7 rfl rfl)
theorem dX3_signed_64 : decode cX3_signed 64 = .ok (.getfield 139, 3) := dk_180 0 139 (dk_at dksX3_signed_2 8 rfl rfl)
theorem dX3_signed_67 : decode cX3_signed 67 = .ok (.iload_n 1, 1) := dk_27 (dk_at dksX3_signed_2 11 rfl rfl)
theorem dX3_signed_68 : decode cX3_signed 68 = .ok (.iaload, 1) := dk_46 (dk_at dksX3_signed_2 12 rfl rfl)
theorem dX3_signed_69 : decode cX3_signed 69 = .ok (.ireturn, 1) := dk_172 (dk_at dksX3_signed_2 13 rfl rfl)
theorem dX3_signed_70 : decode cX3_signed 70 = .ok (.aload_n 0, 1) := dk_42 (dk_at dksX3_signed_2 14 rfl rfl)
theorem dX3_signed_71 : decode cX3_signed 71 = .ok (.getfield 142, 3) := dk_180 0 142 (dk_at dksX3_signed_2 15 rfl rfl)
theorem dX3_signed_74 : decode cX3_signed 74 = .ok (.iload_n 1, 1) := dk_27 (dk_at dksX3_signed_2 18 rfl rfl)
theorem dX3_signed_75 : decode cX3_signed 75 = .ok (.iaload, 1) := dk_46 (dk_at dksX3_signed_2 19 rfl rfl)
theorem dX3_signed_76 : decode cX3_signed 76 = .ok (.ireturn, 1) := dk_172 (dk_at dksX3_signed_2 20 rfl rfl)
theorem dX3_signed_77 : decode cX3_signed 77 = .ok (.aload_n 0, 1) := dk_42 (dk_at dksX3_signed_2 21 rfl rfl)
theorem dX3_signed_78 : decode cX3_signed 78 = .ok (.getfield 145, 3) := dk_180 0 145 (dk_at dksX3_signed_3 0 rfl rfl)
theorem dX3_signed_81 : decode cX3_signed 81 = .ok (.iload_n 1, 1) := dk_27 (dk_at dksX3_signed_3 3 rfl rfl)
theorem dX3_signed_82 : decode cX3_signed 82 = .ok (.iaload, 1) := dk_46 (dk_at dksX3_signed_3 4 rfl rfl)
theorem dX3_signed_83 : decode cX3_signed 83 = .ok (.ireturn, 1) := dk_172 (dk_at dksX3_signed_3 5 rfl rfl)
theorem dX3_signed_84 : decode cX3_signed 84 = .ok (.aload_n 0, 1) := dk_42 (dk_at dksX3_signed_3 6 rfl rfl)
theorem dX3_signed_85 : decode cX3_signed 85 = .ok (.getfield 148, 3) := dk_180 0 148 (dk_at dksX3_signed_3 7 rfl rfl)
theorem dX3_signed_88 : decode cX3_signed 88 = .ok (.iload_n 1, 1) := dk_27 (dk_at dksX3_signed_3 10 rfl rfl)
theorem dX3_signed_89 : decode cX3_signed 89 = .ok (.iaload, 1) := dk_46 (dk_at dksX3_signed_3 11 rfl rfl)
theorem dX3_signed_90 : decode cX3_signed 90 = .ok (.ireturn, 1) := dk_172 (dk_at dksX3_signed_3 12 rfl rfl)
theorem dX3_signed_91 : decode cX3_signed 91 = .ok (.iconst (-1), 1) := dk_2 (dk_at dksX3_signed_3 13 rfl rfl)
theorem dX3_signed_92 : decode cX3_signed 92 = .ok (.ireturn, 1) := dk_172 (dk_at dksX3_signed_3 14 rfl rfl)
abbrev cX3_taken : ByteArray := prog_22_method_86_code
def yX3_taken : MethodName := ⟨RX3, "taken", "(IIII)I"⟩
def dkwX3_taken_3 : List UInt8 := [184, 1, 175, 17, 7, 247, 184, 0, 192, 104, 17, 7, 247, 112, 160, 0, 7, 4, 167, 0, 4, 3, 172]
abbrev dktX3_taken_3 : List UInt8 := dkwX3_taken_3 ++ []
def dkwX3_taken_2 : List UInt8 := [21, 4, 184, 0, 220, 29, 42, 180, 0, 13, 28, 46, 184, 0, 220, 29, 42, 180, 0, 100, 27, 46]
abbrev dktX3_taken_2 : List UInt8 := dkwX3_taken_2 ++ dktX3_taken_3
def dkwX3_taken_1 : List UInt8 := [17, 7, 246, 184, 0, 188, 153, 0, 15, 21, 4, 3, 17, 3, 250, 184, 0, 188, 154, 0, 5, 2, 172]
abbrev dktX3_taken_1 : List UInt8 := dkwX3_taken_1 ++ dktX3_taken_2
def dkwX3_taken_0 : List UInt8 := [42, 3, 181, 0, 181, 42, 27, 182, 1, 153, 153, 0, 34, 42, 28, 182, 0, 216, 153, 0, 26, 29, 4]
abbrev dktX3_taken_0 : List UInt8 := dkwX3_taken_0 ++ dktX3_taken_1
theorem dksX3_taken_0 : cX3_taken.data.toList.drop 0 = dktX3_taken_0 := by decide +kernel
theorem dksX3_taken_1 : cX3_taken.data.toList.drop 23 = dktX3_taken_1 := dk_seg dksX3_taken_0 23 rfl rfl
theorem dksX3_taken_2 : cX3_taken.data.toList.drop 46 = dktX3_taken_2 := dk_seg dksX3_taken_1 23 rfl rfl
theorem dksX3_taken_3 : cX3_taken.data.toList.drop 68 = dktX3_taken_3 := dk_seg dksX3_taken_2 22 rfl rfl
theorem dX3_taken_0 : decode cX3_taken 0 = .ok (.aload_n 0, 1) := dk_42 (dk_at dksX3_taken_0 0 rfl rfl)
theorem dX3_taken_1 : decode cX3_taken 1 = .ok (.iconst 0, 1) := dk_3 (dk_at dksX3_taken_0 1 rfl rfl)
theorem dX3_taken_2 : decode cX3_taken 2 = .ok (.putfield 181, 3) := dk_181 0 181 (dk_at dksX3_taken_0 2 rfl rfl)
theorem dX3_taken_5 : decode cX3_taken 5 = .ok (.aload_n 0, 1) := dk_42 (dk_at dksX3_taken_0 5 rfl rfl)
theorem dX3_taken_6 : decode cX3_taken 6 = .ok (.iload_n 1, 1) := dk_27 (dk_at dksX3_taken_0 6 rfl rfl)
theorem dX3_taken_7 : decode cX3_taken 7 = .ok (.invokevirtual 409, 3) := dk_182 1 153 (dk_at dksX3_taken_0 7 rfl rfl)
theorem dX3_taken_10 : decode cX3_taken 10 = .ok (.ifCond .eq 34, 3) := dk_153 0 34 (dk_at dksX3_taken_0 10 rfl rfl)
theorem dX3_taken_13 : decode cX3_taken 13 = .ok (.aload_n 0, 1) := dk_42 (dk_at dksX3_taken_0 13 rfl rfl)
theorem dX3_taken_14 : decode cX3_taken 14 = .ok (.iload_n 2, 1) := dk_28 (dk_at dksX3_taken_0 14 rfl rfl)
theorem dX3_taken_15 : decode cX3_taken 15 = .ok (.invokevirtual 216, 3) := dk_182 0 216 (dk_at dksX3_taken_0 15 rfl rfl)
theorem dX3_taken_18 : decode cX3_taken 18 = .ok (.ifCond .eq 26, 3) := dk_153 0 26 (dk_at dksX3_taken_0 18 rfl rfl)
theorem dX3_taken_21 : decode cX3_taken 21 = .ok (.iload_n 3, 1) := dk_29 (dk_at dksX3_taken_0 21 rfl rfl)
theorem dX3_taken_22 : decode cX3_taken 22 = .ok (.iconst 1, 1) := dk_4 (dk_at dksX3_taken_0 22 rfl rfl)
theorem dX3_taken_23 : decode cX3_taken 23 = .ok (.sipush 2038, 3) := dk_17 7 246 (dk_at dksX3_taken_1 0 rfl rfl)
theorem dX3_taken_26 : decode cX3_taken 26 = .ok (.invokestatic 188, 3) := dk_184 0 188 (dk_at dksX3_taken_1 3 rfl rfl)
theorem dX3_taken_29 : decode cX3_taken 29 = .ok (.ifCond .eq 15, 3) := dk_153 0 15 (dk_at dksX3_taken_1 6 rfl rfl)
theorem dX3_taken_32 : decode cX3_taken 32 = .ok (.iload 4, 2) := dk_21 4 (dk_at dksX3_taken_1 9 rfl rfl)
theorem dX3_taken_34 : decode cX3_taken 34 = .ok (.iconst 0, 1) := dk_3 (dk_at dksX3_taken_1 11 rfl rfl)
theorem dX3_taken_35 : decode cX3_taken 35 = .ok (.sipush 1018, 3) := dk_17 3 250 (dk_at dksX3_taken_1 12 rfl rfl)
theorem dX3_taken_38 : decode cX3_taken 38 = .ok (.invokestatic 188, 3) := dk_184 0 188 (dk_at dksX3_taken_1 15 rfl rfl)
theorem dX3_taken_41 : decode cX3_taken 41 = .ok (.ifCond .ne 5, 3) := dk_154 0 5 (dk_at dksX3_taken_1 18 rfl rfl)
theorem dX3_taken_44 : decode cX3_taken 44 = .ok (.iconst (-1), 1) := dk_2 (dk_at dksX3_taken_1 21 rfl rfl)
theorem dX3_taken_45 : decode cX3_taken 45 = .ok (.ireturn, 1) := dk_172 (dk_at dksX3_taken_1 22 rfl rfl)
theorem dX3_taken_46 : decode cX3_taken 46 = .ok (.iload 4, 2) := dk_21 4 (dk_at dksX3_taken_2 0 rfl rfl)
theorem dX3_taken_48 : decode cX3_taken 48 = .ok (.invokestatic 220, 3) := dk_184 0 220 (dk_at dksX3_taken_2 2 rfl rfl)
theorem dX3_taken_51 : decode cX3_taken 51 = .ok (.iload_n 3, 1) := dk_29 (dk_at dksX3_taken_2 5 rfl rfl)
theorem dX3_taken_52 : decode cX3_taken 52 = .ok (.aload_n 0, 1) := dk_42 (dk_at dksX3_taken_2 6 rfl rfl)
theorem dX3_taken_53 : decode cX3_taken 53 = .ok (.getfield 13, 3) := dk_180 0 13 (dk_at dksX3_taken_2 7 rfl rfl)
theorem dX3_taken_56 : decode cX3_taken 56 = .ok (.iload_n 2, 1) := dk_28 (dk_at dksX3_taken_2 10 rfl rfl)
theorem dX3_taken_57 : decode cX3_taken 57 = .ok (.iaload, 1) := dk_46 (dk_at dksX3_taken_2 11 rfl rfl)
theorem dX3_taken_58 : decode cX3_taken 58 = .ok (.invokestatic 220, 3) := dk_184 0 220 (dk_at dksX3_taken_2 12 rfl rfl)
theorem dX3_taken_61 : decode cX3_taken 61 = .ok (.iload_n 3, 1) := dk_29 (dk_at dksX3_taken_2 15 rfl rfl)
theorem dX3_taken_62 : decode cX3_taken 62 = .ok (.aload_n 0, 1) := dk_42 (dk_at dksX3_taken_2 16 rfl rfl)
theorem dX3_taken_63 : decode cX3_taken 63 = .ok (.getfield 100, 3) := dk_180 0 100 (dk_at dksX3_taken_2 17 rfl rfl)
theorem dX3_taken_66 : decode cX3_taken 66 = .ok (.iload_n 1, 1) := dk_27 (dk_at dksX3_taken_2 20 rfl rfl)
theorem dX3_taken_67 : decode cX3_taken 67 = .ok (.iaload, 1) := dk_46 (dk_at dksX3_taken_2 21 rfl rfl)
theorem dX3_taken_68 : decode cX3_taken 68 = .ok (.invokestatic 431, 3) := dk_184 1 175 (dk_at dksX3_taken_3 0 rfl rfl)
theorem dX3_taken_71 : decode cX3_taken 71 = .ok (.sipush 2039, 3) := dk_17 7 247 (dk_at dksX3_taken_3 3 rfl rfl)
theorem dX3_taken_74 : decode cX3_taken 74 = .ok (.invokestatic 192, 3) := dk_184 0 192 (dk_at dksX3_taken_3 6 rfl rfl)
theorem dX3_taken_77 : decode cX3_taken 77 = .ok (.imul, 1) := dk_104 (dk_at dksX3_taken_3 9 rfl rfl)
theorem dX3_taken_78 : decode cX3_taken 78 = .ok (.sipush 2039, 3) := dk_17 7 247 (dk_at dksX3_taken_3 10 rfl rfl)
theorem dX3_taken_81 : decode cX3_taken 81 = .ok (.irem, 1) := dk_112 (dk_at dksX3_taken_3 13 rfl rfl)
theorem dX3_taken_82 : decode cX3_taken 82 = .ok (.if_icmp .ne 7, 3) := dk_160 0 7 (dk_at dksX3_taken_3 14 rfl rfl)
theorem dX3_taken_85 : decode cX3_taken 85 = .ok (.iconst 1, 1) := dk_4 (dk_at dksX3_taken_3 17 rfl rfl)
theorem dX3_taken_86 : decode cX3_taken 86 = .ok (.goto 4, 3) := dk_167 0 4 (dk_at dksX3_taken_3 18 rfl rfl)
theorem dX3_taken_89 : decode cX3_taken 89 = .ok (.iconst 0, 1) := dk_3 (dk_at dksX3_taken_3 21 rfl rfl)
theorem dX3_taken_90 : decode cX3_taken 90 = .ok (.ireturn, 1) := dk_172 (dk_at dksX3_taken_3 22 rfl rfl)
abbrev cX3_burn : ByteArray := prog_22_method_87_code
def yX3_burn : MethodName := ⟨RX3, "burn", "(II)Z"⟩
def dkwX3_burn_3 : List UInt8 := [96, 181, 1, 166, 4, 172]
abbrev dktX3_burn_3 : List UInt8 := dkwX3_burn_3 ++ []
def dkwX3_burn_2 : List UInt8 := [180, 1, 166, 28, 79, 42, 180, 0, 157, 42, 180, 1, 166, 42, 180, 0, 185, 79, 42, 89, 180, 1, 166, 4]
abbrev dktX3_burn_2 : List UInt8 := dkwX3_burn_2 ++ dktX3_burn_3
def dkwX3_burn_1 : List UInt8 := [184, 1, 160, 154, 0, 5, 3, 172, 42, 180, 0, 151, 42, 180, 1, 166, 27, 79, 42, 180, 0, 154, 42]
abbrev dktX3_burn_1 : List UInt8 := dkwX3_burn_1 ++ dktX3_burn_2
def dkwX3_burn_0 : List UInt8 := [42, 3, 181, 0, 181, 42, 180, 1, 166, 16, 60, 159, 0, 18, 42, 27, 182, 0, 216, 153, 0, 10, 28]
abbrev dktX3_burn_0 : List UInt8 := dkwX3_burn_0 ++ dktX3_burn_1
theorem dksX3_burn_0 : cX3_burn.data.toList.drop 0 = dktX3_burn_0 := by decide +kernel
theorem dksX3_burn_1 : cX3_burn.data.toList.drop 23 = dktX3_burn_1 := dk_seg dksX3_burn_0 23 rfl rfl
theorem dksX3_burn_2 : cX3_burn.data.toList.drop 46 = dktX3_burn_2 := dk_seg dksX3_burn_1 23 rfl rfl
theorem dksX3_burn_3 : cX3_burn.data.toList.drop 70 = dktX3_burn_3 := dk_seg dksX3_burn_2 24 rfl rfl
theorem dX3_burn_0 : decode cX3_burn 0 = .ok (.aload_n 0, 1) := dk_42 (dk_at dksX3_burn_0 0 rfl rfl)
theorem dX3_burn_1 : decode cX3_burn 1 = .ok (.iconst 0, 1) := dk_3 (dk_at dksX3_burn_0 1 rfl rfl)
theorem dX3_burn_2 : decode cX3_burn 2 = .ok (.putfield 181, 3) := dk_181 0 181 (dk_at dksX3_burn_0 2 rfl rfl)
theorem dX3_burn_5 : decode cX3_burn 5 = .ok (.aload_n 0, 1) := dk_42 (dk_at dksX3_burn_0 5 rfl rfl)
theorem dX3_burn_6 : decode cX3_burn 6 = .ok (.getfield 422, 3) := dk_180 1 166 (dk_at dksX3_burn_0 6 rfl rfl)
theorem dX3_burn_9 : decode cX3_burn 9 = .ok (.bipush 60, 2) := dk_16 60 (dk_at dksX3_burn_0 9 rfl rfl)
theorem dX3_burn_11 : decode cX3_burn 11 = .ok (.if_icmp .eq 18, 3) := dk_159 0 18 (dk_at dksX3_burn_0 11 rfl rfl)
theorem dX3_burn_14 : decode cX3_burn 14 = .ok (.aload_n 0, 1) := dk_42 (dk_at dksX3_burn_0 14 rfl rfl)
theorem dX3_burn_15 : decode cX3_burn 15 = .ok (.iload_n 1, 1) := dk_27 (dk_at dksX3_burn_0 15 rfl rfl)
theorem dX3_burn_16 : decode cX3_burn 16 = .ok (.invokevirtual 216, 3) := dk_182 0 216 (dk_at dksX3_burn_0 16 rfl rfl)
theorem dX3_burn_19 : decode cX3_burn 19 = .ok (.ifCond .eq 10, 3) := dk_153 0 10 (dk_at dksX3_burn_0 19 rfl rfl)
theorem dX3_burn_22 : decode cX3_burn 22 = .ok (.iload_n 2, 1) := dk_28 (dk_at dksX3_burn_0 22 rfl rfl)
theorem dX3_burn_23 : decode cX3_burn 23 = .ok (.invokestatic 416, 3) := dk_184 1 160 (dk_at dksX3_burn_1 0 rfl rfl)
theorem dX3_burn_26 : decode cX3_burn 26 = .ok (.ifCond .ne 5, 3) := dk_154 0 5 (dk_at dksX3_burn_1 3 rfl rfl)
theorem dX3_burn_29 : decode cX3_burn 29 = .ok (.iconst 0, 1) := dk_3 (dk_at dksX3_burn_1 6 rfl rfl)
theorem dX3_burn_30 : decode cX3_burn 30 = .ok (.ireturn, 1) := dk_172 (dk_at dksX3_burn_1 7 rfl rfl)
theorem dX3_burn_31 : decode cX3_burn 31 = .ok (.aload_n 0, 1) := dk_42 (dk_at dksX3_burn_1 8 rfl rfl)
theorem dX3_burn_32 : decode cX3_burn 32 = .ok (.getfield 151, 3) := dk_180 0 151 (dk_at dksX3_burn_1 9 rfl rfl)
theorem dX3_burn_35 : decode cX3_burn 35 = .ok (.aload_n 0, 1) := dk_42 (dk_at dksX3_burn_1 12 rfl rfl)
theorem dX3_burn_36 : decode cX3_burn 36 = .ok (.getfield 422, 3) := dk_180 1 166 (dk_at dksX3_burn_1 13 rfl rfl)
theorem dX3_burn_39 : decode cX3_burn 39 = .ok (.iload_n 1, 1) := dk_27 (dk_at dksX3_burn_1 16 rfl rfl)
theorem dX3_burn_40 : decode cX3_burn 40 = .ok (.iastore, 1) := dk_79 (dk_at dksX3_burn_1 17 rfl rfl)
theorem dX3_burn_41 : decode cX3_burn 41 = .ok (.aload_n 0, 1) := dk_42 (dk_at dksX3_burn_1 18 rfl rfl)
theorem dX3_burn_42 : decode cX3_burn 42 = .ok (.getfield 154, 3) := dk_180 0 154 (dk_at dksX3_burn_1 19 rfl rfl)
theorem dX3_burn_45 : decode cX3_burn 45 = .ok (.aload_n 0, 1) := dk_42 (dk_at dksX3_burn_1 22 rfl rfl)
theorem dX3_burn_46 : decode cX3_burn 46 = .ok (.getfield 422, 3) := dk_180 1 166 (dk_at dksX3_burn_2 0 rfl rfl)
theorem dX3_burn_49 : decode cX3_burn 49 = .ok (.iload_n 2, 1) := dk_28 (dk_at dksX3_burn_2 3 rfl rfl)
theorem dX3_burn_50 : decode cX3_burn 50 = .ok (.iastore, 1) := dk_79 (dk_at dksX3_burn_2 4 rfl rfl)
theorem dX3_burn_51 : decode cX3_burn 51 = .ok (.aload_n 0, 1) := dk_42 (dk_at dksX3_burn_2 5 rfl rfl)
theorem dX3_burn_52 : decode cX3_burn 52 = .ok (.getfield 157, 3) := dk_180 0 157 (dk_at dksX3_burn_2 6 rfl rfl)
theorem dX3_burn_55 : decode cX3_burn 55 = .ok (.aload_n 0, 1) := dk_42 (dk_at dksX3_burn_2 9 rfl rfl)
theorem dX3_burn_56 : decode cX3_burn 56 = .ok (.getfield 422, 3) := dk_180 1 166 (dk_at dksX3_burn_2 10 rfl rfl)
theorem dX3_burn_59 : decode cX3_burn 59 = .ok (.aload_n 0, 1) := dk_42 (dk_at dksX3_burn_2 13 rfl rfl)
theorem dX3_burn_60 : decode cX3_burn 60 = .ok (.getfield 185, 3) := dk_180 0 185 (dk_at dksX3_burn_2 14 rfl rfl)
theorem dX3_burn_63 : decode cX3_burn 63 = .ok (.iastore, 1) := dk_79 (dk_at dksX3_burn_2 17 rfl rfl)
theorem dX3_burn_64 : decode cX3_burn 64 = .ok (.aload_n 0, 1) := dk_42 (dk_at dksX3_burn_2 18 rfl rfl)
theorem dX3_burn_65 : decode cX3_burn 65 = .ok (.dup, 1) := dk_89 (dk_at dksX3_burn_2 19 rfl rfl)
theorem dX3_burn_66 : decode cX3_burn 66 = .ok (.getfield 422, 3) := dk_180 1 166 (dk_at dksX3_burn_2 20 rfl rfl)
theorem dX3_burn_69 : decode cX3_burn 69 = .ok (.iconst 1, 1) := dk_4 (dk_at dksX3_burn_2 23 rfl rfl)
theorem dX3_burn_70 : decode cX3_burn 70 = .ok (.iadd, 1) := dk_96 (dk_at dksX3_burn_3 0 rfl rfl)
theorem dX3_burn_71 : decode cX3_burn 71 = .ok (.putfield 422, 3) := dk_181 1 166 (dk_at dksX3_burn_3 1 rfl rfl)
theorem dX3_burn_74 : decode cX3_burn 74 = .ok (.iconst 1, 1) := dk_4 (dk_at dksX3_burn_3 4 rfl rfl)
theorem dX3_burn_75 : decode cX3_burn 75 = .ok (.ireturn, 1) := dk_172 (dk_at dksX3_burn_3 5 rfl rfl)
abbrev cX3_old : ByteArray := prog_22_method_88_code
def yX3_old : MethodName := ⟨RX3, "old", "(I)Z"⟩
def dkwX3_old_1 : List UInt8 := [172, 42, 180, 0, 22, 27, 42, 180, 0, 185, 79, 4, 172]
abbrev dktX3_old_1 : List UInt8 := dkwX3_old_1 ++ []
def dkwX3_old_0 : List UInt8 := [42, 3, 181, 0, 181, 42, 27, 182, 0, 216, 153, 0, 13, 42, 180, 0, 22, 27, 46, 2, 159, 0, 5, 3]
abbrev dktX3_old_0 : List UInt8 := dkwX3_old_0 ++ dktX3_old_1
theorem dksX3_old_0 : cX3_old.data.toList.drop 0 = dktX3_old_0 := by decide +kernel
theorem dksX3_old_1 : cX3_old.data.toList.drop 24 = dktX3_old_1 := dk_seg dksX3_old_0 24 rfl rfl
theorem dX3_old_0 : decode cX3_old 0 = .ok (.aload_n 0, 1) := dk_42 (dk_at dksX3_old_0 0 rfl rfl)
theorem dX3_old_1 : decode cX3_old 1 = .ok (.iconst 0, 1) := dk_3 (dk_at dksX3_old_0 1 rfl rfl)
theorem dX3_old_2 : decode cX3_old 2 = .ok (.putfield 181, 3) := dk_181 0 181 (dk_at dksX3_old_0 2 rfl rfl)
theorem dX3_old_5 : decode cX3_old 5 = .ok (.aload_n 0, 1) := dk_42 (dk_at dksX3_old_0 5 rfl rfl)
theorem dX3_old_6 : decode cX3_old 6 = .ok (.iload_n 1, 1) := dk_27 (dk_at dksX3_old_0 6 rfl rfl)
theorem dX3_old_7 : decode cX3_old 7 = .ok (.invokevirtual 216, 3) := dk_182 0 216 (dk_at dksX3_old_0 7 rfl rfl)
theorem dX3_old_10 : decode cX3_old 10 = .ok (.ifCond .eq 13, 3) := dk_153 0 13 (dk_at dksX3_old_0 10 rfl rfl)
theorem dX3_old_13 : decode cX3_old 13 = .ok (.aload_n 0, 1) := dk_42 (dk_at dksX3_old_0 13 rfl rfl)
theorem dX3_old_14 : decode cX3_old 14 = .ok (.getfield 22, 3) := dk_180 0 22 (dk_at dksX3_old_0 14 rfl rfl)
theorem dX3_old_17 : decode cX3_old 17 = .ok (.iload_n 1, 1) := dk_27 (dk_at dksX3_old_0 17 rfl rfl)
theorem dX3_old_18 : decode cX3_old 18 = .ok (.iaload, 1) := dk_46 (dk_at dksX3_old_0 18 rfl rfl)
theorem dX3_old_19 : decode cX3_old 19 = .ok (.iconst (-1), 1) := dk_2 (dk_at dksX3_old_0 19 rfl rfl)
theorem dX3_old_20 : decode cX3_old 20 = .ok (.if_icmp .eq 5, 3) := dk_159 0 5 (dk_at dksX3_old_0 20 rfl rfl)
theorem dX3_old_23 : decode cX3_old 23 = .ok (.iconst 0, 1) := dk_3 (dk_at dksX3_old_0 23 rfl rfl)
theorem dX3_old_24 : decode cX3_old 24 = .ok (.ireturn, 1) := dk_172 (dk_at dksX3_old_1 0 rfl rfl)
theorem dX3_old_25 : decode cX3_old 25 = .ok (.aload_n 0, 1) := dk_42 (dk_at dksX3_old_1 1 rfl rfl)
theorem dX3_old_26 : decode cX3_old 26 = .ok (.getfield 22, 3) := dk_180 0 22 (dk_at dksX3_old_1 2 rfl rfl)
theorem dX3_old_29 : decode cX3_old 29 = .ok (.iload_n 1, 1) := dk_27 (dk_at dksX3_old_1 5 rfl rfl)
theorem dX3_old_30 : decode cX3_old 30 = .ok (.aload_n 0, 1) := dk_42 (dk_at dksX3_old_1 6 rfl rfl)
theorem dX3_old_31 : decode cX3_old 31 = .ok (.getfield 185, 3) := dk_180 0 185 (dk_at dksX3_old_1 7 rfl rfl)
theorem dX3_old_34 : decode cX3_old 34 = .ok (.iastore, 1) := dk_79 (dk_at dksX3_old_1 10 rfl rfl)
theorem dX3_old_35 : decode cX3_old 35 = .ok (.iconst 1, 1) := dk_4 (dk_at dksX3_old_1 11 rfl rfl)
theorem dX3_old_36 : decode cX3_old 36 = .ok (.ireturn, 1) := dk_172 (dk_at dksX3_old_1 12 rfl rfl)
abbrev cX3_stands : ByteArray := prog_22_method_89_code
def yX3_stands : MethodName := ⟨RX3, "stands", "(II)I"⟩
def dkwX3_stands_4 : List UInt8 := [163, 0, 7, 6, 167, 0, 4, 5, 172]
abbrev dktX3_stands_4 : List UInt8 := dkwX3_stands_4 ++ []
def dkwX3_stands_3 : List UInt8 := [172, 42, 42, 180, 0, 142, 27, 46, 29, 182, 1, 169, 54, 5, 21, 5, 2, 159, 0, 13, 21, 5, 29]
abbrev dktX3_stands_3 : List UInt8 := dkwX3_stands_3 ++ dktX3_stands_4
def dkwX3_stands_2 : List UInt8 := [180, 0, 142, 27, 46, 28, 182, 1, 169, 54, 4, 21, 4, 2, 159, 0, 9, 21, 4, 29, 164, 0, 5, 4]
abbrev dktX3_stands_2 : List UInt8 := dkwX3_stands_2 ++ dktX3_stands_3
def dkwX3_stands_1 : List UInt8 := [153, 0, 13, 42, 180, 0, 148, 27, 46, 28, 164, 0, 5, 2, 172, 42, 180, 0, 148, 27, 46, 62, 42, 42]
abbrev dktX3_stands_1 : List UInt8 := dkwX3_stands_1 ++ dktX3_stands_2
def dkwX3_stands_0 : List UInt8 := [42, 3, 181, 0, 181, 27, 3, 42, 180, 1, 172, 4, 100, 184, 0, 188, 153, 0, 21, 42, 28, 182, 1, 51]
abbrev dktX3_stands_0 : List UInt8 := dkwX3_stands_0 ++ dktX3_stands_1
theorem dksX3_stands_0 : cX3_stands.data.toList.drop 0 = dktX3_stands_0 := by decide +kernel
theorem dksX3_stands_1 : cX3_stands.data.toList.drop 24 = dktX3_stands_1 := dk_seg dksX3_stands_0 24 rfl rfl
theorem dksX3_stands_2 : cX3_stands.data.toList.drop 48 = dktX3_stands_2 := dk_seg dksX3_stands_1 24 rfl rfl
theorem dksX3_stands_3 : cX3_stands.data.toList.drop 72 = dktX3_stands_3 := dk_seg dksX3_stands_2 24 rfl rfl
theorem dksX3_stands_4 : cX3_stands.data.toList.drop 95 = dktX3_stands_4 := dk_seg dksX3_stands_3 23 rfl rfl
theorem dX3_stands_0 : decode cX3_stands 0 = .ok (.aload_n 0, 1) := dk_42 (dk_at dksX3_stands_0 0 rfl rfl)
theorem dX3_stands_1 : decode cX3_stands 1 = .ok (.iconst 0, 1) := dk_3 (dk_at dksX3_stands_0 1 rfl rfl)
theorem dX3_stands_2 : decode cX3_stands 2 = .ok (.putfield 181, 3) := dk_181 0 181 (dk_at dksX3_stands_0 2 rfl rfl)
theorem dX3_stands_5 : decode cX3_stands 5 = .ok (.iload_n 1, 1) := dk_27 (dk_at dksX3_stands_0 5 rfl rfl)
theorem dX3_stands_6 : decode cX3_stands 6 = .ok (.iconst 0, 1) := dk_3 (dk_at dksX3_stands_0 6 rfl rfl)
theorem dX3_stands_7 : decode cX3_stands 7 = .ok (.aload_n 0, 1) := dk_42 (dk_at dksX3_stands_0 7 rfl rfl)
theorem dX3_stands_8 : decode cX3_stands 8 = .ok (.getfield 428, 3) := dk_180 1 172 (dk_at dksX3_stands_0 8 rfl rfl)
theorem dX3_stands_11 : decode cX3_stands 11 = .ok (.iconst 1, 1) := dk_4 (dk_at dksX3_stands_0 11 rfl rfl)
theorem dX3_stands_12 : decode cX3_stands 12 = .ok (.isub, 1) := dk_100 (dk_at dksX3_stands_0 12 rfl rfl)
theorem dX3_stands_13 : decode cX3_stands 13 = .ok (.invokestatic 188, 3) := dk_184 0 188 (dk_at dksX3_stands_0 13 rfl rfl)
theorem dX3_stands_16 : decode cX3_stands 16 = .ok (.ifCond .eq 21, 3) := dk_153 0 21 (dk_at dksX3_stands_0 16 rfl rfl)
theorem dX3_stands_19 : decode cX3_stands 19 = .ok (.aload_n 0, 1) := dk_42 (dk_at dksX3_stands_0 19 rfl rfl)
theorem dX3_stands_20 : decode cX3_stands 20 = .ok (.iload_n 2, 1) := dk_28 (dk_at dksX3_stands_0 20 rfl rfl)
theorem dX3_stands_21 : decode cX3_stands 21 = .ok (.invokevirtual 307, 3) := dk_182 1 51 (dk_at dksX3_stands_0 21 rfl rfl)
theorem dX3_stands_24 : decode cX3_stands 24 = .ok (.ifCond .eq 13, 3) := dk_153 0 13 (dk_at dksX3_stands_1 0 rfl rfl)
theorem dX3_stands_27 : decode cX3_stands 27 = .ok (.aload_n 0, 1) := dk_42 (dk_at dksX3_stands_1 3 rfl rfl)
theorem dX3_stands_28 : decode cX3_stands 28 = .ok (.getfield 148, 3) := dk_180 0 148 (dk_at dksX3_stands_1 4 rfl rfl)
theorem dX3_stands_31 : decode cX3_stands 31 = .ok (.iload_n 1, 1) := dk_27 (dk_at dksX3_stands_1 7 rfl rfl)
theorem dX3_stands_32 : decode cX3_stands 32 = .ok (.iaload, 1) := dk_46 (dk_at dksX3_stands_1 8 rfl rfl)
theorem dX3_stands_33 : decode cX3_stands 33 = .ok (.iload_n 2, 1) := dk_28 (dk_at dksX3_stands_1 9 rfl rfl)
theorem dX3_stands_34 : decode cX3_stands 34 = .ok (.if_icmp .le 5, 3) := dk_164 0 5 (dk_at dksX3_stands_1 10 rfl rfl)
theorem dX3_stands_37 : decode cX3_stands 37 = .ok (.iconst (-1), 1) := dk_2 (dk_at dksX3_stands_1 13 rfl rfl)
theorem dX3_stands_38 : decode cX3_stands 38 = .ok (.ireturn, 1) := dk_172 (dk_at dksX3_stands_1 14 rfl rfl)
theorem dX3_stands_39 : decode cX3_stands 39 = .ok (.aload_n 0, 1) := dk_42 (dk_at dksX3_stands_1 15 rfl rfl)
theorem dX3_stands_40 : decode cX3_stands 40 = .ok (.getfield 148, 3) := dk_180 0 148 (dk_at dksX3_stands_1 16 rfl rfl)
theorem dX3_stands_43 : decode cX3_stands 43 = .ok (.iload_n 1, 1) := dk_27 (dk_at dksX3_stands_1 19 rfl rfl)
theorem dX3_stands_44 : decode cX3_stands 44 = .ok (.iaload, 1) := dk_46 (dk_at dksX3_stands_1 20 rfl rfl)
theorem dX3_stands_45 : decode cX3_stands 45 = .ok (.istore_n 3, 1) := dk_62 (dk_at dksX3_stands_1 21 rfl rfl)
theorem dX3_stands_46 : decode cX3_stands 46 = .ok (.aload_n 0, 1) := dk_42 (dk_at dksX3_stands_1 22 rfl rfl)
theorem dX3_stands_47 : decode cX3_stands 47 = .ok (.aload_n 0, 1) := dk_42 (dk_at dksX3_stands_1 23 rfl rfl)
theorem dX3_stands_48 : decode cX3_stands 48 = .ok (.getfield 142, 3) := dk_180 0 142 (dk_at dksX3_stands_2 0 rfl rfl)
theorem dX3_stands_51 : decode cX3_stands 51 = .ok (.iload_n 1, 1) := dk_27 (dk_at dksX3_stands_2 3 rfl rfl)
theorem dX3_stands_52 : decode cX3_stands 52 = .ok (.iaload, 1) := dk_46 (dk_at dksX3_stands_2 4 rfl rfl)
theorem dX3_stands_53 : decode cX3_stands 53 = .ok (.iload_n 2, 1) := dk_28 (dk_at dksX3_stands_2 5 rfl rfl)
theorem dX3_stands_54 : decode cX3_stands 54 = .ok (.invokevirtual 425, 3) := dk_182 1 169 (dk_at dksX3_stands_2 6 rfl rfl)
theorem dX3_stands_57 : decode cX3_stands 57 = .ok (.istore 4, 2) := dk_54 4 (dk_at dksX3_stands_2 9 rfl rfl)
theorem dX3_stands_59 : decode cX3_stands 59 = .ok (.iload 4, 2) := dk_21 4 (dk_at dksX3_stands_2 11 rfl rfl)
theorem dX3_stands_61 : decode cX3_stands 61 = .ok (.iconst (-1), 1) := dk_2 (dk_at dksX3_stands_2 13 rfl rfl)
theorem dX3_stands_62 : decode cX3_stands 62 = .ok (.if_icmp .eq 9, 3) := dk_159 0 9 (dk_at dksX3_stands_2 14 rfl rfl)
theorem dX3_stands_65 : decode cX3_stands 65 = .ok (.iload 4, 2) := dk_21 4 (dk_at dksX3_stands_2 17 rfl rfl)
theorem dX3_stands_67 : decode cX3_stands 67 = .ok (.iload_n 3, 1) := dk_29 (dk_at dksX3_stands_2 19 rfl rfl)
theorem dX3_stands_68 : decode cX3_stands 68 = .ok (.if_icmp .le 5, 3) := dk_164 0 5 (dk_at dksX3_stands_2 20 rfl rfl)
theorem dX3_stands_71 : decode cX3_stands 71 = .ok (.iconst 1, 1) := dk_4 (dk_at dksX3_stands_2 23 rfl rfl)
theorem dX3_stands_72 : decode cX3_stands 72 = .ok (.ireturn, 1) := dk_172 (dk_at dksX3_stands_3 0 rfl rfl)
theorem dX3_stands_73 : decode cX3_stands 73 = .ok (.aload_n 0, 1) := dk_42 (dk_at dksX3_stands_3 1 rfl rfl)
theorem dX3_stands_74 : decode cX3_stands 74 = .ok (.aload_n 0, 1) := dk_42 (dk_at dksX3_stands_3 2 rfl rfl)
theorem dX3_stands_75 : decode cX3_stands 75 = .ok (.getfield 142, 3) := dk_180 0 142 (dk_at dksX3_stands_3 3 rfl rfl)
theorem dX3_stands_78 : decode cX3_stands 78 = .ok (.iload_n 1, 1) := dk_27 (dk_at dksX3_stands_3 6 rfl rfl)
theorem dX3_stands_79 : decode cX3_stands 79 = .ok (.iaload, 1) := dk_46 (dk_at dksX3_stands_3 7 rfl rfl)
theorem dX3_stands_80 : decode cX3_stands 80 = .ok (.iload_n 3, 1) := dk_29 (dk_at dksX3_stands_3 8 rfl rfl)
theorem dX3_stands_81 : decode cX3_stands 81 = .ok (.invokevirtual 425, 3) := dk_182 1 169 (dk_at dksX3_stands_3 9 rfl rfl)
theorem dX3_stands_84 : decode cX3_stands 84 = .ok (.istore 5, 2) := dk_54 5 (dk_at dksX3_stands_3 12 rfl rfl)
theorem dX3_stands_86 : decode cX3_stands 86 = .ok (.iload 5, 2) := dk_21 5 (dk_at dksX3_stands_3 14 rfl rfl)
theorem dX3_stands_88 : decode cX3_stands 88 = .ok (.iconst (-1), 1) := dk_2 (dk_at dksX3_stands_3 16 rfl rfl)
theorem dX3_stands_89 : decode cX3_stands 89 = .ok (.if_icmp .eq 13, 3) := dk_159 0 13 (dk_at dksX3_stands_3 17 rfl rfl)
theorem dX3_stands_92 : decode cX3_stands 92 = .ok (.iload 5, 2) := dk_21 5 (dk_at dksX3_stands_3 20 rfl rfl)
theorem dX3_stands_94 : decode cX3_stands 94 = .ok (.iload_n 3, 1) := dk_29 (dk_at dksX3_stands_3 22 rfl rfl)
theorem dX3_stands_95 : decode cX3_stands 95 = .ok (.if_icmp .gt 7, 3) := dk_163 0 7 (dk_at dksX3_stands_4 0 rfl rfl)
theorem dX3_stands_98 : decode cX3_stands 98 = .ok (.iconst 3, 1) := dk_6 (dk_at dksX3_stands_4 3 rfl rfl)
theorem dX3_stands_99 : decode cX3_stands 99 = .ok (.goto 4, 3) := dk_167 0 4 (dk_at dksX3_stands_4 4 rfl rfl)
theorem dX3_stands_102 : decode cX3_stands 102 = .ok (.iconst 2, 1) := dk_5 (dk_at dksX3_stands_4 7 rfl rfl)
theorem dX3_stands_103 : decode cX3_stands 103 = .ok (.ireturn, 1) := dk_172 (dk_at dksX3_stands_4 8 rfl rfl)
abbrev cX3_lend : ByteArray := prog_22_method_90_code
def yX3_lend : MethodName := ⟨RX3, "lend", "(IIIII)I"⟩
def dkwX3_lend_5 : List UInt8 := [180, 1, 188, 4, 96, 181, 1, 188, 42, 180, 1, 188, 4, 100, 172]
abbrev dktX3_lend_5 : List UInt8 := dkwX3_lend_5 ++ []
def dkwX3_lend_4 : List UInt8 := [180, 0, 166, 42, 180, 1, 188, 21, 4, 79, 42, 180, 0, 169, 42, 180, 1, 188, 21, 5, 79, 42, 89]
abbrev dktX3_lend_4 : List UInt8 := dkwX3_lend_4 ++ dktX3_lend_5
def dkwX3_lend_3 : List UInt8 := [172, 42, 180, 0, 160, 42, 180, 1, 188, 27, 79, 42, 180, 0, 163, 42, 180, 1, 188, 29, 79, 42]
abbrev dktX3_lend_3 : List UInt8 := dkwX3_lend_3 ++ dktX3_lend_4
def dkwX3_lend_2 : List UInt8 := [16, 100, 184, 0, 188, 153, 0, 18, 21, 5, 2, 159, 0, 14, 42, 21, 5, 182, 1, 153, 154, 0, 5, 2]
abbrev dktX3_lend_2 : List UInt8 := dkwX3_lend_2 ++ dktX3_lend_3
def dkwX3_lend_1 : List UInt8 := [182, 0, 226, 153, 0, 43, 29, 42, 180, 0, 185, 17, 7, 208, 184, 0, 188, 153, 0, 29, 21, 4, 4]
abbrev dktX3_lend_1 : List UInt8 := dkwX3_lend_1 ++ dktX3_lend_2
def dkwX3_lend_0 : List UInt8 := [42, 3, 181, 0, 181, 42, 180, 1, 188, 16, 40, 159, 0, 59, 42, 27, 182, 0, 216, 153, 0, 51, 42, 28]
abbrev dktX3_lend_0 : List UInt8 := dkwX3_lend_0 ++ dktX3_lend_1
theorem dksX3_lend_0 : cX3_lend.data.toList.drop 0 = dktX3_lend_0 := by decide +kernel
theorem dksX3_lend_1 : cX3_lend.data.toList.drop 24 = dktX3_lend_1 := dk_seg dksX3_lend_0 24 rfl rfl
theorem dksX3_lend_2 : cX3_lend.data.toList.drop 47 = dktX3_lend_2 := dk_seg dksX3_lend_1 23 rfl rfl
theorem dksX3_lend_3 : cX3_lend.data.toList.drop 71 = dktX3_lend_3 := dk_seg dksX3_lend_2 24 rfl rfl
theorem dksX3_lend_4 : cX3_lend.data.toList.drop 93 = dktX3_lend_4 := dk_seg dksX3_lend_3 22 rfl rfl
theorem dksX3_lend_5 : cX3_lend.data.toList.drop 116 = dktX3_lend_5 := dk_seg dksX3_lend_4 23 rfl rfl
theorem dX3_lend_0 : decode cX3_lend 0 = .ok (.aload_n 0, 1) := dk_42 (dk_at dksX3_lend_0 0 rfl rfl)
theorem dX3_lend_1 : decode cX3_lend 1 = .ok (.iconst 0, 1) := dk_3 (dk_at dksX3_lend_0 1 rfl rfl)
theorem dX3_lend_2 : decode cX3_lend 2 = .ok (.putfield 181, 3) := dk_181 0 181 (dk_at dksX3_lend_0 2 rfl rfl)
theorem dX3_lend_5 : decode cX3_lend 5 = .ok (.aload_n 0, 1) := dk_42 (dk_at dksX3_lend_0 5 rfl rfl)
theorem dX3_lend_6 : decode cX3_lend 6 = .ok (.getfield 444, 3) := dk_180 1 188 (dk_at dksX3_lend_0 6 rfl rfl)
theorem dX3_lend_9 : decode cX3_lend 9 = .ok (.bipush 40, 2) := dk_16 40 (dk_at dksX3_lend_0 9 rfl rfl)
theorem dX3_lend_11 : decode cX3_lend 11 = .ok (.if_icmp .eq 59, 3) := dk_159 0 59 (dk_at dksX3_lend_0 11 rfl rfl)
theorem dX3_lend_14 : decode cX3_lend 14 = .ok (.aload_n 0, 1) := dk_42 (dk_at dksX3_lend_0 14 rfl rfl)
theorem dX3_lend_15 : decode cX3_lend 15 = .ok (.iload_n 1, 1) := dk_27 (dk_at dksX3_lend_0 15 rfl rfl)
theorem dX3_lend_16 : decode cX3_lend 16 = .ok (.invokevirtual 216, 3) := dk_182 0 216 (dk_at dksX3_lend_0 16 rfl rfl)
theorem dX3_lend_19 : decode cX3_lend 19 = .ok (.ifCond .eq 51, 3) := dk_153 0 51 (dk_at dksX3_lend_0 19 rfl rfl)
theorem dX3_lend_22 : decode cX3_lend 22 = .ok (.aload_n 0, 1) := dk_42 (dk_at dksX3_lend_0 22 rfl rfl)
theorem dX3_lend_23 : decode cX3_lend 23 = .ok (.iload_n 2, 1) := dk_28 (dk_at dksX3_lend_0 23 rfl rfl)
theorem dX3_lend_24 : decode cX3_lend 24 = .ok (.invokevirtual 226, 3) := dk_182 0 226 (dk_at dksX3_lend_1 0 rfl rfl)
theorem dX3_lend_27 : decode cX3_lend 27 = .ok (.ifCond .eq 43, 3) := dk_153 0 43 (dk_at dksX3_lend_1 3 rfl rfl)
theorem dX3_lend_30 : decode cX3_lend 30 = .ok (.iload_n 3, 1) := dk_29 (dk_at dksX3_lend_1 6 rfl rfl)
theorem dX3_lend_31 : decode cX3_lend 31 = .ok (.aload_n 0, 1) := dk_42 (dk_at dksX3_lend_1 7 rfl rfl)
theorem dX3_lend_32 : decode cX3_lend 32 = .ok (.getfield 185, 3) := dk_180 0 185 (dk_at dksX3_lend_1 8 rfl rfl)
theorem dX3_lend_35 : decode cX3_lend 35 = .ok (.sipush 2000, 3) := dk_17 7 208 (dk_at dksX3_lend_1 11 rfl rfl)
theorem dX3_lend_38 : decode cX3_lend 38 = .ok (.invokestatic 188, 3) := dk_184 0 188 (dk_at dksX3_lend_1 14 rfl rfl)
theorem dX3_lend_41 : decode cX3_lend 41 = .ok (.ifCond .eq 29, 3) := dk_153 0 29 (dk_at dksX3_lend_1 17 rfl rfl)
theorem dX3_lend_44 : decode cX3_lend 44 = .ok (.iload 4, 2) := dk_21 4 (dk_at dksX3_lend_1 20 rfl rfl)
theorem dX3_lend_46 : decode cX3_lend 46 = .ok (.iconst 1, 1) := dk_4 (dk_at dksX3_lend_1 22 rfl rfl)
theorem dX3_lend_47 : decode cX3_lend 47 = .ok (.bipush 100, 2) := dk_16 100 (dk_at dksX3_lend_2 0 rfl rfl)
theorem dX3_lend_49 : decode cX3_lend 49 = .ok (.invokestatic 188, 3) := dk_184 0 188 (dk_at dksX3_lend_2 2 rfl rfl)
theorem dX3_lend_52 : decode cX3_lend 52 = .ok (.ifCond .eq 18, 3) := dk_153 0 18 (dk_at dksX3_lend_2 5 rfl rfl)
theorem dX3_lend_55 : decode cX3_lend 55 = .ok (.iload 5, 2) := dk_21 5 (dk_at dksX3_lend_2 8 rfl rfl)
theorem dX3_lend_57 : decode cX3_lend 57 = .ok (.iconst (-1), 1) := dk_2 (dk_at dksX3_lend_2 10 rfl rfl)
theorem dX3_lend_58 : decode cX3_lend 58 = .ok (.if_icmp .eq 14, 3) := dk_159 0 14 (dk_at dksX3_lend_2 11 rfl rfl)
theorem dX3_lend_61 : decode cX3_lend 61 = .ok (.aload_n 0, 1) := dk_42 (dk_at dksX3_lend_2 14 rfl rfl)
theorem dX3_lend_62 : decode cX3_lend 62 = .ok (.iload 5, 2) := dk_21 5 (dk_at dksX3_lend_2 15 rfl rfl)
theorem dX3_lend_64 : decode cX3_lend 64 = .ok (.invokevirtual 409, 3) := dk_182 1 153 (dk_at dksX3_lend_2 17 rfl rfl)
theorem dX3_lend_67 : decode cX3_lend 67 = .ok (.ifCond .ne 5, 3) := dk_154 0 5 (dk_at dksX3_lend_2 20 rfl rfl)
theorem dX3_lend_70 : decode cX3_lend 70 = .ok (.iconst (-1), 1) := dk_2 (dk_at dksX3_lend_2 23 rfl rfl)
theorem dX3_lend_71 : decode cX3_lend 71 = .ok (.ireturn, 1) := dk_172 (dk_at dksX3_lend_3 0 rfl rfl)
theorem dX3_lend_72 : decode cX3_lend 72 = .ok (.aload_n 0, 1) := dk_42 (dk_at dksX3_lend_3 1 rfl rfl)
theorem dX3_lend_73 : decode cX3_lend 73 = .ok (.getfield 160, 3) := dk_180 0 160 (dk_at dksX3_lend_3 2 rfl rfl)
theorem dX3_lend_76 : decode cX3_lend 76 = .ok (.aload_n 0, 1) := dk_42 (dk_at dksX3_lend_3 5 rfl rfl)
theorem dX3_lend_77 : decode cX3_lend 77 = .ok (.getfield 444, 3) := dk_180 1 188 (dk_at dksX3_lend_3 6 rfl rfl)
theorem dX3_lend_80 : decode cX3_lend 80 = .ok (.iload_n 1, 1) := dk_27 (dk_at dksX3_lend_3 9 rfl rfl)
theorem dX3_lend_81 : decode cX3_lend 81 = .ok (.iastore, 1) := dk_79 (dk_at dksX3_lend_3 10 rfl rfl)
theorem dX3_lend_82 : decode cX3_lend 82 = .ok (.aload_n 0, 1) := dk_42 (dk_at dksX3_lend_3 11 rfl rfl)
theorem dX3_lend_83 : decode cX3_lend 83 = .ok (.getfield 163, 3) := dk_180 0 163 (dk_at dksX3_lend_3 12 rfl rfl)
theorem dX3_lend_86 : decode cX3_lend 86 = .ok (.aload_n 0, 1) := dk_42 (dk_at dksX3_lend_3 15 rfl rfl)
theorem dX3_lend_87 : decode cX3_lend 87 = .ok (.getfield 444, 3) := dk_180 1 188 (dk_at dksX3_lend_3 16 rfl rfl)
theorem dX3_lend_90 : decode cX3_lend 90 = .ok (.iload_n 3, 1) := dk_29 (dk_at dksX3_lend_3 19 rfl rfl)
theorem dX3_lend_91 : decode cX3_lend 91 = .ok (.iastore, 1) := dk_79 (dk_at dksX3_lend_3 20 rfl rfl)
theorem dX3_lend_92 : decode cX3_lend 92 = .ok (.aload_n 0, 1) := dk_42 (dk_at dksX3_lend_3 21 rfl rfl)
theorem dX3_lend_93 : decode cX3_lend 93 = .ok (.getfield 166, 3) := dk_180 0 166 (dk_at dksX3_lend_4 0 rfl rfl)
theorem dX3_lend_96 : decode cX3_lend 96 = .ok (.aload_n 0, 1) := dk_42 (dk_at dksX3_lend_4 3 rfl rfl)
theorem dX3_lend_97 : decode cX3_lend 97 = .ok (.getfield 444, 3) := dk_180 1 188 (dk_at dksX3_lend_4 4 rfl rfl)
theorem dX3_lend_100 : decode cX3_lend 100 = .ok (.iload 4, 2) := dk_21 4 (dk_at dksX3_lend_4 7 rfl rfl)
theorem dX3_lend_102 : decode cX3_lend 102 = .ok (.iastore, 1) := dk_79 (dk_at dksX3_lend_4 9 rfl rfl)
theorem dX3_lend_103 : decode cX3_lend 103 = .ok (.aload_n 0, 1) := dk_42 (dk_at dksX3_lend_4 10 rfl rfl)
theorem dX3_lend_104 : decode cX3_lend 104 = .ok (.getfield 169, 3) := dk_180 0 169 (dk_at dksX3_lend_4 11 rfl rfl)
theorem dX3_lend_107 : decode cX3_lend 107 = .ok (.aload_n 0, 1) := dk_42 (dk_at dksX3_lend_4 14 rfl rfl)
theorem dX3_lend_108 : decode cX3_lend 108 = .ok (.getfield 444, 3) := dk_180 1 188 (dk_at dksX3_lend_4 15 rfl rfl)
theorem dX3_lend_111 : decode cX3_lend 111 = .ok (.iload 5, 2) := dk_21 5 (dk_at dksX3_lend_4 18 rfl rfl)
theorem dX3_lend_113 : decode cX3_lend 113 = .ok (.iastore, 1) := dk_79 (dk_at dksX3_lend_4 20 rfl rfl)
theorem dX3_lend_114 : decode cX3_lend 114 = .ok (.aload_n 0, 1) := dk_42 (dk_at dksX3_lend_4 21 rfl rfl)
theorem dX3_lend_115 : decode cX3_lend 115 = .ok (.dup, 1) := dk_89 (dk_at dksX3_lend_4 22 rfl rfl)
theorem dX3_lend_116 : decode cX3_lend 116 = .ok (.getfield 444, 3) := dk_180 1 188 (dk_at dksX3_lend_5 0 rfl rfl)
theorem dX3_lend_119 : decode cX3_lend 119 = .ok (.iconst 1, 1) := dk_4 (dk_at dksX3_lend_5 3 rfl rfl)
theorem dX3_lend_120 : decode cX3_lend 120 = .ok (.iadd, 1) := dk_96 (dk_at dksX3_lend_5 4 rfl rfl)
theorem dX3_lend_121 : decode cX3_lend 121 = .ok (.putfield 444, 3) := dk_181 1 188 (dk_at dksX3_lend_5 5 rfl rfl)
theorem dX3_lend_124 : decode cX3_lend 124 = .ok (.aload_n 0, 1) := dk_42 (dk_at dksX3_lend_5 8 rfl rfl)
theorem dX3_lend_125 : decode cX3_lend 125 = .ok (.getfield 444, 3) := dk_180 1 188 (dk_at dksX3_lend_5 9 rfl rfl)
theorem dX3_lend_128 : decode cX3_lend 128 = .ok (.iconst 1, 1) := dk_4 (dk_at dksX3_lend_5 12 rfl rfl)
theorem dX3_lend_129 : decode cX3_lend 129 = .ok (.isub, 1) := dk_100 (dk_at dksX3_lend_5 13 rfl rfl)
theorem dX3_lend_130 : decode cX3_lend 130 = .ok (.ireturn, 1) := dk_172 (dk_at dksX3_lend_5 14 rfl rfl)
abbrev cX3_use : ByteArray := prog_22_method_91_code
def yX3_use : MethodName := ⟨RX3, "use", "(III)I"⟩
def dkwX3_use_5 : List UInt8 := [42, 180, 0, 166, 27, 92, 46, 4, 100, 79, 42, 42, 180, 0, 160, 27, 46, 28, 29, 182, 1, 185, 172]
abbrev dktX3_use_5 : List UInt8 := dkwX3_use_5 ++ []
def dkwX3_use_4 : List UInt8 := [180, 0, 169, 27, 46, 28, 160, 0, 16, 42, 42, 180, 0, 160, 27, 46, 182, 1, 182, 154, 0, 5, 2, 172]
abbrev dktX3_use_4 : List UInt8 := dkwX3_use_4 ++ dktX3_use_5
def dkwX3_use_3 : List UInt8 := [163, 0, 45, 42, 180, 0, 166, 27, 46, 153, 0, 36, 42, 180, 0, 169, 27, 46, 2, 159, 0, 13, 42]
abbrev dktX3_use_3 : List UInt8 := dkwX3_use_3 ++ dktX3_use_4
def dkwX3_use_2 : List UInt8 := [153, 0, 67, 42, 180, 0, 172, 27, 51, 154, 0, 58, 42, 180, 0, 185, 42, 180, 0, 163, 27, 46]
abbrev dktX3_use_2 : List UInt8 := dkwX3_use_2 ++ dktX3_use_3
def dkwX3_use_1 : List UInt8 := [184, 0, 188, 153, 0, 86, 42, 28, 182, 1, 153, 153, 0, 78, 29, 4, 17, 3, 250, 184, 0, 188]
abbrev dktX3_use_1 : List UInt8 := dkwX3_use_1 ++ dktX3_use_2
def dkwX3_use_0 : List UInt8 := [42, 3, 181, 0, 181, 42, 180, 1, 172, 16, 80, 159, 0, 100, 27, 3, 42, 180, 1, 188, 4, 100]
abbrev dktX3_use_0 : List UInt8 := dkwX3_use_0 ++ dktX3_use_1
theorem dksX3_use_0 : cX3_use.data.toList.drop 0 = dktX3_use_0 := by decide +kernel
theorem dksX3_use_1 : cX3_use.data.toList.drop 22 = dktX3_use_1 := dk_seg dksX3_use_0 22 rfl rfl
theorem dksX3_use_2 : cX3_use.data.toList.drop 44 = dktX3_use_2 := dk_seg dksX3_use_1 22 rfl rfl
theorem dksX3_use_3 : cX3_use.data.toList.drop 66 = dktX3_use_3 := dk_seg dksX3_use_2 22 rfl rfl
theorem dksX3_use_4 : cX3_use.data.toList.drop 89 = dktX3_use_4 := dk_seg dksX3_use_3 23 rfl rfl
theorem dksX3_use_5 : cX3_use.data.toList.drop 113 = dktX3_use_5 := dk_seg dksX3_use_4 24 rfl rfl
theorem dX3_use_0 : decode cX3_use 0 = .ok (.aload_n 0, 1) := dk_42 (dk_at dksX3_use_0 0 rfl rfl)
theorem dX3_use_1 : decode cX3_use 1 = .ok (.iconst 0, 1) := dk_3 (dk_at dksX3_use_0 1 rfl rfl)
theorem dX3_use_2 : decode cX3_use 2 = .ok (.putfield 181, 3) := dk_181 0 181 (dk_at dksX3_use_0 2 rfl rfl)
theorem dX3_use_5 : decode cX3_use 5 = .ok (.aload_n 0, 1) := dk_42 (dk_at dksX3_use_0 5 rfl rfl)
theorem dX3_use_6 : decode cX3_use 6 = .ok (.getfield 428, 3) := dk_180 1 172 (dk_at dksX3_use_0 6 rfl rfl)
theorem dX3_use_9 : decode cX3_use 9 = .ok (.bipush 80, 2) := dk_16 80 (dk_at dksX3_use_0 9 rfl rfl)
theorem dX3_use_11 : decode cX3_use 11 = .ok (.if_icmp .eq 100, 3) := dk_159 0 100 (dk_at dksX3_use_0 11 rfl rfl)
theorem dX3_use_14 : decode cX3_use 14 = .ok (.iload_n 1, 1) := dk_27 (dk_at dksX3_use_0 14 rfl rfl)
theorem dX3_use_15 : decode cX3_use 15 = .ok (.iconst 0, 1) := dk_3 (dk_at dksX3_use_0 15 rfl rfl)
theorem dX3_use_16 : decode cX3_use 16 = .ok (.aload_n 0, 1) := dk_42 (dk_at dksX3_use_0 16 rfl rfl)
theorem dX3_use_17 : decode cX3_use 17 = .ok (.getfield 444, 3) := dk_180 1 188 (dk_at dksX3_use_0 17 rfl rfl)
theorem dX3_use_20 : decode cX3_use 20 = .ok (.iconst 1, 1) := dk_4 (dk_at dksX3_use_0 20 rfl rfl)
theorem dX3_use_21 : decode cX3_use 21 = .ok (.isub, 1) := dk_100 (dk_at dksX3_use_0 21 rfl rfl)
theorem dX3_use_22 : decode cX3_use 22 = .ok (.invokestatic 188, 3) := dk_184 0 188 (dk_at dksX3_use_1 0 rfl rfl)
theorem dX3_use_25 : decode cX3_use 25 = .ok (.ifCond .eq 86, 3) := dk_153 0 86 (dk_at dksX3_use_1 3 rfl rfl)
theorem dX3_use_28 : decode cX3_use 28 = .ok (.aload_n 0, 1) := dk_42 (dk_at dksX3_use_1 6 rfl rfl)
theorem dX3_use_29 : decode cX3_use 29 = .ok (.iload_n 2, 1) := dk_28 (dk_at dksX3_use_1 7 rfl rfl)
theorem dX3_use_30 : decode cX3_use 30 = .ok (.invokevirtual 409, 3) := dk_182 1 153 (dk_at dksX3_use_1 8 rfl rfl)
theorem dX3_use_33 : decode cX3_use 33 = .ok (.ifCond .eq 78, 3) := dk_153 0 78 (dk_at dksX3_use_1 11 rfl rfl)
theorem dX3_use_36 : decode cX3_use 36 = .ok (.iload_n 3, 1) := dk_29 (dk_at dksX3_use_1 14 rfl rfl)
theorem dX3_use_37 : decode cX3_use 37 = .ok (.iconst 1, 1) := dk_4 (dk_at dksX3_use_1 15 rfl rfl)
theorem dX3_use_38 : decode cX3_use 38 = .ok (.sipush 1018, 3) := dk_17 3 250 (dk_at dksX3_use_1 16 rfl rfl)
theorem dX3_use_41 : decode cX3_use 41 = .ok (.invokestatic 188, 3) := dk_184 0 188 (dk_at dksX3_use_1 19 rfl rfl)
theorem dX3_use_44 : decode cX3_use 44 = .ok (.ifCond .eq 67, 3) := dk_153 0 67 (dk_at dksX3_use_2 0 rfl rfl)
theorem dX3_use_47 : decode cX3_use 47 = .ok (.aload_n 0, 1) := dk_42 (dk_at dksX3_use_2 3 rfl rfl)
theorem dX3_use_48 : decode cX3_use 48 = .ok (.getfield 172, 3) := dk_180 0 172 (dk_at dksX3_use_2 4 rfl rfl)
theorem dX3_use_51 : decode cX3_use 51 = .ok (.iload_n 1, 1) := dk_27 (dk_at dksX3_use_2 7 rfl rfl)
theorem dX3_use_52 : decode cX3_use 52 = .ok (.baload, 1) := dk_51 (dk_at dksX3_use_2 8 rfl rfl)
theorem dX3_use_53 : decode cX3_use 53 = .ok (.ifCond .ne 58, 3) := dk_154 0 58 (dk_at dksX3_use_2 9 rfl rfl)
theorem dX3_use_56 : decode cX3_use 56 = .ok (.aload_n 0, 1) := dk_42 (dk_at dksX3_use_2 12 rfl rfl)
theorem dX3_use_57 : decode cX3_use 57 = .ok (.getfield 185, 3) := dk_180 0 185 (dk_at dksX3_use_2 13 rfl rfl)
theorem dX3_use_60 : decode cX3_use 60 = .ok (.aload_n 0, 1) := dk_42 (dk_at dksX3_use_2 16 rfl rfl)
theorem dX3_use_61 : decode cX3_use 61 = .ok (.getfield 163, 3) := dk_180 0 163 (dk_at dksX3_use_2 17 rfl rfl)
theorem dX3_use_64 : decode cX3_use 64 = .ok (.iload_n 1, 1) := dk_27 (dk_at dksX3_use_2 20 rfl rfl)
theorem dX3_use_65 : decode cX3_use 65 = .ok (.iaload, 1) := dk_46 (dk_at dksX3_use_2 21 rfl rfl)
theorem dX3_use_66 : decode cX3_use 66 = .ok (.if_icmp .gt 45, 3) := dk_163 0 45 (dk_at dksX3_use_3 0 rfl rfl)
theorem dX3_use_69 : decode cX3_use 69 = .ok (.aload_n 0, 1) := dk_42 (dk_at dksX3_use_3 3 rfl rfl)
theorem dX3_use_70 : decode cX3_use 70 = .ok (.getfield 166, 3) := dk_180 0 166 (dk_at dksX3_use_3 4 rfl rfl)
theorem dX3_use_73 : decode cX3_use 73 = .ok (.iload_n 1, 1) := dk_27 (dk_at dksX3_use_3 7 rfl rfl)
theorem dX3_use_74 : decode cX3_use 74 = .ok (.iaload, 1) := dk_46 (dk_at dksX3_use_3 8 rfl rfl)
theorem dX3_use_75 : decode cX3_use 75 = .ok (.ifCond .eq 36, 3) := dk_153 0 36 (dk_at dksX3_use_3 9 rfl rfl)
theorem dX3_use_78 : decode cX3_use 78 = .ok (.aload_n 0, 1) := dk_42 (dk_at dksX3_use_3 12 rfl rfl)
theorem dX3_use_79 : decode cX3_use 79 = .ok (.getfield 169, 3) := dk_180 0 169 (dk_at dksX3_use_3 13 rfl rfl)
theorem dX3_use_82 : decode cX3_use 82 = .ok (.iload_n 1, 1) := dk_27 (dk_at dksX3_use_3 16 rfl rfl)
theorem dX3_use_83 : decode cX3_use 83 = .ok (.iaload, 1) := dk_46 (dk_at dksX3_use_3 17 rfl rfl)
theorem dX3_use_84 : decode cX3_use 84 = .ok (.iconst (-1), 1) := dk_2 (dk_at dksX3_use_3 18 rfl rfl)
theorem dX3_use_85 : decode cX3_use 85 = .ok (.if_icmp .eq 13, 3) := dk_159 0 13 (dk_at dksX3_use_3 19 rfl rfl)
theorem dX3_use_88 : decode cX3_use 88 = .ok (.aload_n 0, 1) := dk_42 (dk_at dksX3_use_3 22 rfl rfl)
theorem dX3_use_89 : decode cX3_use 89 = .ok (.getfield 169, 3) := dk_180 0 169 (dk_at dksX3_use_4 0 rfl rfl)
theorem dX3_use_92 : decode cX3_use 92 = .ok (.iload_n 1, 1) := dk_27 (dk_at dksX3_use_4 3 rfl rfl)
theorem dX3_use_93 : decode cX3_use 93 = .ok (.iaload, 1) := dk_46 (dk_at dksX3_use_4 4 rfl rfl)
theorem dX3_use_94 : decode cX3_use 94 = .ok (.iload_n 2, 1) := dk_28 (dk_at dksX3_use_4 5 rfl rfl)
theorem dX3_use_95 : decode cX3_use 95 = .ok (.if_icmp .ne 16, 3) := dk_160 0 16 (dk_at dksX3_use_4 6 rfl rfl)
theorem dX3_use_98 : decode cX3_use 98 = .ok (.aload_n 0, 1) := dk_42 (dk_at dksX3_use_4 9 rfl rfl)
theorem dX3_use_99 : decode cX3_use 99 = .ok (.aload_n 0, 1) := dk_42 (dk_at dksX3_use_4 10 rfl rfl)
theorem dX3_use_100 : decode cX3_use 100 = .ok (.getfield 160, 3) := dk_180 0 160 (dk_at dksX3_use_4 11 rfl rfl)
theorem dX3_use_103 : decode cX3_use 103 = .ok (.iload_n 1, 1) := dk_27 (dk_at dksX3_use_4 14 rfl rfl)
theorem dX3_use_104 : decode cX3_use 104 = .ok (.iaload, 1) := dk_46 (dk_at dksX3_use_4 15 rfl rfl)
theorem dX3_use_105 : decode cX3_use 105 = .ok (.invokevirtual 438, 3) := dk_182 1 182 (dk_at dksX3_use_4 16 rfl rfl)
theorem dX3_use_108 : decode cX3_use 108 = .ok (.ifCond .ne 5, 3) := dk_154 0 5 (dk_at dksX3_use_4 19 rfl rfl)
theorem dX3_use_111 : decode cX3_use 111 = .ok (.iconst (-1), 1) := dk_2 (dk_at dksX3_use_4 22 rfl rfl)
theorem dX3_use_112 : decode cX3_use 112 = .ok (.ireturn, 1) := dk_172 (dk_at dksX3_use_4 23 rfl rfl)
theorem dX3_use_113 : decode cX3_use 113 = .ok (.aload_n 0, 1) := dk_42 (dk_at dksX3_use_5 0 rfl rfl)
theorem dX3_use_114 : decode cX3_use 114 = .ok (.getfield 166, 3) := dk_180 0 166 (dk_at dksX3_use_5 1 rfl rfl)
theorem dX3_use_117 : decode cX3_use 117 = .ok (.iload_n 1, 1) := dk_27 (dk_at dksX3_use_5 4 rfl rfl)
theorem dX3_use_118 : decode cX3_use 118 = .ok (.dup2, 1) := dk_92 (dk_at dksX3_use_5 5 rfl rfl)
theorem dX3_use_119 : decode cX3_use 119 = .ok (.iaload, 1) := dk_46 (dk_at dksX3_use_5 6 rfl rfl)
theorem dX3_use_120 : decode cX3_use 120 = .ok (.iconst 1, 1) := dk_4 (dk_at dksX3_use_5 7 rfl rfl)
theorem dX3_use_121 : decode cX3_use 121 = .ok (.isub, 1) := dk_100 (dk_at dksX3_use_5 8 rfl rfl)
theorem dX3_use_122 : decode cX3_use 122 = .ok (.iastore, 1) := dk_79 (dk_at dksX3_use_5 9 rfl rfl)
theorem dX3_use_123 : decode cX3_use 123 = .ok (.aload_n 0, 1) := dk_42 (dk_at dksX3_use_5 10 rfl rfl)
theorem dX3_use_124 : decode cX3_use 124 = .ok (.aload_n 0, 1) := dk_42 (dk_at dksX3_use_5 11 rfl rfl)
theorem dX3_use_125 : decode cX3_use 125 = .ok (.getfield 160, 3) := dk_180 0 160 (dk_at dksX3_use_5 12 rfl rfl)
theorem dX3_use_128 : decode cX3_use 128 = .ok (.iload_n 1, 1) := dk_27 (dk_at dksX3_use_5 15 rfl rfl)
theorem dX3_use_129 : decode cX3_use 129 = .ok (.iaload, 1) := dk_46 (dk_at dksX3_use_5 16 rfl rfl)
theorem dX3_use_130 : decode cX3_use 130 = .ok (.iload_n 2, 1) := dk_28 (dk_at dksX3_use_5 17 rfl rfl)
theorem dX3_use_131 : decode cX3_use 131 = .ok (.iload_n 3, 1) := dk_29 (dk_at dksX3_use_5 18 rfl rfl)
theorem dX3_use_132 : decode cX3_use 132 = .ok (.invokevirtual 441, 3) := dk_182 1 185 (dk_at dksX3_use_5 19 rfl rfl)
theorem dX3_use_135 : decode cX3_use 135 = .ok (.ireturn, 1) := dk_172 (dk_at dksX3_use_5 22 rfl rfl)
abbrev cX3_back : ByteArray := prog_22_method_92_code
def yX3_back : MethodName := ⟨RX3, "back", "(I)Z"⟩
def dkwX3_back_1 : List UInt8 := [51, 153, 0, 5, 3, 172, 42, 180, 0, 172, 27, 4, 84, 4, 172]
abbrev dktX3_back_1 : List UInt8 := dkwX3_back_1 ++ []
def dkwX3_back_0 : List UInt8 := [42, 3, 181, 0, 181, 27, 3, 42, 180, 1, 188, 4, 100, 184, 0, 188, 153, 0, 12, 42, 180, 0, 172, 27]
abbrev dktX3_back_0 : List UInt8 := dkwX3_back_0 ++ dktX3_back_1
theorem dksX3_back_0 : cX3_back.data.toList.drop 0 = dktX3_back_0 := by decide +kernel
theorem dksX3_back_1 : cX3_back.data.toList.drop 24 = dktX3_back_1 := dk_seg dksX3_back_0 24 rfl rfl
theorem dX3_back_0 : decode cX3_back 0 = .ok (.aload_n 0, 1) := dk_42 (dk_at dksX3_back_0 0 rfl rfl)
theorem dX3_back_1 : decode cX3_back 1 = .ok (.iconst 0, 1) := dk_3 (dk_at dksX3_back_0 1 rfl rfl)
theorem dX3_back_2 : decode cX3_back 2 = .ok (.putfield 181, 3) := dk_181 0 181 (dk_at dksX3_back_0 2 rfl rfl)
theorem dX3_back_5 : decode cX3_back 5 = .ok (.iload_n 1, 1) := dk_27 (dk_at dksX3_back_0 5 rfl rfl)
theorem dX3_back_6 : decode cX3_back 6 = .ok (.iconst 0, 1) := dk_3 (dk_at dksX3_back_0 6 rfl rfl)
theorem dX3_back_7 : decode cX3_back 7 = .ok (.aload_n 0, 1) := dk_42 (dk_at dksX3_back_0 7 rfl rfl)
theorem dX3_back_8 : decode cX3_back 8 = .ok (.getfield 444, 3) := dk_180 1 188 (dk_at dksX3_back_0 8 rfl rfl)
theorem dX3_back_11 : decode cX3_back 11 = .ok (.iconst 1, 1) := dk_4 (dk_at dksX3_back_0 11 rfl rfl)
theorem dX3_back_12 : decode cX3_back 12 = .ok (.isub, 1) := dk_100 (dk_at dksX3_back_0 12 rfl rfl)
theorem dX3_back_13 : decode cX3_back 13 = .ok (.invokestatic 188, 3) := dk_184 0 188 (dk_at dksX3_back_0 13 rfl rfl)
theorem dX3_back_16 : decode cX3_back 16 = .ok (.ifCond .eq 12, 3) := dk_153 0 12 (dk_at dksX3_back_0 16 rfl rfl)
theorem dX3_back_19 : decode cX3_back 19 = .ok (.aload_n 0, 1) := dk_42 (dk_at dksX3_back_0 19 rfl rfl)
theorem dX3_back_20 : decode cX3_back 20 = .ok (.getfield 172, 3) := dk_180 0 172 (dk_at dksX3_back_0 20 rfl rfl)
theorem dX3_back_23 : decode cX3_back 23 = .ok (.iload_n 1, 1) := dk_27 (dk_at dksX3_back_0 23 rfl rfl)
theorem dX3_back_24 : decode cX3_back 24 = .ok (.baload, 1) := dk_51 (dk_at dksX3_back_1 0 rfl rfl)
theorem dX3_back_25 : decode cX3_back 25 = .ok (.ifCond .eq 5, 3) := dk_153 0 5 (dk_at dksX3_back_1 1 rfl rfl)
theorem dX3_back_28 : decode cX3_back 28 = .ok (.iconst 0, 1) := dk_3 (dk_at dksX3_back_1 4 rfl rfl)
theorem dX3_back_29 : decode cX3_back 29 = .ok (.ireturn, 1) := dk_172 (dk_at dksX3_back_1 5 rfl rfl)
theorem dX3_back_30 : decode cX3_back 30 = .ok (.aload_n 0, 1) := dk_42 (dk_at dksX3_back_1 6 rfl rfl)
theorem dX3_back_31 : decode cX3_back 31 = .ok (.getfield 172, 3) := dk_180 0 172 (dk_at dksX3_back_1 7 rfl rfl)
theorem dX3_back_34 : decode cX3_back 34 = .ok (.iload_n 1, 1) := dk_27 (dk_at dksX3_back_1 10 rfl rfl)
theorem dX3_back_35 : decode cX3_back 35 = .ok (.iconst 1, 1) := dk_4 (dk_at dksX3_back_1 11 rfl rfl)
theorem dX3_back_36 : decode cX3_back 36 = .ok (.bastore, 1) := dk_84 (dk_at dksX3_back_1 12 rfl rfl)
theorem dX3_back_37 : decode cX3_back 37 = .ok (.iconst 1, 1) := dk_4 (dk_at dksX3_back_1 13 rfl rfl)
theorem dX3_back_38 : decode cX3_back 38 = .ok (.ireturn, 1) := dk_172 (dk_at dksX3_back_1 14 rfl rfl)
abbrev cX3_told : ByteArray := prog_22_method_93_code
def yX3_told : MethodName := ⟨RX3, "told", "(II)I"⟩
def dkwX3_told_5 : List UInt8 := [21, 4, 62, 132, 4, 1, 167, 255, 217, 29, 172, 2, 172]
abbrev dktX3_told_5 : List UInt8 := dkwX3_told_5 ++ []
def dkwX3_told_4 : List UInt8 := [180, 0, 57, 21, 4, 46, 27, 160, 0, 19, 42, 21, 4, 42, 180, 0, 185, 182, 1, 38, 153, 0, 6]
abbrev dktX3_told_4 : List UInt8 := dkwX3_told_4 ++ dktX3_told_5
def dkwX3_told_3 : List UInt8 := [42, 180, 0, 22, 27, 46, 172, 2, 62, 3, 54, 4, 21, 4, 42, 180, 0, 243, 162, 0, 36, 42]
abbrev dktX3_told_3 : List UInt8 := dkwX3_told_3 ++ dktX3_told_4
def dkwX3_told_2 : List UInt8 := [42, 180, 0, 9, 27, 46, 172, 42, 180, 0, 16, 27, 46, 172, 42, 27, 42, 180, 0, 185, 182, 1, 169, 172]
abbrev dktX3_told_2 : List UInt8 := dkwX3_told_2 ++ dktX3_told_3
def dkwX3_told_1 : List UInt8 := [170, 0, 0, 0, 0, 0, 0, 116, 0, 0, 0, 0, 0, 0, 0, 4, 0, 0, 0, 36, 0, 0, 0, 43, 0, 0, 0, 50, 0, 0, 0, 60, 0, 0, 0, 67]
abbrev dktX3_told_1 : List UInt8 := dkwX3_told_1 ++ dktX3_told_2
def dkwX3_told_0 : List UInt8 := [42, 3, 181, 0, 181, 42, 27, 182, 0, 216, 154, 0, 5, 2, 172, 28]
abbrev dktX3_told_0 : List UInt8 := dkwX3_told_0 ++ dktX3_told_1
theorem dksX3_told_0 : cX3_told.data.toList.drop 0 = dktX3_told_0 := by decide +kernel
theorem dksX3_told_1 : cX3_told.data.toList.drop 16 = dktX3_told_1 := dk_seg dksX3_told_0 16 rfl rfl
theorem dksX3_told_2 : cX3_told.data.toList.drop 52 = dktX3_told_2 := dk_seg dksX3_told_1 36 rfl rfl
theorem dksX3_told_3 : cX3_told.data.toList.drop 76 = dktX3_told_3 := dk_seg dksX3_told_2 24 rfl rfl
theorem dksX3_told_4 : cX3_told.data.toList.drop 98 = dktX3_told_4 := dk_seg dksX3_told_3 22 rfl rfl
theorem dksX3_told_5 : cX3_told.data.toList.drop 121 = dktX3_told_5 := dk_seg dksX3_told_4 23 rfl rfl
theorem dX3_told_0 : decode cX3_told 0 = .ok (.aload_n 0, 1) := dk_42 (dk_at dksX3_told_0 0 rfl rfl)
theorem dX3_told_1 : decode cX3_told 1 = .ok (.iconst 0, 1) := dk_3 (dk_at dksX3_told_0 1 rfl rfl)
theorem dX3_told_2 : decode cX3_told 2 = .ok (.putfield 181, 3) := dk_181 0 181 (dk_at dksX3_told_0 2 rfl rfl)
theorem dX3_told_5 : decode cX3_told 5 = .ok (.aload_n 0, 1) := dk_42 (dk_at dksX3_told_0 5 rfl rfl)
theorem dX3_told_6 : decode cX3_told 6 = .ok (.iload_n 1, 1) := dk_27 (dk_at dksX3_told_0 6 rfl rfl)
theorem dX3_told_7 : decode cX3_told 7 = .ok (.invokevirtual 216, 3) := dk_182 0 216 (dk_at dksX3_told_0 7 rfl rfl)
theorem dX3_told_10 : decode cX3_told 10 = .ok (.ifCond .ne 5, 3) := dk_154 0 5 (dk_at dksX3_told_0 10 rfl rfl)
theorem dX3_told_13 : decode cX3_told 13 = .ok (.iconst (-1), 1) := dk_2 (dk_at dksX3_told_0 13 rfl rfl)
theorem dX3_told_14 : decode cX3_told 14 = .ok (.ireturn, 1) := dk_172 (dk_at dksX3_told_0 14 rfl rfl)
theorem dX3_told_15 : decode cX3_told 15 = .ok (.iload_n 2, 1) := dk_28 (dk_at dksX3_told_0 15 rfl rfl)
theorem dX3_told_16 : decode cX3_told 16 = .ok (.tableswitch 116 0 4 #[36, 43, 50, 60, 67], 36) := by decide +kernel
theorem dX3_told_52 : decode cX3_told 52 = .ok (.aload_n 0, 1) := dk_42 (dk_at dksX3_told_2 0 rfl rfl)
theorem dX3_told_53 : decode cX3_told 53 = .ok (.getfield 9, 3) := dk_180 0 9 (dk_at dksX3_told_2 1 rfl rfl)
theorem dX3_told_56 : decode cX3_told 56 = .ok (.iload_n 1, 1) := dk_27 (dk_at dksX3_told_2 4 rfl rfl)
theorem dX3_told_57 : decode cX3_told 57 = .ok (.iaload, 1) := dk_46 (dk_at dksX3_told_2 5 rfl rfl)
theorem dX3_told_58 : decode cX3_told 58 = .ok (.ireturn, 1) := dk_172 (dk_at dksX3_told_2 6 rfl rfl)
theorem dX3_told_59 : decode cX3_told 59 = .ok (.aload_n 0, 1) := dk_42 (dk_at dksX3_told_2 7 rfl rfl)
theorem dX3_told_60 : decode cX3_told 60 = .ok (.getfield 16, 3) := dk_180 0 16 (dk_at dksX3_told_2 8 rfl rfl)
theorem dX3_told_63 : decode cX3_told 63 = .ok (.iload_n 1, 1) := dk_27 (dk_at dksX3_told_2 11 rfl rfl)
theorem dX3_told_64 : decode cX3_told 64 = .ok (.iaload, 1) := dk_46 (dk_at dksX3_told_2 12 rfl rfl)
theorem dX3_told_65 : decode cX3_told 65 = .ok (.ireturn, 1) := dk_172 (dk_at dksX3_told_2 13 rfl rfl)
theorem dX3_told_66 : decode cX3_told 66 = .ok (.aload_n 0, 1) := dk_42 (dk_at dksX3_told_2 14 rfl rfl)
theorem dX3_told_67 : decode cX3_told 67 = .ok (.iload_n 1, 1) := dk_27 (dk_at dksX3_told_2 15 rfl rfl)
theorem dX3_told_68 : decode cX3_told 68 = .ok (.aload_n 0, 1) := dk_42 (dk_at dksX3_told_2 16 rfl rfl)
theorem dX3_told_69 : decode cX3_told 69 = .ok (.getfield 185, 3) := dk_180 0 185 (dk_at dksX3_told_2 17 rfl rfl)
theorem dX3_told_72 : decode cX3_told 72 = .ok (.invokevirtual 425, 3) := dk_182 1 169 (dk_at dksX3_told_2 20 rfl rfl)
theorem dX3_told_75 : decode cX3_told 75 = .ok (.ireturn, 1) := dk_172 (dk_at dksX3_told_2 23 rfl rfl)
theorem dX3_told_76 : decode cX3_told 76 = .ok (.aload_n 0, 1) := dk_42 (dk_at dksX3_told_3 0 rfl rfl)
theorem dX3_told_77 : decode cX3_told 77 = .ok (.getfield 22, 3) := dk_180 0 22 (dk_at dksX3_told_3 1 rfl rfl)
theorem dX3_told_80 : decode cX3_told 80 = .ok (.iload_n 1, 1) := dk_27 (dk_at dksX3_told_3 4 rfl rfl)
theorem dX3_told_81 : decode cX3_told 81 = .ok (.iaload, 1) := dk_46 (dk_at dksX3_told_3 5 rfl rfl)
theorem dX3_told_82 : decode cX3_told 82 = .ok (.ireturn, 1) := dk_172 (dk_at dksX3_told_3 6 rfl rfl)
theorem dX3_told_83 : decode cX3_told 83 = .ok (.iconst (-1), 1) := dk_2 (dk_at dksX3_told_3 7 rfl rfl)
theorem dX3_told_84 : decode cX3_told 84 = .ok (.istore_n 3, 1) := dk_62 (dk_at dksX3_told_3 8 rfl rfl)
theorem dX3_told_85 : decode cX3_told 85 = .ok (.iconst 0, 1) := dk_3 (dk_at dksX3_told_3 9 rfl rfl)
theorem dX3_told_86 : decode cX3_told 86 = .ok (.istore 4, 2) := dk_54 4 (dk_at dksX3_told_3 10 rfl rfl)
theorem dX3_told_88 : decode cX3_told 88 = .ok (.iload 4, 2) := dk_21 4 (dk_at dksX3_told_3 12 rfl rfl)
theorem dX3_told_90 : decode cX3_told 90 = .ok (.aload_n 0, 1) := dk_42 (dk_at dksX3_told_3 14 rfl rfl)
theorem dX3_told_91 : decode cX3_told 91 = .ok (.getfield 243, 3) := dk_180 0 243 (dk_at dksX3_told_3 15 rfl rfl)
theorem dX3_told_94 : decode cX3_told 94 = .ok (.if_icmp .ge 36, 3) := dk_162 0 36 (dk_at dksX3_told_3 18 rfl rfl)
theorem dX3_told_97 : decode cX3_told 97 = .ok (.aload_n 0, 1) := dk_42 (dk_at dksX3_told_3 21 rfl rfl)
theorem dX3_told_98 : decode cX3_told 98 = .ok (.getfield 57, 3) := dk_180 0 57 (dk_at dksX3_told_4 0 rfl rfl)
theorem dX3_told_101 : decode cX3_told 101 = .ok (.iload 4, 2) := dk_21 4 (dk_at dksX3_told_4 3 rfl rfl)
theorem dX3_told_103 : decode cX3_told 103 = .ok (.iaload, 1) := dk_46 (dk_at dksX3_told_4 5 rfl rfl)
theorem dX3_told_104 : decode cX3_told 104 = .ok (.iload_n 1, 1) := dk_27 (dk_at dksX3_told_4 6 rfl rfl)
theorem dX3_told_105 : decode cX3_told 105 = .ok (.if_icmp .ne 19, 3) := dk_160 0 19 (dk_at dksX3_told_4 7 rfl rfl)
theorem dX3_told_108 : decode cX3_told 108 = .ok (.aload_n 0, 1) := dk_42 (dk_at dksX3_told_4 10 rfl rfl)
theorem dX3_told_109 : decode cX3_told 109 = .ok (.iload 4, 2) := dk_21 4 (dk_at dksX3_told_4 11 rfl rfl)
theorem dX3_told_111 : decode cX3_told 111 = .ok (.aload_n 0, 1) := dk_42 (dk_at dksX3_told_4 13 rfl rfl)
theorem dX3_told_112 : decode cX3_told 112 = .ok (.getfield 185, 3) := dk_180 0 185 (dk_at dksX3_told_4 14 rfl rfl)
theorem dX3_told_115 : decode cX3_told 115 = .ok (.invokevirtual 294, 3) := dk_182 1 38 (dk_at dksX3_told_4 17 rfl rfl)
theorem dX3_told_118 : decode cX3_told 118 = .ok (.ifCond .eq 6, 3) := dk_153 0 6 (dk_at dksX3_told_4 20 rfl rfl)
theorem dX3_told_121 : decode cX3_told 121 = .ok (.iload 4, 2) := dk_21 4 (dk_at dksX3_told_5 0 rfl rfl)
theorem dX3_told_123 : decode cX3_told 123 = .ok (.istore_n 3, 1) := dk_62 (dk_at dksX3_told_5 2 rfl rfl)
theorem dX3_told_124 : decode cX3_told 124 = .ok (.iinc 4 1, 3) := dk_132 4 1 (dk_at dksX3_told_5 3 rfl rfl)
theorem dX3_told_127 : decode cX3_told 127 = .ok (.goto (-39), 3) := dk_167 255 217 (dk_at dksX3_told_5 6 rfl rfl)
theorem dX3_told_130 : decode cX3_told 130 = .ok (.iload_n 3, 1) := dk_29 (dk_at dksX3_told_5 9 rfl rfl)
theorem dX3_told_131 : decode cX3_told 131 = .ok (.ireturn, 1) := dk_172 (dk_at dksX3_told_5 10 rfl rfl)
theorem dX3_told_132 : decode cX3_told 132 = .ok (.iconst (-1), 1) := dk_2 (dk_at dksX3_told_5 11 rfl rfl)
theorem dX3_told_133 : decode cX3_told 133 = .ok (.ireturn, 1) := dk_172 (dk_at dksX3_told_5 12 rfl rfl)
abbrev cX3_fall : ByteArray := prog_22_method_95_code
def yX3_fall : MethodName := ⟨RX3, "fall", "(I)I"⟩
def dkwX3_fall_2 : List UInt8 := [180, 1, 191, 4, 100, 172]
abbrev dktX3_fall_2 : List UInt8 := dkwX3_fall_2 ++ []
def dkwX3_fall_1 : List UInt8 := [172, 42, 180, 0, 175, 42, 180, 1, 191, 27, 79, 42, 89, 180, 1, 191, 4, 96, 181, 1, 191, 42]
abbrev dktX3_fall_1 : List UInt8 := dkwX3_fall_1 ++ dktX3_fall_2
def dkwX3_fall_0 : List UInt8 := [42, 3, 181, 0, 181, 42, 180, 1, 191, 16, 20, 159, 0, 12, 42, 27, 4, 182, 0, 254, 154, 0, 5, 2]
abbrev dktX3_fall_0 : List UInt8 := dkwX3_fall_0 ++ dktX3_fall_1
theorem dksX3_fall_0 : cX3_fall.data.toList.drop 0 = dktX3_fall_0 := by decide +kernel
theorem dksX3_fall_1 : cX3_fall.data.toList.drop 24 = dktX3_fall_1 := dk_seg dksX3_fall_0 24 rfl rfl
theorem dksX3_fall_2 : cX3_fall.data.toList.drop 46 = dktX3_fall_2 := dk_seg dksX3_fall_1 22 rfl rfl
theorem dX3_fall_0 : decode cX3_fall 0 = .ok (.aload_n 0, 1) := dk_42 (dk_at dksX3_fall_0 0 rfl rfl)
theorem dX3_fall_1 : decode cX3_fall 1 = .ok (.iconst 0, 1) := dk_3 (dk_at dksX3_fall_0 1 rfl rfl)
theorem dX3_fall_2 : decode cX3_fall 2 = .ok (.putfield 181, 3) := dk_181 0 181 (dk_at dksX3_fall_0 2 rfl rfl)
theorem dX3_fall_5 : decode cX3_fall 5 = .ok (.aload_n 0, 1) := dk_42 (dk_at dksX3_fall_0 5 rfl rfl)
theorem dX3_fall_6 : decode cX3_fall 6 = .ok (.getfield 447, 3) := dk_180 1 191 (dk_at dksX3_fall_0 6 rfl rfl)
theorem dX3_fall_9 : decode cX3_fall 9 = .ok (.bipush 20, 2) := dk_16 20 (dk_at dksX3_fall_0 9 rfl rfl)
theorem dX3_fall_11 : decode cX3_fall 11 = .ok (.if_icmp .eq 12, 3) := dk_159 0 12 (dk_at dksX3_fall_0 11 rfl rfl)
theorem dX3_fall_14 : decode cX3_fall 14 = .ok (.aload_n 0, 1) := dk_42 (dk_at dksX3_fall_0 14 rfl rfl)
theorem dX3_fall_15 : decode cX3_fall 15 = .ok (.iload_n 1, 1) := dk_27 (dk_at dksX3_fall_0 15 rfl rfl)
theorem dX3_fall_16 : decode cX3_fall 16 = .ok (.iconst 1, 1) := dk_4 (dk_at dksX3_fall_0 16 rfl rfl)
theorem dX3_fall_17 : decode cX3_fall 17 = .ok (.invokevirtual 254, 3) := dk_182 0 254 (dk_at dksX3_fall_0 17 rfl rfl)
theorem dX3_fall_20 : decode cX3_fall 20 = .ok (.ifCond .ne 5, 3) := dk_154 0 5 (dk_at dksX3_fall_0 20 rfl rfl)
theorem dX3_fall_23 : decode cX3_fall 23 = .ok (.iconst (-1), 1) := dk_2 (dk_at dksX3_fall_0 23 rfl rfl)
theorem dX3_fall_24 : decode cX3_fall 24 = .ok (.ireturn, 1) := dk_172 (dk_at dksX3_fall_1 0 rfl rfl)
theorem dX3_fall_25 : decode cX3_fall 25 = .ok (.aload_n 0, 1) := dk_42 (dk_at dksX3_fall_1 1 rfl rfl)
theorem dX3_fall_26 : decode cX3_fall 26 = .ok (.getfield 175, 3) := dk_180 0 175 (dk_at dksX3_fall_1 2 rfl rfl)
theorem dX3_fall_29 : decode cX3_fall 29 = .ok (.aload_n 0, 1) := dk_42 (dk_at dksX3_fall_1 5 rfl rfl)
theorem dX3_fall_30 : decode cX3_fall 30 = .ok (.getfield 447, 3) := dk_180 1 191 (dk_at dksX3_fall_1 6 rfl rfl)
theorem dX3_fall_33 : decode cX3_fall 33 = .ok (.iload_n 1, 1) := dk_27 (dk_at dksX3_fall_1 9 rfl rfl)
theorem dX3_fall_34 : decode cX3_fall 34 = .ok (.iastore, 1) := dk_79 (dk_at dksX3_fall_1 10 rfl rfl)
theorem dX3_fall_35 : decode cX3_fall 35 = .ok (.aload_n 0, 1) := dk_42 (dk_at dksX3_fall_1 11 rfl rfl)
theorem dX3_fall_36 : decode cX3_fall 36 = .ok (.dup, 1) := dk_89 (dk_at dksX3_fall_1 12 rfl rfl)
theorem dX3_fall_37 : decode cX3_fall 37 = .ok (.getfield 447, 3) := dk_180 1 191 (dk_at dksX3_fall_1 13 rfl rfl)
theorem dX3_fall_40 : decode cX3_fall 40 = .ok (.iconst 1, 1) := dk_4 (dk_at dksX3_fall_1 16 rfl rfl)
theorem dX3_fall_41 : decode cX3_fall 41 = .ok (.iadd, 1) := dk_96 (dk_at dksX3_fall_1 17 rfl rfl)
theorem dX3_fall_42 : decode cX3_fall 42 = .ok (.putfield 447, 3) := dk_181 1 191 (dk_at dksX3_fall_1 18 rfl rfl)
theorem dX3_fall_45 : decode cX3_fall 45 = .ok (.aload_n 0, 1) := dk_42 (dk_at dksX3_fall_1 21 rfl rfl)
theorem dX3_fall_46 : decode cX3_fall 46 = .ok (.getfield 447, 3) := dk_180 1 191 (dk_at dksX3_fall_2 0 rfl rfl)
theorem dX3_fall_49 : decode cX3_fall 49 = .ok (.iconst 1, 1) := dk_4 (dk_at dksX3_fall_2 3 rfl rfl)
theorem dX3_fall_50 : decode cX3_fall 50 = .ok (.isub, 1) := dk_100 (dk_at dksX3_fall_2 4 rfl rfl)
theorem dX3_fall_51 : decode cX3_fall 51 = .ok (.ireturn, 1) := dk_172 (dk_at dksX3_fall_2 5 rfl rfl)
abbrev cX3_fallen : ByteArray := prog_22_method_98_code
def yX3_fallen : MethodName := ⟨RX3, "fallen", "(II)J"⟩
def dkwX3_fallen_3 : List UInt8 := [182, 1, 54, 20, 1, 58, 131, 127, 173]
abbrev dktX3_fallen_3 : List UInt8 := dkwX3_fallen_3 ++ []
def dkwX3_fallen_2 : List UInt8 := [167, 0, 30, 42, 182, 1, 197, 42, 42, 42, 180, 0, 175, 27, 46, 182, 1, 201, 42, 180, 0, 185]
abbrev dktX3_fallen_2 : List UInt8 := dkwX3_fallen_2 ++ dktX3_fallen_3
def dkwX3_fallen_1 : List UInt8 := [20, 1, 58, 173, 28, 4, 160, 0, 20, 42, 42, 180, 0, 175, 27, 46, 42, 180, 0, 185, 182, 1, 54]
abbrev dktX3_fallen_1 : List UInt8 := dkwX3_fallen_1 ++ dktX3_fallen_2
def dkwX3_fallen_0 : List UInt8 := [42, 3, 181, 0, 181, 42, 27, 182, 1, 194, 153, 0, 12, 28, 3, 4, 184, 0, 188, 154, 0, 7]
abbrev dktX3_fallen_0 : List UInt8 := dkwX3_fallen_0 ++ dktX3_fallen_1
theorem dksX3_fallen_0 : cX3_fallen.data.toList.drop 0 = dktX3_fallen_0 := by decide +kernel
theorem dksX3_fallen_1 : cX3_fallen.data.toList.drop 22 = dktX3_fallen_1 := dk_seg dksX3_fallen_0 22 rfl rfl
theorem dksX3_fallen_2 : cX3_fallen.data.toList.drop 45 = dktX3_fallen_2 := dk_seg dksX3_fallen_1 23 rfl rfl
theorem dksX3_fallen_3 : cX3_fallen.data.toList.drop 67 = dktX3_fallen_3 := dk_seg dksX3_fallen_2 22 rfl rfl
theorem dX3_fallen_0 : decode cX3_fallen 0 = .ok (.aload_n 0, 1) := dk_42 (dk_at dksX3_fallen_0 0 rfl rfl)
theorem dX3_fallen_1 : decode cX3_fallen 1 = .ok (.iconst 0, 1) := dk_3 (dk_at dksX3_fallen_0 1 rfl rfl)
theorem dX3_fallen_2 : decode cX3_fallen 2 = .ok (.putfield 181, 3) := dk_181 0 181 (dk_at dksX3_fallen_0 2 rfl rfl)
theorem dX3_fallen_5 : decode cX3_fallen 5 = .ok (.aload_n 0, 1) := dk_42 (dk_at dksX3_fallen_0 5 rfl rfl)
theorem dX3_fallen_6 : decode cX3_fallen 6 = .ok (.iload_n 1, 1) := dk_27 (dk_at dksX3_fallen_0 6 rfl rfl)
theorem dX3_fallen_7 : decode cX3_fallen 7 = .ok (.invokevirtual 450, 3) := dk_182 1 194 (dk_at dksX3_fallen_0 7 rfl rfl)
theorem dX3_fallen_10 : decode cX3_fallen 10 = .ok (.ifCond .eq 12, 3) := dk_153 0 12 (dk_at dksX3_fallen_0 10 rfl rfl)
theorem dX3_fallen_13 : decode cX3_fallen 13 = .ok (.iload_n 2, 1) := dk_28 (dk_at dksX3_fallen_0 13 rfl rfl)
theorem dX3_fallen_14 : decode cX3_fallen 14 = .ok (.iconst 0, 1) := dk_3 (dk_at dksX3_fallen_0 14 rfl rfl)
theorem dX3_fallen_15 : decode cX3_fallen 15 = .ok (.iconst 1, 1) := dk_4 (dk_at dksX3_fallen_0 15 rfl rfl)
theorem dX3_fallen_16 : decode cX3_fallen 16 = .ok (.invokestatic 188, 3) := dk_184 0 188 (dk_at dksX3_fallen_0 16 rfl rfl)
theorem dX3_fallen_19 : decode cX3_fallen 19 = .ok (.ifCond .ne 7, 3) := dk_154 0 7 (dk_at dksX3_fallen_0 19 rfl rfl)
theorem dX3_fallen_22 : decode cX3_fallen 22 = .ok (.ldc2_w 314, 3) := dk_20 1 58 (dk_at dksX3_fallen_1 0 rfl rfl)
theorem dX3_fallen_25 : decode cX3_fallen 25 = .ok (.lreturn, 1) := dk_173 (dk_at dksX3_fallen_1 3 rfl rfl)
theorem dX3_fallen_26 : decode cX3_fallen 26 = .ok (.iload_n 2, 1) := dk_28 (dk_at dksX3_fallen_1 4 rfl rfl)
theorem dX3_fallen_27 : decode cX3_fallen 27 = .ok (.iconst 1, 1) := dk_4 (dk_at dksX3_fallen_1 5 rfl rfl)
theorem dX3_fallen_28 : decode cX3_fallen 28 = .ok (.if_icmp .ne 20, 3) := dk_160 0 20 (dk_at dksX3_fallen_1 6 rfl rfl)
theorem dX3_fallen_31 : decode cX3_fallen 31 = .ok (.aload_n 0, 1) := dk_42 (dk_at dksX3_fallen_1 9 rfl rfl)
theorem dX3_fallen_32 : decode cX3_fallen 32 = .ok (.aload_n 0, 1) := dk_42 (dk_at dksX3_fallen_1 10 rfl rfl)
theorem dX3_fallen_33 : decode cX3_fallen 33 = .ok (.getfield 175, 3) := dk_180 0 175 (dk_at dksX3_fallen_1 11 rfl rfl)
theorem dX3_fallen_36 : decode cX3_fallen 36 = .ok (.iload_n 1, 1) := dk_27 (dk_at dksX3_fallen_1 14 rfl rfl)
theorem dX3_fallen_37 : decode cX3_fallen 37 = .ok (.iaload, 1) := dk_46 (dk_at dksX3_fallen_1 15 rfl rfl)
theorem dX3_fallen_38 : decode cX3_fallen 38 = .ok (.aload_n 0, 1) := dk_42 (dk_at dksX3_fallen_1 16 rfl rfl)
theorem dX3_fallen_39 : decode cX3_fallen 39 = .ok (.getfield 185, 3) := dk_180 0 185 (dk_at dksX3_fallen_1 17 rfl rfl)
theorem dX3_fallen_42 : decode cX3_fallen 42 = .ok (.invokevirtual 310, 3) := dk_182 1 54 (dk_at dksX3_fallen_1 20 rfl rfl)
theorem dX3_fallen_45 : decode cX3_fallen 45 = .ok (.goto 30, 3) := dk_167 0 30 (dk_at dksX3_fallen_2 0 rfl rfl)
theorem dX3_fallen_48 : decode cX3_fallen 48 = .ok (.aload_n 0, 1) := dk_42 (dk_at dksX3_fallen_2 3 rfl rfl)
theorem dX3_fallen_49 : decode cX3_fallen 49 = .ok (.invokevirtual 453, 3) := dk_182 1 197 (dk_at dksX3_fallen_2 4 rfl rfl)
theorem dX3_fallen_52 : decode cX3_fallen 52 = .ok (.aload_n 0, 1) := dk_42 (dk_at dksX3_fallen_2 7 rfl rfl)
theorem dX3_fallen_53 : decode cX3_fallen 53 = .ok (.aload_n 0, 1) := dk_42 (dk_at dksX3_fallen_2 8 rfl rfl)
theorem dX3_fallen_54 : decode cX3_fallen 54 = .ok (.aload_n 0, 1) := dk_42 (dk_at dksX3_fallen_2 9 rfl rfl)
theorem dX3_fallen_55 : decode cX3_fallen 55 = .ok (.getfield 175, 3) := dk_180 0 175 (dk_at dksX3_fallen_2 10 rfl rfl)
theorem dX3_fallen_58 : decode cX3_fallen 58 = .ok (.iload_n 1, 1) := dk_27 (dk_at dksX3_fallen_2 13 rfl rfl)
theorem dX3_fallen_59 : decode cX3_fallen 59 = .ok (.iaload, 1) := dk_46 (dk_at dksX3_fallen_2 14 rfl rfl)
theorem dX3_fallen_60 : decode cX3_fallen 60 = .ok (.invokevirtual 457, 3) := dk_182 1 201 (dk_at dksX3_fallen_2 15 rfl rfl)
theorem dX3_fallen_63 : decode cX3_fallen 63 = .ok (.aload_n 0, 1) := dk_42 (dk_at dksX3_fallen_2 18 rfl rfl)
theorem dX3_fallen_64 : decode cX3_fallen 64 = .ok (.getfield 185, 3) := dk_180 0 185 (dk_at dksX3_fallen_2 19 rfl rfl)
theorem dX3_fallen_67 : decode cX3_fallen 67 = .ok (.invokevirtual 310, 3) := dk_182 1 54 (dk_at dksX3_fallen_3 0 rfl rfl)
theorem dX3_fallen_70 : decode cX3_fallen 70 = .ok (.ldc2_w 314, 3) := dk_20 1 58 (dk_at dksX3_fallen_3 3 rfl rfl)
theorem dX3_fallen_73 : decode cX3_fallen 73 = .ok (.lxor, 1) := dk_131 (dk_at dksX3_fallen_3 6 rfl rfl)
theorem dX3_fallen_74 : decode cX3_fallen 74 = .ok (.land, 1) := dk_127 (dk_at dksX3_fallen_3 7 rfl rfl)
theorem dX3_fallen_75 : decode cX3_fallen 75 = .ok (.lreturn, 1) := dk_173 (dk_at dksX3_fallen_3 8 rfl rfl)
abbrev cX3_isFall : ByteArray := prog_22_method_94_code
def yX3_isFall : MethodName := ⟨RX3, "isFall", "(I)Z"⟩
def dkwX3_isFall_0 : List UInt8 := [27, 155, 0, 15, 27, 42, 180, 1, 191, 162, 0, 7, 4, 167, 0, 4, 3, 172]
abbrev dktX3_isFall_0 : List UInt8 := dkwX3_isFall_0 ++ []
theorem dksX3_isFall_0 : cX3_isFall.data.toList.drop 0 = dktX3_isFall_0 := by decide +kernel
theorem dX3_isFall_0 : decode cX3_isFall 0 = .ok (.iload_n 1, 1) := dk_27 (dk_at dksX3_isFall_0 0 rfl rfl)
theorem dX3_isFall_1 : decode cX3_isFall 1 = .ok (.ifCond .lt 15, 3) := dk_155 0 15 (dk_at dksX3_isFall_0 1 rfl rfl)
theorem dX3_isFall_4 : decode cX3_isFall 4 = .ok (.iload_n 1, 1) := dk_27 (dk_at dksX3_isFall_0 4 rfl rfl)
theorem dX3_isFall_5 : decode cX3_isFall 5 = .ok (.aload_n 0, 1) := dk_42 (dk_at dksX3_isFall_0 5 rfl rfl)
theorem dX3_isFall_6 : decode cX3_isFall 6 = .ok (.getfield 447, 3) := dk_180 1 191 (dk_at dksX3_isFall_0 6 rfl rfl)
theorem dX3_isFall_9 : decode cX3_isFall 9 = .ok (.if_icmp .ge 7, 3) := dk_162 0 7 (dk_at dksX3_isFall_0 9 rfl rfl)
theorem dX3_isFall_12 : decode cX3_isFall 12 = .ok (.iconst 1, 1) := dk_4 (dk_at dksX3_isFall_0 12 rfl rfl)
theorem dX3_isFall_13 : decode cX3_isFall 13 = .ok (.goto 4, 3) := dk_167 0 4 (dk_at dksX3_isFall_0 13 rfl rfl)
theorem dX3_isFall_16 : decode cX3_isFall 16 = .ok (.iconst 0, 1) := dk_3 (dk_at dksX3_isFall_0 16 rfl rfl)
theorem dX3_isFall_17 : decode cX3_isFall 17 = .ok (.ireturn, 1) := dk_172 (dk_at dksX3_isFall_0 17 rfl rfl)
abbrev cX3_allKeys : ByteArray := prog_22_method_97_code
def yX3_allKeys : MethodName := ⟨RX3, "allKeys", "()J"⟩
def dkwX3_allKeys_0 : List UInt8 := [42, 180, 0, 199, 154, 0, 7, 9, 167, 0, 14, 20, 1, 58, 16, 64, 42, 180, 0, 199, 100, 125, 173]
abbrev dktX3_allKeys_0 : List UInt8 := dkwX3_allKeys_0 ++ []
theorem dksX3_allKeys_0 : cX3_allKeys.data.toList.drop 0 = dktX3_allKeys_0 := by decide +kernel
theorem dX3_allKeys_0 : decode cX3_allKeys 0 = .ok (.aload_n 0, 1) := dk_42 (dk_at dksX3_allKeys_0 0 rfl rfl)
theorem dX3_allKeys_1 : decode cX3_allKeys 1 = .ok (.getfield 199, 3) := dk_180 0 199 (dk_at dksX3_allKeys_0 1 rfl rfl)
theorem dX3_allKeys_4 : decode cX3_allKeys 4 = .ok (.ifCond .ne 7, 3) := dk_154 0 7 (dk_at dksX3_allKeys_0 4 rfl rfl)
theorem dX3_allKeys_7 : decode cX3_allKeys 7 = .ok (.lconst 0, 1) := dk_9 (dk_at dksX3_allKeys_0 7 rfl rfl)
theorem dX3_allKeys_8 : decode cX3_allKeys 8 = .ok (.goto 14, 3) := dk_167 0 14 (dk_at dksX3_allKeys_0 8 rfl rfl)
theorem dX3_allKeys_11 : decode cX3_allKeys 11 = .ok (.ldc2_w 314, 3) := dk_20 1 58 (dk_at dksX3_allKeys_0 11 rfl rfl)
theorem dX3_allKeys_14 : decode cX3_allKeys 14 = .ok (.bipush 64, 2) := dk_16 64 (dk_at dksX3_allKeys_0 14 rfl rfl)
theorem dX3_allKeys_16 : decode cX3_allKeys 16 = .ok (.aload_n 0, 1) := dk_42 (dk_at dksX3_allKeys_0 16 rfl rfl)
theorem dX3_allKeys_17 : decode cX3_allKeys 17 = .ok (.getfield 199, 3) := dk_180 0 199 (dk_at dksX3_allKeys_0 17 rfl rfl)
theorem dX3_allKeys_20 : decode cX3_allKeys 20 = .ok (.isub, 1) := dk_100 (dk_at dksX3_allKeys_0 20 rfl rfl)
theorem dX3_allKeys_21 : decode cX3_allKeys 21 = .ok (.lushr, 1) := dk_125 (dk_at dksX3_allKeys_0 21 rfl rfl)
theorem dX3_allKeys_22 : decode cX3_allKeys 22 = .ok (.lreturn, 1) := dk_173 (dk_at dksX3_allKeys_0 22 rfl rfl)
abbrev cX3_others : ByteArray := prog_22_method_96_code
def yX3_others : MethodName := ⟨RX3, "others", "(I)I"⟩
def dkwX3_others_0 : List UInt8 := [4, 42, 180, 0, 196, 120, 4, 100, 27, 2, 130, 126, 172]
abbrev dktX3_others_0 : List UInt8 := dkwX3_others_0 ++ []
theorem dksX3_others_0 : cX3_others.data.toList.drop 0 = dktX3_others_0 := by decide +kernel
theorem dX3_others_0 : decode cX3_others 0 = .ok (.iconst 1, 1) := dk_4 (dk_at dksX3_others_0 0 rfl rfl)
theorem dX3_others_1 : decode cX3_others 1 = .ok (.aload_n 0, 1) := dk_42 (dk_at dksX3_others_0 1 rfl rfl)
theorem dX3_others_2 : decode cX3_others 2 = .ok (.getfield 196, 3) := dk_180 0 196 (dk_at dksX3_others_0 2 rfl rfl)
theorem dX3_others_5 : decode cX3_others 5 = .ok (.ishl, 1) := dk_120 (dk_at dksX3_others_0 5 rfl rfl)
theorem dX3_others_6 : decode cX3_others 6 = .ok (.iconst 1, 1) := dk_4 (dk_at dksX3_others_0 6 rfl rfl)
theorem dX3_others_7 : decode cX3_others 7 = .ok (.isub, 1) := dk_100 (dk_at dksX3_others_0 7 rfl rfl)
theorem dX3_others_8 : decode cX3_others 8 = .ok (.iload_n 1, 1) := dk_27 (dk_at dksX3_others_0 8 rfl rfl)
theorem dX3_others_9 : decode cX3_others 9 = .ok (.iconst (-1), 1) := dk_2 (dk_at dksX3_others_0 9 rfl rfl)
theorem dX3_others_10 : decode cX3_others 10 = .ok (.ixor, 1) := dk_130 (dk_at dksX3_others_0 10 rfl rfl)
theorem dX3_others_11 : decode cX3_others 11 = .ok (.iand, 1) := dk_126 (dk_at dksX3_others_0 11 rfl rfl)
theorem dX3_others_12 : decode cX3_others 12 = .ok (.ireturn, 1) := dk_172 (dk_at dksX3_others_0 12 rfl rfl)
abbrev cX3_least : ByteArray := prog_22_method_101_code
def yX3_least : MethodName := ⟨RX3, "least", "(II)I"⟩
def dkwX3_least_0 : List UInt8 := [42, 27, 28, 182, 1, 213, 153, 0, 13, 42, 180, 1, 204, 184, 1, 2, 167, 0, 4, 2, 172]
abbrev dktX3_least_0 : List UInt8 := dkwX3_least_0 ++ []
theorem dksX3_least_0 : cX3_least.data.toList.drop 0 = dktX3_least_0 := by decide +kernel
theorem dX3_least_0 : decode cX3_least 0 = .ok (.aload_n 0, 1) := dk_42 (dk_at dksX3_least_0 0 rfl rfl)
theorem dX3_least_1 : decode cX3_least 1 = .ok (.iload_n 1, 1) := dk_27 (dk_at dksX3_least_0 1 rfl rfl)
theorem dX3_least_2 : decode cX3_least 2 = .ok (.iload_n 2, 1) := dk_28 (dk_at dksX3_least_0 2 rfl rfl)
theorem dX3_least_3 : decode cX3_least 3 = .ok (.invokevirtual 469, 3) := dk_182 1 213 (dk_at dksX3_least_0 3 rfl rfl)
theorem dX3_least_6 : decode cX3_least 6 = .ok (.ifCond .eq 13, 3) := dk_153 0 13 (dk_at dksX3_least_0 6 rfl rfl)
theorem dX3_least_9 : decode cX3_least 9 = .ok (.aload_n 0, 1) := dk_42 (dk_at dksX3_least_0 9 rfl rfl)
theorem dX3_least_10 : decode cX3_least 10 = .ok (.getfield 460, 3) := dk_180 1 204 (dk_at dksX3_least_0 10 rfl rfl)
theorem dX3_least_13 : decode cX3_least 13 = .ok (.invokestatic 258, 3) := dk_184 1 2 (dk_at dksX3_least_0 13 rfl rfl)
theorem dX3_least_16 : decode cX3_least 16 = .ok (.goto 4, 3) := dk_167 0 4 (dk_at dksX3_least_0 16 rfl rfl)
theorem dX3_least_19 : decode cX3_least 19 = .ok (.iconst (-1), 1) := dk_2 (dk_at dksX3_least_0 19 rfl rfl)
theorem dX3_least_20 : decode cX3_least 20 = .ok (.ireturn, 1) := dk_172 (dk_at dksX3_least_0 20 rfl rfl)
abbrev cX3_finds : ByteArray := prog_22_method_100_code
def yX3_finds : MethodName := ⟨RX3, "finds", "(II)Z"⟩
def dkwX3_finds_7 : List UInt8 := [180, 1, 204, 2, 159, 0, 7, 4, 167, 0, 4, 3, 172]
abbrev dktX3_finds_7 : List UInt8 := dkwX3_finds_7 ++ []
def dkwX3_finds_6 : List UInt8 := [21, 4, 155, 0, 10, 29, 21, 5, 126, 153, 0, 8, 42, 29, 181, 1, 204, 132, 3, 1, 167, 255, 138, 42]
abbrev dktX3_finds_6 : List UInt8 := dkwX3_finds_6 ++ dktX3_finds_7
def dkwX3_finds_5 : List UInt8 := [156, 0, 7, 3, 167, 0, 17, 29, 42, 180, 1, 204, 130, 29, 42, 180, 1, 204, 130, 116, 126, 54, 5]
abbrev dktX3_finds_5 : List UInt8 := dkwX3_finds_5 ++ dktX3_finds_6
def dkwX3_finds_4 : List UInt8 := [167, 0, 64, 42, 21, 4, 156, 0, 7, 4, 167, 0, 9, 42, 180, 1, 207, 4, 96, 181, 1, 207, 21, 4]
abbrev dktX3_finds_4 : List UInt8 := dkwX3_finds_4 ++ dktX3_finds_5
def dkwX3_finds_3 : List UInt8 := [180, 1, 204, 184, 1, 2, 100, 54, 4, 21, 4, 157, 0, 77, 42, 29, 27, 28, 182, 1, 210, 154, 0, 6]
abbrev dktX3_finds_3 : List UInt8 := dkwX3_finds_3 ++ dktX3_finds_4
def dkwX3_finds_2 : List UInt8 := [180, 0, 196, 120, 162, 0, 114, 42, 180, 1, 204, 2, 160, 0, 7, 2, 167, 0, 15, 29, 184, 1, 2, 42]
abbrev dktX3_finds_2 : List UInt8 := dkwX3_finds_2 ++ dktX3_finds_3
def dkwX3_finds_1 : List UInt8 := [42, 42, 180, 0, 185, 182, 1, 44, 42, 2, 181, 1, 204, 42, 3, 181, 1, 207, 4, 62, 29, 4, 42]
abbrev dktX3_finds_1 : List UInt8 := dkwX3_finds_1 ++ dktX3_finds_2
def dkwX3_finds_0 : List UInt8 := [42, 3, 181, 0, 181, 42, 27, 182, 0, 216, 153, 0, 12, 28, 3, 4, 184, 0, 188, 154, 0, 5, 3, 172]
abbrev dktX3_finds_0 : List UInt8 := dkwX3_finds_0 ++ dktX3_finds_1
theorem dksX3_finds_0 : cX3_finds.data.toList.drop 0 = dktX3_finds_0 := by decide +kernel
theorem dksX3_finds_1 : cX3_finds.data.toList.drop 24 = dktX3_finds_1 := dk_seg dksX3_finds_0 24 rfl rfl
theorem dksX3_finds_2 : cX3_finds.data.toList.drop 47 = dktX3_finds_2 := dk_seg dksX3_finds_1 23 rfl rfl
theorem dksX3_finds_3 : cX3_finds.data.toList.drop 71 = dktX3_finds_3 := dk_seg dksX3_finds_2 24 rfl rfl
theorem dksX3_finds_4 : cX3_finds.data.toList.drop 95 = dktX3_finds_4 := dk_seg dksX3_finds_3 24 rfl rfl
theorem dksX3_finds_5 : cX3_finds.data.toList.drop 119 = dktX3_finds_5 := dk_seg dksX3_finds_4 24 rfl rfl
theorem dksX3_finds_6 : cX3_finds.data.toList.drop 142 = dktX3_finds_6 := dk_seg dksX3_finds_5 23 rfl rfl
theorem dksX3_finds_7 : cX3_finds.data.toList.drop 166 = dktX3_finds_7 := dk_seg dksX3_finds_6 24 rfl rfl
theorem dX3_finds_0 : decode cX3_finds 0 = .ok (.aload_n 0, 1) := dk_42 (dk_at dksX3_finds_0 0 rfl rfl)
theorem dX3_finds_1 : decode cX3_finds 1 = .ok (.iconst 0, 1) := dk_3 (dk_at dksX3_finds_0 1 rfl rfl)
theorem dX3_finds_2 : decode cX3_finds 2 = .ok (.putfield 181, 3) := dk_181 0 181 (dk_at dksX3_finds_0 2 rfl rfl)
theorem dX3_finds_5 : decode cX3_finds 5 = .ok (.aload_n 0, 1) := dk_42 (dk_at dksX3_finds_0 5 rfl rfl)
theorem dX3_finds_6 : decode cX3_finds 6 = .ok (.iload_n 1, 1) := dk_27 (dk_at dksX3_finds_0 6 rfl rfl)
theorem dX3_finds_7 : decode cX3_finds 7 = .ok (.invokevirtual 216, 3) := dk_182 0 216 (dk_at dksX3_finds_0 7 rfl rfl)
theorem dX3_finds_10 : decode cX3_finds 10 = .ok (.ifCond .eq 12, 3) := dk_153 0 12 (dk_at dksX3_finds_0 10 rfl rfl)
theorem dX3_finds_13 : decode cX3_finds 13 = .ok (.iload_n 2, 1) := dk_28 (dk_at dksX3_finds_0 13 rfl rfl)
theorem dX3_finds_14 : decode cX3_finds 14 = .ok (.iconst 0, 1) := dk_3 (dk_at dksX3_finds_0 14 rfl rfl)
theorem dX3_finds_15 : decode cX3_finds 15 = .ok (.iconst 1, 1) := dk_4 (dk_at dksX3_finds_0 15 rfl rfl)
theorem dX3_finds_16 : decode cX3_finds 16 = .ok (.invokestatic 188, 3) := dk_184 0 188 (dk_at dksX3_finds_0 16 rfl rfl)
theorem dX3_finds_19 : decode cX3_finds 19 = .ok (.ifCond .ne 5, 3) := dk_154 0 5 (dk_at dksX3_finds_0 19 rfl rfl)
theorem dX3_finds_22 : decode cX3_finds 22 = .ok (.iconst 0, 1) := dk_3 (dk_at dksX3_finds_0 22 rfl rfl)
theorem dX3_finds_23 : decode cX3_finds 23 = .ok (.ireturn, 1) := dk_172 (dk_at dksX3_finds_0 23 rfl rfl)
theorem dX3_finds_24 : decode cX3_finds 24 = .ok (.aload_n 0, 1) := dk_42 (dk_at dksX3_finds_1 0 rfl rfl)
theorem dX3_finds_25 : decode cX3_finds 25 = .ok (.aload_n 0, 1) := dk_42 (dk_at dksX3_finds_1 1 rfl rfl)
theorem dX3_finds_26 : decode cX3_finds 26 = .ok (.getfield 185, 3) := dk_180 0 185 (dk_at dksX3_finds_1 2 rfl rfl)
theorem dX3_finds_29 : decode cX3_finds 29 = .ok (.invokevirtual 300, 3) := dk_182 1 44 (dk_at dksX3_finds_1 5 rfl rfl)
theorem dX3_finds_32 : decode cX3_finds 32 = .ok (.aload_n 0, 1) := dk_42 (dk_at dksX3_finds_1 8 rfl rfl)
theorem dX3_finds_33 : decode cX3_finds 33 = .ok (.iconst (-1), 1) := dk_2 (dk_at dksX3_finds_1 9 rfl rfl)
theorem dX3_finds_34 : decode cX3_finds 34 = .ok (.putfield 460, 3) := dk_181 1 204 (dk_at dksX3_finds_1 10 rfl rfl)
theorem dX3_finds_37 : decode cX3_finds 37 = .ok (.aload_n 0, 1) := dk_42 (dk_at dksX3_finds_1 13 rfl rfl)
theorem dX3_finds_38 : decode cX3_finds 38 = .ok (.iconst 0, 1) := dk_3 (dk_at dksX3_finds_1 14 rfl rfl)
theorem dX3_finds_39 : decode cX3_finds 39 = .ok (.putfield 463, 3) := dk_181 1 207 (dk_at dksX3_finds_1 15 rfl rfl)
theorem dX3_finds_42 : decode cX3_finds 42 = .ok (.iconst 1, 1) := dk_4 (dk_at dksX3_finds_1 18 rfl rfl)
theorem dX3_finds_43 : decode cX3_finds 43 = .ok (.istore_n 3, 1) := dk_62 (dk_at dksX3_finds_1 19 rfl rfl)
theorem dX3_finds_44 : decode cX3_finds 44 = .ok (.iload_n 3, 1) := dk_29 (dk_at dksX3_finds_1 20 rfl rfl)
theorem dX3_finds_45 : decode cX3_finds 45 = .ok (.iconst 1, 1) := dk_4 (dk_at dksX3_finds_1 21 rfl rfl)
theorem dX3_finds_46 : decode cX3_finds 46 = .ok (.aload_n 0, 1) := dk_42 (dk_at dksX3_finds_1 22 rfl rfl)
theorem dX3_finds_47 : decode cX3_finds 47 = .ok (.getfield 196, 3) := dk_180 0 196 (dk_at dksX3_finds_2 0 rfl rfl)
theorem dX3_finds_50 : decode cX3_finds 50 = .ok (.ishl, 1) := dk_120 (dk_at dksX3_finds_2 3 rfl rfl)
theorem dX3_finds_51 : decode cX3_finds 51 = .ok (.if_icmp .ge 114, 3) := dk_162 0 114 (dk_at dksX3_finds_2 4 rfl rfl)
theorem dX3_finds_54 : decode cX3_finds 54 = .ok (.aload_n 0, 1) := dk_42 (dk_at dksX3_finds_2 7 rfl rfl)
theorem dX3_finds_55 : decode cX3_finds 55 = .ok (.getfield 460, 3) := dk_180 1 204 (dk_at dksX3_finds_2 8 rfl rfl)
theorem dX3_finds_58 : decode cX3_finds 58 = .ok (.iconst (-1), 1) := dk_2 (dk_at dksX3_finds_2 11 rfl rfl)
theorem dX3_finds_59 : decode cX3_finds 59 = .ok (.if_icmp .ne 7, 3) := dk_160 0 7 (dk_at dksX3_finds_2 12 rfl rfl)
theorem dX3_finds_62 : decode cX3_finds 62 = .ok (.iconst (-1), 1) := dk_2 (dk_at dksX3_finds_2 15 rfl rfl)
theorem dX3_finds_63 : decode cX3_finds 63 = .ok (.goto 15, 3) := dk_167 0 15 (dk_at dksX3_finds_2 16 rfl rfl)
theorem dX3_finds_66 : decode cX3_finds 66 = .ok (.iload_n 3, 1) := dk_29 (dk_at dksX3_finds_2 19 rfl rfl)
theorem dX3_finds_67 : decode cX3_finds 67 = .ok (.invokestatic 258, 3) := dk_184 1 2 (dk_at dksX3_finds_2 20 rfl rfl)
theorem dX3_finds_70 : decode cX3_finds 70 = .ok (.aload_n 0, 1) := dk_42 (dk_at dksX3_finds_2 23 rfl rfl)
theorem dX3_finds_71 : decode cX3_finds 71 = .ok (.getfield 460, 3) := dk_180 1 204 (dk_at dksX3_finds_3 0 rfl rfl)
theorem dX3_finds_74 : decode cX3_finds 74 = .ok (.invokestatic 258, 3) := dk_184 1 2 (dk_at dksX3_finds_3 3 rfl rfl)
theorem dX3_finds_77 : decode cX3_finds 77 = .ok (.isub, 1) := dk_100 (dk_at dksX3_finds_3 6 rfl rfl)
theorem dX3_finds_78 : decode cX3_finds 78 = .ok (.istore 4, 2) := dk_54 4 (dk_at dksX3_finds_3 7 rfl rfl)
theorem dX3_finds_80 : decode cX3_finds 80 = .ok (.iload 4, 2) := dk_21 4 (dk_at dksX3_finds_3 9 rfl rfl)
theorem dX3_finds_82 : decode cX3_finds 82 = .ok (.ifCond .gt 77, 3) := dk_157 0 77 (dk_at dksX3_finds_3 11 rfl rfl)
theorem dX3_finds_85 : decode cX3_finds 85 = .ok (.aload_n 0, 1) := dk_42 (dk_at dksX3_finds_3 14 rfl rfl)
theorem dX3_finds_86 : decode cX3_finds 86 = .ok (.iload_n 3, 1) := dk_29 (dk_at dksX3_finds_3 15 rfl rfl)
theorem dX3_finds_87 : decode cX3_finds 87 = .ok (.iload_n 1, 1) := dk_27 (dk_at dksX3_finds_3 16 rfl rfl)
theorem dX3_finds_88 : decode cX3_finds 88 = .ok (.iload_n 2, 1) := dk_28 (dk_at dksX3_finds_3 17 rfl rfl)
theorem dX3_finds_89 : decode cX3_finds 89 = .ok (.invokevirtual 466, 3) := dk_182 1 210 (dk_at dksX3_finds_3 18 rfl rfl)
theorem dX3_finds_92 : decode cX3_finds 92 = .ok (.ifCond .ne 6, 3) := dk_154 0 6 (dk_at dksX3_finds_3 21 rfl rfl)
theorem dX3_finds_95 : decode cX3_finds 95 = .ok (.goto 64, 3) := dk_167 0 64 (dk_at dksX3_finds_4 0 rfl rfl)
theorem dX3_finds_98 : decode cX3_finds 98 = .ok (.aload_n 0, 1) := dk_42 (dk_at dksX3_finds_4 3 rfl rfl)
theorem dX3_finds_99 : decode cX3_finds 99 = .ok (.iload 4, 2) := dk_21 4 (dk_at dksX3_finds_4 4 rfl rfl)
theorem dX3_finds_101 : decode cX3_finds 101 = .ok (.ifCond .ge 7, 3) := dk_156 0 7 (dk_at dksX3_finds_4 6 rfl rfl)
theorem dX3_finds_104 : decode cX3_finds 104 = .ok (.iconst 1, 1) := dk_4 (dk_at dksX3_finds_4 9 rfl rfl)
theorem dX3_finds_105 : decode cX3_finds 105 = .ok (.goto 9, 3) := dk_167 0 9 (dk_at dksX3_finds_4 10 rfl rfl)
theorem dX3_finds_108 : decode cX3_finds 108 = .ok (.aload_n 0, 1) := dk_42 (dk_at dksX3_finds_4 13 rfl rfl)
theorem dX3_finds_109 : decode cX3_finds 109 = .ok (.getfield 463, 3) := dk_180 1 207 (dk_at dksX3_finds_4 14 rfl rfl)
theorem dX3_finds_112 : decode cX3_finds 112 = .ok (.iconst 1, 1) := dk_4 (dk_at dksX3_finds_4 17 rfl rfl)
theorem dX3_finds_113 : decode cX3_finds 113 = .ok (.iadd, 1) := dk_96 (dk_at dksX3_finds_4 18 rfl rfl)
theorem dX3_finds_114 : decode cX3_finds 114 = .ok (.putfield 463, 3) := dk_181 1 207 (dk_at dksX3_finds_4 19 rfl rfl)
theorem dX3_finds_117 : decode cX3_finds 117 = .ok (.iload 4, 2) := dk_21 4 (dk_at dksX3_finds_4 22 rfl rfl)
theorem dX3_finds_119 : decode cX3_finds 119 = .ok (.ifCond .ge 7, 3) := dk_156 0 7 (dk_at dksX3_finds_5 0 rfl rfl)
theorem dX3_finds_122 : decode cX3_finds 122 = .ok (.iconst 0, 1) := dk_3 (dk_at dksX3_finds_5 3 rfl rfl)
theorem dX3_finds_123 : decode cX3_finds 123 = .ok (.goto 17, 3) := dk_167 0 17 (dk_at dksX3_finds_5 4 rfl rfl)
theorem dX3_finds_126 : decode cX3_finds 126 = .ok (.iload_n 3, 1) := dk_29 (dk_at dksX3_finds_5 7 rfl rfl)
theorem dX3_finds_127 : decode cX3_finds 127 = .ok (.aload_n 0, 1) := dk_42 (dk_at dksX3_finds_5 8 rfl rfl)
theorem dX3_finds_128 : decode cX3_finds 128 = .ok (.getfield 460, 3) := dk_180 1 204 (dk_at dksX3_finds_5 9 rfl rfl)
theorem dX3_finds_131 : decode cX3_finds 131 = .ok (.ixor, 1) := dk_130 (dk_at dksX3_finds_5 12 rfl rfl)
theorem dX3_finds_132 : decode cX3_finds 132 = .ok (.iload_n 3, 1) := dk_29 (dk_at dksX3_finds_5 13 rfl rfl)
theorem dX3_finds_133 : decode cX3_finds 133 = .ok (.aload_n 0, 1) := dk_42 (dk_at dksX3_finds_5 14 rfl rfl)
theorem dX3_finds_134 : decode cX3_finds 134 = .ok (.getfield 460, 3) := dk_180 1 204 (dk_at dksX3_finds_5 15 rfl rfl)
theorem dX3_finds_137 : decode cX3_finds 137 = .ok (.ixor, 1) := dk_130 (dk_at dksX3_finds_5 18 rfl rfl)
theorem dX3_finds_138 : decode cX3_finds 138 = .ok (.ineg, 1) := dk_116 (dk_at dksX3_finds_5 19 rfl rfl)
theorem dX3_finds_139 : decode cX3_finds 139 = .ok (.iand, 1) := dk_126 (dk_at dksX3_finds_5 20 rfl rfl)
theorem dX3_finds_140 : decode cX3_finds 140 = .ok (.istore 5, 2) := dk_54 5 (dk_at dksX3_finds_5 21 rfl rfl)
theorem dX3_finds_142 : decode cX3_finds 142 = .ok (.iload 4, 2) := dk_21 4 (dk_at dksX3_finds_6 0 rfl rfl)
theorem dX3_finds_144 : decode cX3_finds 144 = .ok (.ifCond .lt 10, 3) := dk_155 0 10 (dk_at dksX3_finds_6 2 rfl rfl)
theorem dX3_finds_147 : decode cX3_finds 147 = .ok (.iload_n 3, 1) := dk_29 (dk_at dksX3_finds_6 5 rfl rfl)
theorem dX3_finds_148 : decode cX3_finds 148 = .ok (.iload 5, 2) := dk_21 5 (dk_at dksX3_finds_6 6 rfl rfl)
theorem dX3_finds_150 : decode cX3_finds 150 = .ok (.iand, 1) := dk_126 (dk_at dksX3_finds_6 8 rfl rfl)
theorem dX3_finds_151 : decode cX3_finds 151 = .ok (.ifCond .eq 8, 3) := dk_153 0 8 (dk_at dksX3_finds_6 9 rfl rfl)
theorem dX3_finds_154 : decode cX3_finds 154 = .ok (.aload_n 0, 1) := dk_42 (dk_at dksX3_finds_6 12 rfl rfl)
theorem dX3_finds_155 : decode cX3_finds 155 = .ok (.iload_n 3, 1) := dk_29 (dk_at dksX3_finds_6 13 rfl rfl)
theorem dX3_finds_156 : decode cX3_finds 156 = .ok (.putfield 460, 3) := dk_181 1 204 (dk_at dksX3_finds_6 14 rfl rfl)
theorem dX3_finds_159 : decode cX3_finds 159 = .ok (.iinc 3 1, 3) := dk_132 3 1 (dk_at dksX3_finds_6 17 rfl rfl)
theorem dX3_finds_162 : decode cX3_finds 162 = .ok (.goto (-118), 3) := dk_167 255 138 (dk_at dksX3_finds_6 20 rfl rfl)
theorem dX3_finds_165 : decode cX3_finds 165 = .ok (.aload_n 0, 1) := dk_42 (dk_at dksX3_finds_6 23 rfl rfl)
theorem dX3_finds_166 : decode cX3_finds 166 = .ok (.getfield 460, 3) := dk_180 1 204 (dk_at dksX3_finds_7 0 rfl rfl)
theorem dX3_finds_169 : decode cX3_finds 169 = .ok (.iconst (-1), 1) := dk_2 (dk_at dksX3_finds_7 3 rfl rfl)
theorem dX3_finds_170 : decode cX3_finds 170 = .ok (.if_icmp .eq 7, 3) := dk_159 0 7 (dk_at dksX3_finds_7 4 rfl rfl)
theorem dX3_finds_173 : decode cX3_finds 173 = .ok (.iconst 1, 1) := dk_4 (dk_at dksX3_finds_7 7 rfl rfl)
theorem dX3_finds_174 : decode cX3_finds 174 = .ok (.goto 4, 3) := dk_167 0 4 (dk_at dksX3_finds_7 8 rfl rfl)
theorem dX3_finds_177 : decode cX3_finds 177 = .ok (.iconst 0, 1) := dk_3 (dk_at dksX3_finds_7 11 rfl rfl)
theorem dX3_finds_178 : decode cX3_finds 178 = .ok (.ireturn, 1) := dk_172 (dk_at dksX3_finds_7 12 rfl rfl)
abbrev cX3_harms : ByteArray := prog_22_method_99_code
def yX3_harms : MethodName := ⟨RX3, "harms", "(III)Z"⟩
def dkwX3_harms_2 : List UInt8 := [182, 1, 47, 28, 123, 10, 127, 9, 148, 154, 0, 7, 4, 167, 0, 4, 3, 172]
abbrev dktX3_harms_2 : List UInt8 := dkwX3_harms_2 ++ []
def dkwX3_harms_1 : List UInt8 := [154, 0, 7, 4, 167, 0, 36, 3, 167, 0, 32, 42, 42, 27, 182, 1, 201, 42, 180, 0, 185, 2, 3]
abbrev dktX3_harms_1 : List UInt8 := dkwX3_harms_1 ++ dktX3_harms_2
def dkwX3_harms_0 : List UInt8 := [29, 4, 160, 0, 31, 42, 27, 42, 180, 0, 185, 2, 3, 182, 1, 47, 28, 123, 10, 127, 10, 148]
abbrev dktX3_harms_0 : List UInt8 := dkwX3_harms_0 ++ dktX3_harms_1
theorem dksX3_harms_0 : cX3_harms.data.toList.drop 0 = dktX3_harms_0 := by decide +kernel
theorem dksX3_harms_1 : cX3_harms.data.toList.drop 22 = dktX3_harms_1 := dk_seg dksX3_harms_0 22 rfl rfl
theorem dksX3_harms_2 : cX3_harms.data.toList.drop 45 = dktX3_harms_2 := dk_seg dksX3_harms_1 23 rfl rfl
theorem dX3_harms_0 : decode cX3_harms 0 = .ok (.iload_n 3, 1) := dk_29 (dk_at dksX3_harms_0 0 rfl rfl)
theorem dX3_harms_1 : decode cX3_harms 1 = .ok (.iconst 1, 1) := dk_4 (dk_at dksX3_harms_0 1 rfl rfl)
theorem dX3_harms_2 : decode cX3_harms 2 = .ok (.if_icmp .ne 31, 3) := dk_160 0 31 (dk_at dksX3_harms_0 2 rfl rfl)
theorem dX3_harms_5 : decode cX3_harms 5 = .ok (.aload_n 0, 1) := dk_42 (dk_at dksX3_harms_0 5 rfl rfl)
theorem dX3_harms_6 : decode cX3_harms 6 = .ok (.iload_n 1, 1) := dk_27 (dk_at dksX3_harms_0 6 rfl rfl)
theorem dX3_harms_7 : decode cX3_harms 7 = .ok (.aload_n 0, 1) := dk_42 (dk_at dksX3_harms_0 7 rfl rfl)
theorem dX3_harms_8 : decode cX3_harms 8 = .ok (.getfield 185, 3) := dk_180 0 185 (dk_at dksX3_harms_0 8 rfl rfl)
theorem dX3_harms_11 : decode cX3_harms 11 = .ok (.iconst (-1), 1) := dk_2 (dk_at dksX3_harms_0 11 rfl rfl)
theorem dX3_harms_12 : decode cX3_harms 12 = .ok (.iconst 0, 1) := dk_3 (dk_at dksX3_harms_0 12 rfl rfl)
theorem dX3_harms_13 : decode cX3_harms 13 = .ok (.invokevirtual 303, 3) := dk_182 1 47 (dk_at dksX3_harms_0 13 rfl rfl)
theorem dX3_harms_16 : decode cX3_harms 16 = .ok (.iload_n 2, 1) := dk_28 (dk_at dksX3_harms_0 16 rfl rfl)
theorem dX3_harms_17 : decode cX3_harms 17 = .ok (.lshr, 1) := dk_123 (dk_at dksX3_harms_0 17 rfl rfl)
theorem dX3_harms_18 : decode cX3_harms 18 = .ok (.lconst 1, 1) := dk_10 (dk_at dksX3_harms_0 18 rfl rfl)
theorem dX3_harms_19 : decode cX3_harms 19 = .ok (.land, 1) := dk_127 (dk_at dksX3_harms_0 19 rfl rfl)
theorem dX3_harms_20 : decode cX3_harms 20 = .ok (.lconst 1, 1) := dk_10 (dk_at dksX3_harms_0 20 rfl rfl)
theorem dX3_harms_21 : decode cX3_harms 21 = .ok (.lcmp, 1) := dk_148 (dk_at dksX3_harms_0 21 rfl rfl)
theorem dX3_harms_22 : decode cX3_harms 22 = .ok (.ifCond .ne 7, 3) := dk_154 0 7 (dk_at dksX3_harms_1 0 rfl rfl)
theorem dX3_harms_25 : decode cX3_harms 25 = .ok (.iconst 1, 1) := dk_4 (dk_at dksX3_harms_1 3 rfl rfl)
theorem dX3_harms_26 : decode cX3_harms 26 = .ok (.goto 36, 3) := dk_167 0 36 (dk_at dksX3_harms_1 4 rfl rfl)
theorem dX3_harms_29 : decode cX3_harms 29 = .ok (.iconst 0, 1) := dk_3 (dk_at dksX3_harms_1 7 rfl rfl)
theorem dX3_harms_30 : decode cX3_harms 30 = .ok (.goto 32, 3) := dk_167 0 32 (dk_at dksX3_harms_1 8 rfl rfl)
theorem dX3_harms_33 : decode cX3_harms 33 = .ok (.aload_n 0, 1) := dk_42 (dk_at dksX3_harms_1 11 rfl rfl)
theorem dX3_harms_34 : decode cX3_harms 34 = .ok (.aload_n 0, 1) := dk_42 (dk_at dksX3_harms_1 12 rfl rfl)
theorem dX3_harms_35 : decode cX3_harms 35 = .ok (.iload_n 1, 1) := dk_27 (dk_at dksX3_harms_1 13 rfl rfl)
theorem dX3_harms_36 : decode cX3_harms 36 = .ok (.invokevirtual 457, 3) := dk_182 1 201 (dk_at dksX3_harms_1 14 rfl rfl)
theorem dX3_harms_39 : decode cX3_harms 39 = .ok (.aload_n 0, 1) := dk_42 (dk_at dksX3_harms_1 17 rfl rfl)
theorem dX3_harms_40 : decode cX3_harms 40 = .ok (.getfield 185, 3) := dk_180 0 185 (dk_at dksX3_harms_1 18 rfl rfl)
theorem dX3_harms_43 : decode cX3_harms 43 = .ok (.iconst (-1), 1) := dk_2 (dk_at dksX3_harms_1 21 rfl rfl)
theorem dX3_harms_44 : decode cX3_harms 44 = .ok (.iconst 0, 1) := dk_3 (dk_at dksX3_harms_1 22 rfl rfl)
theorem dX3_harms_45 : decode cX3_harms 45 = .ok (.invokevirtual 303, 3) := dk_182 1 47 (dk_at dksX3_harms_2 0 rfl rfl)
theorem dX3_harms_48 : decode cX3_harms 48 = .ok (.iload_n 2, 1) := dk_28 (dk_at dksX3_harms_2 3 rfl rfl)
theorem dX3_harms_49 : decode cX3_harms 49 = .ok (.lshr, 1) := dk_123 (dk_at dksX3_harms_2 4 rfl rfl)
theorem dX3_harms_50 : decode cX3_harms 50 = .ok (.lconst 1, 1) := dk_10 (dk_at dksX3_harms_2 5 rfl rfl)
theorem dX3_harms_51 : decode cX3_harms 51 = .ok (.land, 1) := dk_127 (dk_at dksX3_harms_2 6 rfl rfl)
theorem dX3_harms_52 : decode cX3_harms 52 = .ok (.lconst 0, 1) := dk_9 (dk_at dksX3_harms_2 7 rfl rfl)
theorem dX3_harms_53 : decode cX3_harms 53 = .ok (.lcmp, 1) := dk_148 (dk_at dksX3_harms_2 8 rfl rfl)
theorem dX3_harms_54 : decode cX3_harms 54 = .ok (.ifCond .ne 7, 3) := dk_154 0 7 (dk_at dksX3_harms_2 9 rfl rfl)
theorem dX3_harms_57 : decode cX3_harms 57 = .ok (.iconst 1, 1) := dk_4 (dk_at dksX3_harms_2 12 rfl rfl)
theorem dX3_harms_58 : decode cX3_harms 58 = .ok (.goto 4, 3) := dk_167 0 4 (dk_at dksX3_harms_2 13 rfl rfl)
theorem dX3_harms_61 : decode cX3_harms 61 = .ok (.iconst 0, 1) := dk_3 (dk_at dksX3_harms_2 16 rfl rfl)
theorem dX3_harms_62 : decode cX3_harms 62 = .ok (.ireturn, 1) := dk_172 (dk_at dksX3_harms_2 17 rfl rfl)
abbrev cX3_ways : ByteArray := prog_22_method_102_code
def yX3_ways : MethodName := ⟨RX3, "ways", "(II)I"⟩
def dkwX3_ways_0 : List UInt8 := [42, 27, 28, 182, 1, 213, 153, 0, 10, 42, 180, 1, 207, 167, 0, 4, 2, 172]
abbrev dktX3_ways_0 : List UInt8 := dkwX3_ways_0 ++ []
theorem dksX3_ways_0 : cX3_ways.data.toList.drop 0 = dktX3_ways_0 := by decide +kernel
theorem dX3_ways_0 : decode cX3_ways 0 = .ok (.aload_n 0, 1) := dk_42 (dk_at dksX3_ways_0 0 rfl rfl)
theorem dX3_ways_1 : decode cX3_ways 1 = .ok (.iload_n 1, 1) := dk_27 (dk_at dksX3_ways_0 1 rfl rfl)
theorem dX3_ways_2 : decode cX3_ways 2 = .ok (.iload_n 2, 1) := dk_28 (dk_at dksX3_ways_0 2 rfl rfl)
theorem dX3_ways_3 : decode cX3_ways 3 = .ok (.invokevirtual 469, 3) := dk_182 1 213 (dk_at dksX3_ways_0 3 rfl rfl)
theorem dX3_ways_6 : decode cX3_ways 6 = .ok (.ifCond .eq 10, 3) := dk_153 0 10 (dk_at dksX3_ways_0 6 rfl rfl)
theorem dX3_ways_9 : decode cX3_ways 9 = .ok (.aload_n 0, 1) := dk_42 (dk_at dksX3_ways_0 9 rfl rfl)
theorem dX3_ways_10 : decode cX3_ways 10 = .ok (.getfield 463, 3) := dk_180 1 207 (dk_at dksX3_ways_0 10 rfl rfl)
theorem dX3_ways_13 : decode cX3_ways 13 = .ok (.goto 4, 3) := dk_167 0 4 (dk_at dksX3_ways_0 13 rfl rfl)
theorem dX3_ways_16 : decode cX3_ways 16 = .ok (.iconst (-1), 1) := dk_2 (dk_at dksX3_ways_0 16 rfl rfl)
theorem dX3_ways_17 : decode cX3_ways 17 = .ok (.ireturn, 1) := dk_172 (dk_at dksX3_ways_0 17 rfl rfl)
abbrev cX3_first : ByteArray := prog_22_method_103_code
def yX3_first : MethodName := ⟨RX3, "first", "(II)I"⟩
def dkwX3_first_0 : List UInt8 := [42, 27, 28, 182, 1, 213, 153, 0, 10, 42, 180, 1, 204, 167, 0, 4, 2, 172]
abbrev dktX3_first_0 : List UInt8 := dkwX3_first_0 ++ []
theorem dksX3_first_0 : cX3_first.data.toList.drop 0 = dktX3_first_0 := by decide +kernel
theorem dX3_first_0 : decode cX3_first 0 = .ok (.aload_n 0, 1) := dk_42 (dk_at dksX3_first_0 0 rfl rfl)
theorem dX3_first_1 : decode cX3_first 1 = .ok (.iload_n 1, 1) := dk_27 (dk_at dksX3_first_0 1 rfl rfl)
theorem dX3_first_2 : decode cX3_first 2 = .ok (.iload_n 2, 1) := dk_28 (dk_at dksX3_first_0 2 rfl rfl)
theorem dX3_first_3 : decode cX3_first 3 = .ok (.invokevirtual 469, 3) := dk_182 1 213 (dk_at dksX3_first_0 3 rfl rfl)
theorem dX3_first_6 : decode cX3_first 6 = .ok (.ifCond .eq 10, 3) := dk_153 0 10 (dk_at dksX3_first_0 6 rfl rfl)
theorem dX3_first_9 : decode cX3_first 9 = .ok (.aload_n 0, 1) := dk_42 (dk_at dksX3_first_0 9 rfl rfl)
theorem dX3_first_10 : decode cX3_first 10 = .ok (.getfield 460, 3) := dk_180 1 204 (dk_at dksX3_first_0 10 rfl rfl)
theorem dX3_first_13 : decode cX3_first 13 = .ok (.goto 4, 3) := dk_167 0 4 (dk_at dksX3_first_0 13 rfl rfl)
theorem dX3_first_16 : decode cX3_first 16 = .ok (.iconst (-1), 1) := dk_2 (dk_at dksX3_first_0 16 rfl rfl)
theorem dX3_first_17 : decode cX3_first 17 = .ok (.ireturn, 1) := dk_172 (dk_at dksX3_first_0 17 rfl rfl)
abbrev cX3_better : ByteArray := prog_22_method_105_code
def yX3_better : MethodName := ⟨RX3, "bette\x72", "(I)I"⟩
def dkwX3_better_4 : List UInt8 := [21, 4, 61, 132, 4, 1, 167, 255, 205, 28, 172]
abbrev dktX3_better_4 : List UInt8 := dkwX3_better_4 ++ []
def dkwX3_better_3 : List UInt8 := [153, 0, 27, 28, 2, 159, 0, 19, 21, 4, 29, 100, 184, 1, 219, 28, 29, 100, 184, 1, 219, 162, 0, 6]
abbrev dktX3_better_3 : List UInt8 := dkwX3_better_3 ++ dktX3_better_4
def dkwX3_better_2 : List UInt8 := [54, 4, 21, 4, 42, 180, 0, 60, 27, 46, 184, 1, 2, 163, 0, 43, 42, 27, 21, 4, 182, 1, 216]
abbrev dktX3_better_2 : List UInt8 := dkwX3_better_2 ++ dktX3_better_3
def dkwX3_better_1 : List UInt8 := [154, 0, 5, 2, 172, 42, 42, 180, 0, 185, 182, 1, 44, 2, 61, 42, 180, 0, 63, 27, 46, 62, 4]
abbrev dktX3_better_1 : List UInt8 := dkwX3_better_1 ++ dktX3_better_2
def dkwX3_better_0 : List UInt8 := [42, 3, 181, 0, 181, 42, 27, 182, 1, 11, 153, 0, 15, 42, 27, 42, 180, 0, 185, 182, 1, 38]
abbrev dktX3_better_0 : List UInt8 := dkwX3_better_0 ++ dktX3_better_1
theorem dksX3_better_0 : cX3_better.data.toList.drop 0 = dktX3_better_0 := by decide +kernel
theorem dksX3_better_1 : cX3_better.data.toList.drop 22 = dktX3_better_1 := dk_seg dksX3_better_0 22 rfl rfl
theorem dksX3_better_2 : cX3_better.data.toList.drop 45 = dktX3_better_2 := dk_seg dksX3_better_1 23 rfl rfl
theorem dksX3_better_3 : cX3_better.data.toList.drop 68 = dktX3_better_3 := dk_seg dksX3_better_2 23 rfl rfl
theorem dksX3_better_4 : cX3_better.data.toList.drop 92 = dktX3_better_4 := dk_seg dksX3_better_3 24 rfl rfl
theorem dX3_better_0 : decode cX3_better 0 = .ok (.aload_n 0, 1) := dk_42 (dk_at dksX3_better_0 0 rfl rfl)
theorem dX3_better_1 : decode cX3_better 1 = .ok (.iconst 0, 1) := dk_3 (dk_at dksX3_better_0 1 rfl rfl)
theorem dX3_better_2 : decode cX3_better 2 = .ok (.putfield 181, 3) := dk_181 0 181 (dk_at dksX3_better_0 2 rfl rfl)
theorem dX3_better_5 : decode cX3_better 5 = .ok (.aload_n 0, 1) := dk_42 (dk_at dksX3_better_0 5 rfl rfl)
theorem dX3_better_6 : decode cX3_better 6 = .ok (.iload_n 1, 1) := dk_27 (dk_at dksX3_better_0 6 rfl rfl)
theorem dX3_better_7 : decode cX3_better 7 = .ok (.invokevirtual 267, 3) := dk_182 1 11 (dk_at dksX3_better_0 7 rfl rfl)
theorem dX3_better_10 : decode cX3_better 10 = .ok (.ifCond .eq 15, 3) := dk_153 0 15 (dk_at dksX3_better_0 10 rfl rfl)
theorem dX3_better_13 : decode cX3_better 13 = .ok (.aload_n 0, 1) := dk_42 (dk_at dksX3_better_0 13 rfl rfl)
theorem dX3_better_14 : decode cX3_better 14 = .ok (.iload_n 1, 1) := dk_27 (dk_at dksX3_better_0 14 rfl rfl)
theorem dX3_better_15 : decode cX3_better 15 = .ok (.aload_n 0, 1) := dk_42 (dk_at dksX3_better_0 15 rfl rfl)
theorem dX3_better_16 : decode cX3_better 16 = .ok (.getfield 185, 3) := dk_180 0 185 (dk_at dksX3_better_0 16 rfl rfl)
theorem dX3_better_19 : decode cX3_better 19 = .ok (.invokevirtual 294, 3) := dk_182 1 38 (dk_at dksX3_better_0 19 rfl rfl)
theorem dX3_better_22 : decode cX3_better 22 = .ok (.ifCond .ne 5, 3) := dk_154 0 5 (dk_at dksX3_better_1 0 rfl rfl)
theorem dX3_better_25 : decode cX3_better 25 = .ok (.iconst (-1), 1) := dk_2 (dk_at dksX3_better_1 3 rfl rfl)
theorem dX3_better_26 : decode cX3_better 26 = .ok (.ireturn, 1) := dk_172 (dk_at dksX3_better_1 4 rfl rfl)
theorem dX3_better_27 : decode cX3_better 27 = .ok (.aload_n 0, 1) := dk_42 (dk_at dksX3_better_1 5 rfl rfl)
theorem dX3_better_28 : decode cX3_better 28 = .ok (.aload_n 0, 1) := dk_42 (dk_at dksX3_better_1 6 rfl rfl)
theorem dX3_better_29 : decode cX3_better 29 = .ok (.getfield 185, 3) := dk_180 0 185 (dk_at dksX3_better_1 7 rfl rfl)
theorem dX3_better_32 : decode cX3_better 32 = .ok (.invokevirtual 300, 3) := dk_182 1 44 (dk_at dksX3_better_1 10 rfl rfl)
theorem dX3_better_35 : decode cX3_better 35 = .ok (.iconst (-1), 1) := dk_2 (dk_at dksX3_better_1 13 rfl rfl)
theorem dX3_better_36 : decode cX3_better 36 = .ok (.istore_n 2, 1) := dk_61 (dk_at dksX3_better_1 14 rfl rfl)
theorem dX3_better_37 : decode cX3_better 37 = .ok (.aload_n 0, 1) := dk_42 (dk_at dksX3_better_1 15 rfl rfl)
theorem dX3_better_38 : decode cX3_better 38 = .ok (.getfield 63, 3) := dk_180 0 63 (dk_at dksX3_better_1 16 rfl rfl)
theorem dX3_better_41 : decode cX3_better 41 = .ok (.iload_n 1, 1) := dk_27 (dk_at dksX3_better_1 19 rfl rfl)
theorem dX3_better_42 : decode cX3_better 42 = .ok (.iaload, 1) := dk_46 (dk_at dksX3_better_1 20 rfl rfl)
theorem dX3_better_43 : decode cX3_better 43 = .ok (.istore_n 3, 1) := dk_62 (dk_at dksX3_better_1 21 rfl rfl)
theorem dX3_better_44 : decode cX3_better 44 = .ok (.iconst 1, 1) := dk_4 (dk_at dksX3_better_1 22 rfl rfl)
theorem dX3_better_45 : decode cX3_better 45 = .ok (.istore 4, 2) := dk_54 4 (dk_at dksX3_better_2 0 rfl rfl)
theorem dX3_better_47 : decode cX3_better 47 = .ok (.iload 4, 2) := dk_21 4 (dk_at dksX3_better_2 2 rfl rfl)
theorem dX3_better_49 : decode cX3_better 49 = .ok (.aload_n 0, 1) := dk_42 (dk_at dksX3_better_2 4 rfl rfl)
theorem dX3_better_50 : decode cX3_better 50 = .ok (.getfield 60, 3) := dk_180 0 60 (dk_at dksX3_better_2 5 rfl rfl)
theorem dX3_better_53 : decode cX3_better 53 = .ok (.iload_n 1, 1) := dk_27 (dk_at dksX3_better_2 8 rfl rfl)
theorem dX3_better_54 : decode cX3_better 54 = .ok (.iaload, 1) := dk_46 (dk_at dksX3_better_2 9 rfl rfl)
theorem dX3_better_55 : decode cX3_better 55 = .ok (.invokestatic 258, 3) := dk_184 1 2 (dk_at dksX3_better_2 10 rfl rfl)
theorem dX3_better_58 : decode cX3_better 58 = .ok (.if_icmp .gt 43, 3) := dk_163 0 43 (dk_at dksX3_better_2 13 rfl rfl)
theorem dX3_better_61 : decode cX3_better 61 = .ok (.aload_n 0, 1) := dk_42 (dk_at dksX3_better_2 16 rfl rfl)
theorem dX3_better_62 : decode cX3_better 62 = .ok (.iload_n 1, 1) := dk_27 (dk_at dksX3_better_2 17 rfl rfl)
theorem dX3_better_63 : decode cX3_better 63 = .ok (.iload 4, 2) := dk_21 4 (dk_at dksX3_better_2 18 rfl rfl)
theorem dX3_better_65 : decode cX3_better 65 = .ok (.invokevirtual 472, 3) := dk_182 1 216 (dk_at dksX3_better_2 20 rfl rfl)
theorem dX3_better_68 : decode cX3_better 68 = .ok (.ifCond .eq 27, 3) := dk_153 0 27 (dk_at dksX3_better_3 0 rfl rfl)
theorem dX3_better_71 : decode cX3_better 71 = .ok (.iload_n 2, 1) := dk_28 (dk_at dksX3_better_3 3 rfl rfl)
theorem dX3_better_72 : decode cX3_better 72 = .ok (.iconst (-1), 1) := dk_2 (dk_at dksX3_better_3 4 rfl rfl)
theorem dX3_better_73 : decode cX3_better 73 = .ok (.if_icmp .eq 19, 3) := dk_159 0 19 (dk_at dksX3_better_3 5 rfl rfl)
theorem dX3_better_76 : decode cX3_better 76 = .ok (.iload 4, 2) := dk_21 4 (dk_at dksX3_better_3 8 rfl rfl)
theorem dX3_better_78 : decode cX3_better 78 = .ok (.iload_n 3, 1) := dk_29 (dk_at dksX3_better_3 10 rfl rfl)
theorem dX3_better_79 : decode cX3_better 79 = .ok (.isub, 1) := dk_100 (dk_at dksX3_better_3 11 rfl rfl)
theorem dX3_better_80 : decode cX3_better 80 = .ok (.invokestatic 475, 3) := dk_184 1 219 (dk_at dksX3_better_3 12 rfl rfl)
theorem dX3_better_83 : decode cX3_better 83 = .ok (.iload_n 2, 1) := dk_28 (dk_at dksX3_better_3 15 rfl rfl)
theorem dX3_better_84 : decode cX3_better 84 = .ok (.iload_n 3, 1) := dk_29 (dk_at dksX3_better_3 16 rfl rfl)
theorem dX3_better_85 : decode cX3_better 85 = .ok (.isub, 1) := dk_100 (dk_at dksX3_better_3 17 rfl rfl)
theorem dX3_better_86 : decode cX3_better 86 = .ok (.invokestatic 475, 3) := dk_184 1 219 (dk_at dksX3_better_3 18 rfl rfl)
theorem dX3_better_89 : decode cX3_better 89 = .ok (.if_icmp .ge 6, 3) := dk_162 0 6 (dk_at dksX3_better_3 21 rfl rfl)
theorem dX3_better_92 : decode cX3_better 92 = .ok (.iload 4, 2) := dk_21 4 (dk_at dksX3_better_4 0 rfl rfl)
theorem dX3_better_94 : decode cX3_better 94 = .ok (.istore_n 2, 1) := dk_61 (dk_at dksX3_better_4 2 rfl rfl)
theorem dX3_better_95 : decode cX3_better 95 = .ok (.iinc 4 1, 3) := dk_132 4 1 (dk_at dksX3_better_4 3 rfl rfl)
theorem dX3_better_98 : decode cX3_better 98 = .ok (.goto (-51), 3) := dk_167 255 205 (dk_at dksX3_better_4 6 rfl rfl)
theorem dX3_better_101 : decode cX3_better 101 = .ok (.iload_n 2, 1) := dk_28 (dk_at dksX3_better_4 9 rfl rfl)
theorem dX3_better_102 : decode cX3_better 102 = .ok (.ireturn, 1) := dk_172 (dk_at dksX3_better_4 10 rfl rfl)
