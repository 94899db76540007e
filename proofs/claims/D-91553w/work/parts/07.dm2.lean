set_option maxRecDepth 100000
abbrev cX3_number : ByteArray := prog_22_method_54_code
def yX3_number : MethodName := ⟨RX3, "numbe\x72", "(I)I"⟩
def dkwX3_number_5 : List UInt8 := [172]
abbrev dktX3_number_5 : List UInt8 := dkwX3_number_5 ++ []
def dkwX3_number_4 : List UInt8 := [160, 0, 23, 29, 27, 164, 0, 18, 42, 89, 180, 1, 60, 4, 100, 181, 1, 60, 42, 182, 1, 75, 87, 29]
abbrev dktX3_number_4 : List UInt8 := dkwX3_number_4 ++ dktX3_number_5
def dkwX3_number_3 : List UInt8 := [100, 62, 42, 89, 180, 1, 60, 4, 96, 181, 1, 60, 132, 4, 1, 167, 255, 192, 42, 180, 1, 69, 2]
abbrev dktX3_number_3 : List UInt8 := dkwX3_number_3 ++ dktX3_number_4
def dkwX3_number_2 : List UInt8 := [87, 3, 172, 16, 10, 29, 104, 42, 180, 0, 130, 42, 180, 1, 66, 42, 180, 1, 60, 96, 51, 96, 16, 48]
abbrev dktX3_number_2 : List UInt8 := dkwX3_number_2 ++ dktX3_number_3
def dkwX3_number_1 : List UInt8 := [182, 1, 83, 153, 0, 63, 42, 180, 1, 69, 2, 160, 0, 55, 21, 4, 6, 160, 0, 10, 42, 182, 1, 75]
abbrev dktX3_number_1 : List UInt8 := dkwX3_number_1 ++ dktX3_number_2
def dkwX3_number_0 : List UInt8 := [42, 182, 1, 79, 61, 42, 182, 1, 83, 154, 0, 8, 42, 182, 1, 75, 87, 3, 62, 3, 54, 4, 42]
abbrev dktX3_number_0 : List UInt8 := dkwX3_number_0 ++ dktX3_number_1
theorem dksX3_number_0 : cX3_number.data.toList.drop 0 = dktX3_number_0 := by decide +kernel
theorem dksX3_number_1 : cX3_number.data.toList.drop 23 = dktX3_number_1 := dk_seg dksX3_number_0 23 rfl rfl
theorem dksX3_number_2 : cX3_number.data.toList.drop 47 = dktX3_number_2 := dk_seg dksX3_number_1 24 rfl rfl
theorem dksX3_number_3 : cX3_number.data.toList.drop 71 = dktX3_number_3 := dk_seg dksX3_number_2 24 rfl rfl
theorem dksX3_number_4 : cX3_number.data.toList.drop 94 = dktX3_number_4 := dk_seg dksX3_number_3 23 rfl rfl
theorem dksX3_number_5 : cX3_number.data.toList.drop 118 = dktX3_number_5 := dk_seg dksX3_number_4 24 rfl rfl
theorem dX3_number_0 : decode cX3_number 0 = .ok (.aload_n 0, 1) := dk_42 (dk_at dksX3_number_0 0 rfl rfl)
theorem dX3_number_1 : decode cX3_number 1 = .ok (.invokevirtual 335, 3) := dk_182 1 79 (dk_at dksX3_number_0 1 rfl rfl)
theorem dX3_number_4 : decode cX3_number 4 = .ok (.istore_n 2, 1) := dk_61 (dk_at dksX3_number_0 4 rfl rfl)
theorem dX3_number_5 : decode cX3_number 5 = .ok (.aload_n 0, 1) := dk_42 (dk_at dksX3_number_0 5 rfl rfl)
theorem dX3_number_6 : decode cX3_number 6 = .ok (.invokevirtual 339, 3) := dk_182 1 83 (dk_at dksX3_number_0 6 rfl rfl)
theorem dX3_number_9 : decode cX3_number 9 = .ok (.ifCond .ne 8, 3) := dk_154 0 8 (dk_at dksX3_number_0 9 rfl rfl)
theorem dX3_number_12 : decode cX3_number 12 = .ok (.aload_n 0, 1) := dk_42 (dk_at dksX3_number_0 12 rfl rfl)
theorem dX3_number_13 : decode cX3_number 13 = .ok (.invokevirtual 331, 3) := dk_182 1 75 (dk_at dksX3_number_0 13 rfl rfl)
theorem dX3_number_16 : decode cX3_number 16 = .ok (.pop, 1) := dk_87 (dk_at dksX3_number_0 16 rfl rfl)
theorem dX3_number_17 : decode cX3_number 17 = .ok (.iconst 0, 1) := dk_3 (dk_at dksX3_number_0 17 rfl rfl)
theorem dX3_number_18 : decode cX3_number 18 = .ok (.istore_n 3, 1) := dk_62 (dk_at dksX3_number_0 18 rfl rfl)
theorem dX3_number_19 : decode cX3_number 19 = .ok (.iconst 0, 1) := dk_3 (dk_at dksX3_number_0 19 rfl rfl)
theorem dX3_number_20 : decode cX3_number 20 = .ok (.istore 4, 2) := dk_54 4 (dk_at dksX3_number_0 20 rfl rfl)
theorem dX3_number_22 : decode cX3_number 22 = .ok (.aload_n 0, 1) := dk_42 (dk_at dksX3_number_0 22 rfl rfl)
theorem dX3_number_23 : decode cX3_number 23 = .ok (.invokevirtual 339, 3) := dk_182 1 83 (dk_at dksX3_number_1 0 rfl rfl)
theorem dX3_number_26 : decode cX3_number 26 = .ok (.ifCond .eq 63, 3) := dk_153 0 63 (dk_at dksX3_number_1 3 rfl rfl)
theorem dX3_number_29 : decode cX3_number 29 = .ok (.aload_n 0, 1) := dk_42 (dk_at dksX3_number_1 6 rfl rfl)
theorem dX3_number_30 : decode cX3_number 30 = .ok (.getfield 325, 3) := dk_180 1 69 (dk_at dksX3_number_1 7 rfl rfl)
theorem dX3_number_33 : decode cX3_number 33 = .ok (.iconst (-1), 1) := dk_2 (dk_at dksX3_number_1 10 rfl rfl)
theorem dX3_number_34 : decode cX3_number 34 = .ok (.if_icmp .ne 55, 3) := dk_160 0 55 (dk_at dksX3_number_1 11 rfl rfl)
theorem dX3_number_37 : decode cX3_number 37 = .ok (.iload 4, 2) := dk_21 4 (dk_at dksX3_number_1 14 rfl rfl)
theorem dX3_number_39 : decode cX3_number 39 = .ok (.iconst 3, 1) := dk_6 (dk_at dksX3_number_1 16 rfl rfl)
theorem dX3_number_40 : decode cX3_number 40 = .ok (.if_icmp .ne 10, 3) := dk_160 0 10 (dk_at dksX3_number_1 17 rfl rfl)
theorem dX3_number_43 : decode cX3_number 43 = .ok (.aload_n 0, 1) := dk_42 (dk_at dksX3_number_1 20 rfl rfl)
theorem dX3_number_44 : decode cX3_number 44 = .ok (.invokevirtual 331, 3) := dk_182 1 75 (dk_at dksX3_number_1 21 rfl rfl)
theorem dX3_number_47 : decode cX3_number 47 = .ok (.pop, 1) := dk_87 (dk_at dksX3_number_2 0 rfl rfl)
theorem dX3_number_48 : decode cX3_number 48 = .ok (.iconst 0, 1) := dk_3 (dk_at dksX3_number_2 1 rfl rfl)
theorem dX3_number_49 : decode cX3_number 49 = .ok (.ireturn, 1) := dk_172 (dk_at dksX3_number_2 2 rfl rfl)
theorem dX3_number_50 : decode cX3_number 50 = .ok (.bipush 10, 2) := dk_16 10 (dk_at dksX3_number_2 3 rfl rfl)
theorem dX3_number_52 : decode cX3_number 52 = .ok (.iload_n 3, 1) := dk_29 (dk_at dksX3_number_2 5 rfl rfl)
theorem dX3_number_53 : decode cX3_number 53 = .ok (.imul, 1) := dk_104 (dk_at dksX3_number_2 6 rfl rfl)
theorem dX3_number_54 : decode cX3_number 54 = .ok (.aload_n 0, 1) := dk_42 (dk_at dksX3_number_2 7 rfl rfl)
theorem dX3_number_55 : decode cX3_number 55 = .ok (.getfield 130, 3) := dk_180 0 130 (dk_at dksX3_number_2 8 rfl rfl)
theorem dX3_number_58 : decode cX3_number 58 = .ok (.aload_n 0, 1) := dk_42 (dk_at dksX3_number_2 11 rfl rfl)
theorem dX3_number_59 : decode cX3_number 59 = .ok (.getfield 322, 3) := dk_180 1 66 (dk_at dksX3_number_2 12 rfl rfl)
theorem dX3_number_62 : decode cX3_number 62 = .ok (.aload_n 0, 1) := dk_42 (dk_at dksX3_number_2 15 rfl rfl)
theorem dX3_number_63 : decode cX3_number 63 = .ok (.getfield 316, 3) := dk_180 1 60 (dk_at dksX3_number_2 16 rfl rfl)
theorem dX3_number_66 : decode cX3_number 66 = .ok (.iadd, 1) := dk_96 (dk_at dksX3_number_2 19 rfl rfl)
theorem dX3_number_67 : decode cX3_number 67 = .ok (.baload, 1) := dk_51 (dk_at dksX3_number_2 20 rfl rfl)
theorem dX3_number_68 : decode cX3_number 68 = .ok (.iadd, 1) := dk_96 (dk_at dksX3_number_2 21 rfl rfl)
theorem dX3_number_69 : decode cX3_number 69 = .ok (.bipush 48, 2) := dk_16 48 (dk_at dksX3_number_2 22 rfl rfl)
theorem dX3_number_71 : decode cX3_number 71 = .ok (.isub, 1) := dk_100 (dk_at dksX3_number_3 0 rfl rfl)
theorem dX3_number_72 : decode cX3_number 72 = .ok (.istore_n 3, 1) := dk_62 (dk_at dksX3_number_3 1 rfl rfl)
theorem dX3_number_73 : decode cX3_number 73 = .ok (.aload_n 0, 1) := dk_42 (dk_at dksX3_number_3 2 rfl rfl)
theorem dX3_number_74 : decode cX3_number 74 = .ok (.dup, 1) := dk_89 (dk_at dksX3_number_3 3 rfl rfl)
theorem dX3_number_75 : decode cX3_number 75 = .ok (.getfield 316, 3) := dk_180 1 60 (dk_at dksX3_number_3 4 rfl rfl)
theorem dX3_number_78 : decode cX3_number 78 = .ok (.iconst 1, 1) := dk_4 (dk_at dksX3_number_3 7 rfl rfl)
theorem dX3_number_79 : decode cX3_number 79 = .ok (.iadd, 1) := dk_96 (dk_at dksX3_number_3 8 rfl rfl)
theorem dX3_number_80 : decode cX3_number 80 = .ok (.putfield 316, 3) := dk_181 1 60 (dk_at dksX3_number_3 9 rfl rfl)
theorem dX3_number_83 : decode cX3_number 83 = .ok (.iinc 4 1, 3) := dk_132 4 1 (dk_at dksX3_number_3 12 rfl rfl)
theorem dX3_number_86 : decode cX3_number 86 = .ok (.goto (-64), 3) := dk_167 255 192 (dk_at dksX3_number_3 15 rfl rfl)
theorem dX3_number_89 : decode cX3_number 89 = .ok (.aload_n 0, 1) := dk_42 (dk_at dksX3_number_3 18 rfl rfl)
theorem dX3_number_90 : decode cX3_number 90 = .ok (.getfield 325, 3) := dk_180 1 69 (dk_at dksX3_number_3 19 rfl rfl)
theorem dX3_number_93 : decode cX3_number 93 = .ok (.iconst (-1), 1) := dk_2 (dk_at dksX3_number_3 22 rfl rfl)
theorem dX3_number_94 : decode cX3_number 94 = .ok (.if_icmp .ne 23, 3) := dk_160 0 23 (dk_at dksX3_number_4 0 rfl rfl)
theorem dX3_number_97 : decode cX3_number 97 = .ok (.iload_n 3, 1) := dk_29 (dk_at dksX3_number_4 3 rfl rfl)
theorem dX3_number_98 : decode cX3_number 98 = .ok (.iload_n 1, 1) := dk_27 (dk_at dksX3_number_4 4 rfl rfl)
theorem dX3_number_99 : decode cX3_number 99 = .ok (.if_icmp .le 18, 3) := dk_164 0 18 (dk_at dksX3_number_4 5 rfl rfl)
theorem dX3_number_102 : decode cX3_number 102 = .ok (.aload_n 0, 1) := dk_42 (dk_at dksX3_number_4 8 rfl rfl)
theorem dX3_number_103 : decode cX3_number 103 = .ok (.dup, 1) := dk_89 (dk_at dksX3_number_4 9 rfl rfl)
theorem dX3_number_104 : decode cX3_number 104 = .ok (.getfield 316, 3) := dk_180 1 60 (dk_at dksX3_number_4 10 rfl rfl)
theorem dX3_number_107 : decode cX3_number 107 = .ok (.iconst 1, 1) := dk_4 (dk_at dksX3_number_4 13 rfl rfl)
theorem dX3_number_108 : decode cX3_number 108 = .ok (.isub, 1) := dk_100 (dk_at dksX3_number_4 14 rfl rfl)
theorem dX3_number_109 : decode cX3_number 109 = .ok (.putfield 316, 3) := dk_181 1 60 (dk_at dksX3_number_4 15 rfl rfl)
theorem dX3_number_112 : decode cX3_number 112 = .ok (.aload_n 0, 1) := dk_42 (dk_at dksX3_number_4 18 rfl rfl)
theorem dX3_number_113 : decode cX3_number 113 = .ok (.invokevirtual 331, 3) := dk_182 1 75 (dk_at dksX3_number_4 19 rfl rfl)
theorem dX3_number_116 : decode cX3_number 116 = .ok (.pop, 1) := dk_87 (dk_at dksX3_number_4 22 rfl rfl)
theorem dX3_number_117 : decode cX3_number 117 = .ok (.iload_n 3, 1) := dk_29 (dk_at dksX3_number_4 23 rfl rfl)
theorem dX3_number_118 : decode cX3_number 118 = .ok (.ireturn, 1) := dk_172 (dk_at dksX3_number_5 0 rfl rfl)
abbrev cX3_isDigit : ByteArray := prog_22_method_53_code
def yX3_isDigit : MethodName := ⟨RX3, "isDigit", "()Z"⟩
def dkwX3_isDigit_2 : List UInt8 := [163, 0, 7, 4, 167, 0, 4, 3, 172]
abbrev dktX3_isDigit_2 : List UInt8 := dkwX3_isDigit_2 ++ []
def dkwX3_isDigit_1 : List UInt8 := [51, 16, 48, 161, 0, 26, 42, 180, 0, 130, 42, 180, 1, 66, 42, 180, 1, 60, 96, 51, 16, 57]
abbrev dktX3_isDigit_1 : List UInt8 := dkwX3_isDigit_1 ++ dktX3_isDigit_2
def dkwX3_isDigit_0 : List UInt8 := [42, 180, 1, 60, 42, 180, 1, 63, 162, 0, 45, 42, 180, 0, 130, 42, 180, 1, 66, 42, 180, 1, 60, 96]
abbrev dktX3_isDigit_0 : List UInt8 := dkwX3_isDigit_0 ++ dktX3_isDigit_1
theorem dksX3_isDigit_0 : cX3_isDigit.data.toList.drop 0 = dktX3_isDigit_0 := by decide +kernel
theorem dksX3_isDigit_1 : cX3_isDigit.data.toList.drop 24 = dktX3_isDigit_1 := dk_seg dksX3_isDigit_0 24 rfl rfl
theorem dksX3_isDigit_2 : cX3_isDigit.data.toList.drop 46 = dktX3_isDigit_2 := dk_seg dksX3_isDigit_1 22 rfl rfl
theorem dX3_isDigit_0 : decode cX3_isDigit 0 = .ok (.aload_n 0, 1) := dk_42 (dk_at dksX3_isDigit_0 0 rfl rfl)
theorem dX3_isDigit_1 : decode cX3_isDigit 1 = .ok (.getfield 316, 3) := dk_180 1 60 (dk_at dksX3_isDigit_0 1 rfl rfl)
theorem dX3_isDigit_4 : decode cX3_isDigit 4 = .ok (.aload_n 0, 1) := dk_42 (dk_at dksX3_isDigit_0 4 rfl rfl)
theorem dX3_isDigit_5 : decode cX3_isDigit 5 = .ok (.getfield 319, 3) := dk_180 1 63 (dk_at dksX3_isDigit_0 5 rfl rfl)
theorem dX3_isDigit_8 : decode cX3_isDigit 8 = .ok (.if_icmp .ge 45, 3) := dk_162 0 45 (dk_at dksX3_isDigit_0 8 rfl rfl)
theorem dX3_isDigit_11 : decode cX3_isDigit 11 = .ok (.aload_n 0, 1) := dk_42 (dk_at dksX3_isDigit_0 11 rfl rfl)
theorem dX3_isDigit_12 : decode cX3_isDigit 12 = .ok (.getfield 130, 3) := dk_180 0 130 (dk_at dksX3_isDigit_0 12 rfl rfl)
theorem dX3_isDigit_15 : decode cX3_isDigit 15 = .ok (.aload_n 0, 1) := dk_42 (dk_at dksX3_isDigit_0 15 rfl rfl)
theorem dX3_isDigit_16 : decode cX3_isDigit 16 = .ok (.getfield 322, 3) := dk_180 1 66 (dk_at dksX3_isDigit_0 16 rfl rfl)
theorem dX3_isDigit_19 : decode cX3_isDigit 19 = .ok (.aload_n 0, 1) := dk_42 (dk_at dksX3_isDigit_0 19 rfl rfl)
theorem dX3_isDigit_20 : decode cX3_isDigit 20 = .ok (.getfield 316, 3) := dk_180 1 60 (dk_at dksX3_isDigit_0 20 rfl rfl)
theorem dX3_isDigit_23 : decode cX3_isDigit 23 = .ok (.iadd, 1) := dk_96 (dk_at dksX3_isDigit_0 23 rfl rfl)
theorem dX3_isDigit_24 : decode cX3_isDigit 24 = .ok (.baload, 1) := dk_51 (dk_at dksX3_isDigit_1 0 rfl rfl)
theorem dX3_isDigit_25 : decode cX3_isDigit 25 = .ok (.bipush 48, 2) := dk_16 48 (dk_at dksX3_isDigit_1 1 rfl rfl)
theorem dX3_isDigit_27 : decode cX3_isDigit 27 = .ok (.if_icmp .lt 26, 3) := dk_161 0 26 (dk_at dksX3_isDigit_1 3 rfl rfl)
theorem dX3_isDigit_30 : decode cX3_isDigit 30 = .ok (.aload_n 0, 1) := dk_42 (dk_at dksX3_isDigit_1 6 rfl rfl)
theorem dX3_isDigit_31 : decode cX3_isDigit 31 = .ok (.getfield 130, 3) := dk_180 0 130 (dk_at dksX3_isDigit_1 7 rfl rfl)
theorem dX3_isDigit_34 : decode cX3_isDigit 34 = .ok (.aload_n 0, 1) := dk_42 (dk_at dksX3_isDigit_1 10 rfl rfl)
theorem dX3_isDigit_35 : decode cX3_isDigit 35 = .ok (.getfield 322, 3) := dk_180 1 66 (dk_at dksX3_isDigit_1 11 rfl rfl)
theorem dX3_isDigit_38 : decode cX3_isDigit 38 = .ok (.aload_n 0, 1) := dk_42 (dk_at dksX3_isDigit_1 14 rfl rfl)
theorem dX3_isDigit_39 : decode cX3_isDigit 39 = .ok (.getfield 316, 3) := dk_180 1 60 (dk_at dksX3_isDigit_1 15 rfl rfl)
theorem dX3_isDigit_42 : decode cX3_isDigit 42 = .ok (.iadd, 1) := dk_96 (dk_at dksX3_isDigit_1 18 rfl rfl)
theorem dX3_isDigit_43 : decode cX3_isDigit 43 = .ok (.baload, 1) := dk_51 (dk_at dksX3_isDigit_1 19 rfl rfl)
theorem dX3_isDigit_44 : decode cX3_isDigit 44 = .ok (.bipush 57, 2) := dk_16 57 (dk_at dksX3_isDigit_1 20 rfl rfl)
theorem dX3_isDigit_46 : decode cX3_isDigit 46 = .ok (.if_icmp .gt 7, 3) := dk_163 0 7 (dk_at dksX3_isDigit_2 0 rfl rfl)
theorem dX3_isDigit_49 : decode cX3_isDigit 49 = .ok (.iconst 1, 1) := dk_4 (dk_at dksX3_isDigit_2 3 rfl rfl)
theorem dX3_isDigit_50 : decode cX3_isDigit 50 = .ok (.goto 4, 3) := dk_167 0 4 (dk_at dksX3_isDigit_2 4 rfl rfl)
theorem dX3_isDigit_53 : decode cX3_isDigit 53 = .ok (.iconst 0, 1) := dk_3 (dk_at dksX3_isDigit_2 7 rfl rfl)
theorem dX3_isDigit_54 : decode cX3_isDigit 54 = .ok (.ireturn, 1) := dk_172 (dk_at dksX3_isDigit_2 8 rfl rfl)
abbrev cX3_isDead : ByteArray := prog_22_method_59_code
def yX3_isDead : MethodName := ⟨RX3, "isDead", "(I)Z"⟩
def dkwX3_isDead_0 : List UInt8 := [42, 180, 0, 133, 27, 51, 172]
abbrev dktX3_isDead_0 : List UInt8 := dkwX3_isDead_0 ++ []
theorem dksX3_isDead_0 : cX3_isDead.data.toList.drop 0 = dktX3_isDead_0 := by decide +kernel
theorem dX3_isDead_0 : decode cX3_isDead 0 = .ok (.aload_n 0, 1) := dk_42 (dk_at dksX3_isDead_0 0 rfl rfl)
theorem dX3_isDead_1 : decode cX3_isDead 1 = .ok (.getfield 133, 3) := dk_180 0 133 (dk_at dksX3_isDead_0 1 rfl rfl)
theorem dX3_isDead_4 : decode cX3_isDead 4 = .ok (.iload_n 1, 1) := dk_27 (dk_at dksX3_isDead_0 4 rfl rfl)
theorem dX3_isDead_5 : decode cX3_isDead 5 = .ok (.baload, 1) := dk_51 (dk_at dksX3_isDead_0 5 rfl rfl)
theorem dX3_isDead_6 : decode cX3_isDead 6 = .ok (.ireturn, 1) := dk_172 (dk_at dksX3_isDead_0 6 rfl rfl)
abbrev cX3_saysLast : ByteArray := prog_22_method_58_code
def yX3_saysLast : MethodName := ⟨RX3, "saysLast", "(I)I"⟩
def dkwX3_saysLast_4 : List UInt8 := [167, 255, 168, 28, 172]
abbrev dktX3_saysLast_4 : List UInt8 := dkwX3_saysLast_4 ++ []
def dkwX3_saysLast_3 : List UInt8 := [180, 1, 125, 163, 0, 18, 42, 180, 0, 124, 29, 51, 153, 0, 7, 4, 167, 0, 4, 3, 61, 132, 3, 1]
abbrev dktX3_saysLast_3 : List UInt8 := dkwX3_saysLast_3 ++ dktX3_saysLast_4
def dkwX3_saysLast_2 : List UInt8 := [160, 0, 44, 42, 180, 0, 115, 29, 46, 42, 180, 1, 116, 163, 0, 31, 42, 180, 0, 115, 29, 46, 42]
abbrev dktX3_saysLast_2 : List UInt8 := dkwX3_saysLast_2 ++ dktX3_saysLast_3
def dkwX3_saysLast_1 : List UInt8 := [180, 0, 127, 29, 51, 42, 180, 1, 104, 160, 0, 57, 42, 180, 0, 112, 29, 46, 42, 180, 1, 122]
abbrev dktX3_saysLast_1 : List UInt8 := dkwX3_saysLast_1 ++ dktX3_saysLast_2
def dkwX3_saysLast_0 : List UInt8 := [2, 61, 3, 62, 29, 42, 180, 1, 119, 162, 0, 86, 42, 180, 0, 109, 29, 46, 27, 160, 0, 70, 42]
abbrev dktX3_saysLast_0 : List UInt8 := dkwX3_saysLast_0 ++ dktX3_saysLast_1
theorem dksX3_saysLast_0 : cX3_saysLast.data.toList.drop 0 = dktX3_saysLast_0 := by decide +kernel
theorem dksX3_saysLast_1 : cX3_saysLast.data.toList.drop 23 = dktX3_saysLast_1 := dk_seg dksX3_saysLast_0 23 rfl rfl
theorem dksX3_saysLast_2 : cX3_saysLast.data.toList.drop 45 = dktX3_saysLast_2 := dk_seg dksX3_saysLast_1 22 rfl rfl
theorem dksX3_saysLast_3 : cX3_saysLast.data.toList.drop 68 = dktX3_saysLast_3 := dk_seg dksX3_saysLast_2 23 rfl rfl
theorem dksX3_saysLast_4 : cX3_saysLast.data.toList.drop 92 = dktX3_saysLast_4 := dk_seg dksX3_saysLast_3 24 rfl rfl
theorem dX3_saysLast_0 : decode cX3_saysLast 0 = .ok (.iconst (-1), 1) := dk_2 (dk_at dksX3_saysLast_0 0 rfl rfl)
theorem dX3_saysLast_1 : decode cX3_saysLast 1 = .ok (.istore_n 2, 1) := dk_61 (dk_at dksX3_saysLast_0 1 rfl rfl)
theorem dX3_saysLast_2 : decode cX3_saysLast 2 = .ok (.iconst 0, 1) := dk_3 (dk_at dksX3_saysLast_0 2 rfl rfl)
theorem dX3_saysLast_3 : decode cX3_saysLast 3 = .ok (.istore_n 3, 1) := dk_62 (dk_at dksX3_saysLast_0 3 rfl rfl)
theorem dX3_saysLast_4 : decode cX3_saysLast 4 = .ok (.iload_n 3, 1) := dk_29 (dk_at dksX3_saysLast_0 4 rfl rfl)
theorem dX3_saysLast_5 : decode cX3_saysLast 5 = .ok (.aload_n 0, 1) := dk_42 (dk_at dksX3_saysLast_0 5 rfl rfl)
theorem dX3_saysLast_6 : decode cX3_saysLast 6 = .ok (.getfield 375, 3) := dk_180 1 119 (dk_at dksX3_saysLast_0 6 rfl rfl)
theorem dX3_saysLast_9 : decode cX3_saysLast 9 = .ok (.if_icmp .ge 86, 3) := dk_162 0 86 (dk_at dksX3_saysLast_0 9 rfl rfl)
theorem dX3_saysLast_12 : decode cX3_saysLast 12 = .ok (.aload_n 0, 1) := dk_42 (dk_at dksX3_saysLast_0 12 rfl rfl)
theorem dX3_saysLast_13 : decode cX3_saysLast 13 = .ok (.getfield 109, 3) := dk_180 0 109 (dk_at dksX3_saysLast_0 13 rfl rfl)
theorem dX3_saysLast_16 : decode cX3_saysLast 16 = .ok (.iload_n 3, 1) := dk_29 (dk_at dksX3_saysLast_0 16 rfl rfl)
theorem dX3_saysLast_17 : decode cX3_saysLast 17 = .ok (.iaload, 1) := dk_46 (dk_at dksX3_saysLast_0 17 rfl rfl)
theorem dX3_saysLast_18 : decode cX3_saysLast 18 = .ok (.iload_n 1, 1) := dk_27 (dk_at dksX3_saysLast_0 18 rfl rfl)
theorem dX3_saysLast_19 : decode cX3_saysLast 19 = .ok (.if_icmp .ne 70, 3) := dk_160 0 70 (dk_at dksX3_saysLast_0 19 rfl rfl)
theorem dX3_saysLast_22 : decode cX3_saysLast 22 = .ok (.aload_n 0, 1) := dk_42 (dk_at dksX3_saysLast_0 22 rfl rfl)
theorem dX3_saysLast_23 : decode cX3_saysLast 23 = .ok (.getfield 127, 3) := dk_180 0 127 (dk_at dksX3_saysLast_1 0 rfl rfl)
theorem dX3_saysLast_26 : decode cX3_saysLast 26 = .ok (.iload_n 3, 1) := dk_29 (dk_at dksX3_saysLast_1 3 rfl rfl)
theorem dX3_saysLast_27 : decode cX3_saysLast 27 = .ok (.baload, 1) := dk_51 (dk_at dksX3_saysLast_1 4 rfl rfl)
theorem dX3_saysLast_28 : decode cX3_saysLast 28 = .ok (.aload_n 0, 1) := dk_42 (dk_at dksX3_saysLast_1 5 rfl rfl)
theorem dX3_saysLast_29 : decode cX3_saysLast 29 = .ok (.getfield 360, 3) := dk_180 1 104 (dk_at dksX3_saysLast_1 6 rfl rfl)
theorem dX3_saysLast_32 : decode cX3_saysLast 32 = .ok (.if_icmp .ne 57, 3) := dk_160 0 57 (dk_at dksX3_saysLast_1 9 rfl rfl)
theorem dX3_saysLast_35 : decode cX3_saysLast 35 = .ok (.aload_n 0, 1) := dk_42 (dk_at dksX3_saysLast_1 12 rfl rfl)
theorem dX3_saysLast_36 : decode cX3_saysLast 36 = .ok (.getfield 112, 3) := dk_180 0 112 (dk_at dksX3_saysLast_1 13 rfl rfl)
theorem dX3_saysLast_39 : decode cX3_saysLast 39 = .ok (.iload_n 3, 1) := dk_29 (dk_at dksX3_saysLast_1 16 rfl rfl)
theorem dX3_saysLast_40 : decode cX3_saysLast 40 = .ok (.iaload, 1) := dk_46 (dk_at dksX3_saysLast_1 17 rfl rfl)
theorem dX3_saysLast_41 : decode cX3_saysLast 41 = .ok (.aload_n 0, 1) := dk_42 (dk_at dksX3_saysLast_1 18 rfl rfl)
theorem dX3_saysLast_42 : decode cX3_saysLast 42 = .ok (.getfield 378, 3) := dk_180 1 122 (dk_at dksX3_saysLast_1 19 rfl rfl)
theorem dX3_saysLast_45 : decode cX3_saysLast 45 = .ok (.if_icmp .ne 44, 3) := dk_160 0 44 (dk_at dksX3_saysLast_2 0 rfl rfl)
theorem dX3_saysLast_48 : decode cX3_saysLast 48 = .ok (.aload_n 0, 1) := dk_42 (dk_at dksX3_saysLast_2 3 rfl rfl)
theorem dX3_saysLast_49 : decode cX3_saysLast 49 = .ok (.getfield 115, 3) := dk_180 0 115 (dk_at dksX3_saysLast_2 4 rfl rfl)
theorem dX3_saysLast_52 : decode cX3_saysLast 52 = .ok (.iload_n 3, 1) := dk_29 (dk_at dksX3_saysLast_2 7 rfl rfl)
theorem dX3_saysLast_53 : decode cX3_saysLast 53 = .ok (.iaload, 1) := dk_46 (dk_at dksX3_saysLast_2 8 rfl rfl)
theorem dX3_saysLast_54 : decode cX3_saysLast 54 = .ok (.aload_n 0, 1) := dk_42 (dk_at dksX3_saysLast_2 9 rfl rfl)
theorem dX3_saysLast_55 : decode cX3_saysLast 55 = .ok (.getfield 372, 3) := dk_180 1 116 (dk_at dksX3_saysLast_2 10 rfl rfl)
theorem dX3_saysLast_58 : decode cX3_saysLast 58 = .ok (.if_icmp .gt 31, 3) := dk_163 0 31 (dk_at dksX3_saysLast_2 13 rfl rfl)
theorem dX3_saysLast_61 : decode cX3_saysLast 61 = .ok (.aload_n 0, 1) := dk_42 (dk_at dksX3_saysLast_2 16 rfl rfl)
theorem dX3_saysLast_62 : decode cX3_saysLast 62 = .ok (.getfield 115, 3) := dk_180 0 115 (dk_at dksX3_saysLast_2 17 rfl rfl)
theorem dX3_saysLast_65 : decode cX3_saysLast 65 = .ok (.iload_n 3, 1) := dk_29 (dk_at dksX3_saysLast_2 20 rfl rfl)
theorem dX3_saysLast_66 : decode cX3_saysLast 66 = .ok (.iaload, 1) := dk_46 (dk_at dksX3_saysLast_2 21 rfl rfl)
theorem dX3_saysLast_67 : decode cX3_saysLast 67 = .ok (.aload_n 0, 1) := dk_42 (dk_at dksX3_saysLast_2 22 rfl rfl)
theorem dX3_saysLast_68 : decode cX3_saysLast 68 = .ok (.getfield 381, 3) := dk_180 1 125 (dk_at dksX3_saysLast_3 0 rfl rfl)
theorem dX3_saysLast_71 : decode cX3_saysLast 71 = .ok (.if_icmp .gt 18, 3) := dk_163 0 18 (dk_at dksX3_saysLast_3 3 rfl rfl)
theorem dX3_saysLast_74 : decode cX3_saysLast 74 = .ok (.aload_n 0, 1) := dk_42 (dk_at dksX3_saysLast_3 6 rfl rfl)
theorem dX3_saysLast_75 : decode cX3_saysLast 75 = .ok (.getfield 124, 3) := dk_180 0 124 (dk_at dksX3_saysLast_3 7 rfl rfl)
theorem dX3_saysLast_78 : decode cX3_saysLast 78 = .ok (.iload_n 3, 1) := dk_29 (dk_at dksX3_saysLast_3 10 rfl rfl)
theorem dX3_saysLast_79 : decode cX3_saysLast 79 = .ok (.baload, 1) := dk_51 (dk_at dksX3_saysLast_3 11 rfl rfl)
theorem dX3_saysLast_80 : decode cX3_saysLast 80 = .ok (.ifCond .eq 7, 3) := dk_153 0 7 (dk_at dksX3_saysLast_3 12 rfl rfl)
theorem dX3_saysLast_83 : decode cX3_saysLast 83 = .ok (.iconst 1, 1) := dk_4 (dk_at dksX3_saysLast_3 15 rfl rfl)
theorem dX3_saysLast_84 : decode cX3_saysLast 84 = .ok (.goto 4, 3) := dk_167 0 4 (dk_at dksX3_saysLast_3 16 rfl rfl)
theorem dX3_saysLast_87 : decode cX3_saysLast 87 = .ok (.iconst 0, 1) := dk_3 (dk_at dksX3_saysLast_3 19 rfl rfl)
theorem dX3_saysLast_88 : decode cX3_saysLast 88 = .ok (.istore_n 2, 1) := dk_61 (dk_at dksX3_saysLast_3 20 rfl rfl)
theorem dX3_saysLast_89 : decode cX3_saysLast 89 = .ok (.iinc 3 1, 3) := dk_132 3 1 (dk_at dksX3_saysLast_3 21 rfl rfl)
theorem dX3_saysLast_92 : decode cX3_saysLast 92 = .ok (.goto (-88), 3) := dk_167 255 168 (dk_at dksX3_saysLast_4 0 rfl rfl)
theorem dX3_saysLast_95 : decode cX3_saysLast 95 = .ok (.iload_n 2, 1) := dk_28 (dk_at dksX3_saysLast_4 3 rfl rfl)
theorem dX3_saysLast_96 : decode cX3_saysLast 96 = .ok (.ireturn, 1) := dk_172 (dk_at dksX3_saysLast_4 4 rfl rfl)
abbrev cX3_rule : ByteArray := prog_22_method_65_code
def yX3_rule : MethodName := ⟨RX3, "rule", "()I"⟩
def dkwX3_rule_3 : List UInt8 := [180, 1, 144, 4, 96, 181, 1, 144, 42, 3, 181, 0, 205, 42, 180, 1, 144, 4, 100, 172]
abbrev dktX3_rule_3 : List UInt8 := dkwX3_rule_3 ++ []
def dkwX3_rule_2 : List UInt8 := [27, 51, 84, 132, 1, 1, 167, 255, 224, 42, 180, 0, 88, 42, 180, 1, 144, 42, 180, 0, 205, 79, 42, 89]
abbrev dktX3_rule_2 : List UInt8 := dkwX3_rule_2 ++ dktX3_rule_3
def dkwX3_rule_1 : List UInt8 := [180, 0, 205, 162, 0, 30, 42, 180, 0, 85, 17, 0, 160, 42, 180, 1, 144, 104, 27, 96, 42, 180, 0, 41]
abbrev dktX3_rule_1 : List UInt8 := dkwX3_rule_1 ++ dktX3_rule_2
def dkwX3_rule_0 : List UInt8 := [42, 182, 1, 142, 2, 160, 0, 12, 42, 180, 1, 144, 16, 20, 160, 0, 5, 2, 172, 3, 60, 27, 42]
abbrev dktX3_rule_0 : List UInt8 := dkwX3_rule_0 ++ dktX3_rule_1
theorem dksX3_rule_0 : cX3_rule.data.toList.drop 0 = dktX3_rule_0 := by decide +kernel
theorem dksX3_rule_1 : cX3_rule.data.toList.drop 23 = dktX3_rule_1 := dk_seg dksX3_rule_0 23 rfl rfl
theorem dksX3_rule_2 : cX3_rule.data.toList.drop 47 = dktX3_rule_2 := dk_seg dksX3_rule_1 24 rfl rfl
theorem dksX3_rule_3 : cX3_rule.data.toList.drop 71 = dktX3_rule_3 := dk_seg dksX3_rule_2 24 rfl rfl
theorem dX3_rule_0 : decode cX3_rule 0 = .ok (.aload_n 0, 1) := dk_42 (dk_at dksX3_rule_0 0 rfl rfl)
theorem dX3_rule_1 : decode cX3_rule 1 = .ok (.invokevirtual 398, 3) := dk_182 1 142 (dk_at dksX3_rule_0 1 rfl rfl)
theorem dX3_rule_4 : decode cX3_rule 4 = .ok (.iconst (-1), 1) := dk_2 (dk_at dksX3_rule_0 4 rfl rfl)
theorem dX3_rule_5 : decode cX3_rule 5 = .ok (.if_icmp .ne 12, 3) := dk_160 0 12 (dk_at dksX3_rule_0 5 rfl rfl)
theorem dX3_rule_8 : decode cX3_rule 8 = .ok (.aload_n 0, 1) := dk_42 (dk_at dksX3_rule_0 8 rfl rfl)
theorem dX3_rule_9 : decode cX3_rule 9 = .ok (.getfield 400, 3) := dk_180 1 144 (dk_at dksX3_rule_0 9 rfl rfl)
theorem dX3_rule_12 : decode cX3_rule 12 = .ok (.bipush 20, 2) := dk_16 20 (dk_at dksX3_rule_0 12 rfl rfl)
theorem dX3_rule_14 : decode cX3_rule 14 = .ok (.if_icmp .ne 5, 3) := dk_160 0 5 (dk_at dksX3_rule_0 14 rfl rfl)
theorem dX3_rule_17 : decode cX3_rule 17 = .ok (.iconst (-1), 1) := dk_2 (dk_at dksX3_rule_0 17 rfl rfl)
theorem dX3_rule_18 : decode cX3_rule 18 = .ok (.ireturn, 1) := dk_172 (dk_at dksX3_rule_0 18 rfl rfl)
theorem dX3_rule_19 : decode cX3_rule 19 = .ok (.iconst 0, 1) := dk_3 (dk_at dksX3_rule_0 19 rfl rfl)
theorem dX3_rule_20 : decode cX3_rule 20 = .ok (.istore_n 1, 1) := dk_60 (dk_at dksX3_rule_0 20 rfl rfl)
theorem dX3_rule_21 : decode cX3_rule 21 = .ok (.iload_n 1, 1) := dk_27 (dk_at dksX3_rule_0 21 rfl rfl)
theorem dX3_rule_22 : decode cX3_rule 22 = .ok (.aload_n 0, 1) := dk_42 (dk_at dksX3_rule_0 22 rfl rfl)
theorem dX3_rule_23 : decode cX3_rule 23 = .ok (.getfield 205, 3) := dk_180 0 205 (dk_at dksX3_rule_1 0 rfl rfl)
theorem dX3_rule_26 : decode cX3_rule 26 = .ok (.if_icmp .ge 30, 3) := dk_162 0 30 (dk_at dksX3_rule_1 3 rfl rfl)
theorem dX3_rule_29 : decode cX3_rule 29 = .ok (.aload_n 0, 1) := dk_42 (dk_at dksX3_rule_1 6 rfl rfl)
theorem dX3_rule_30 : decode cX3_rule 30 = .ok (.getfield 85, 3) := dk_180 0 85 (dk_at dksX3_rule_1 7 rfl rfl)
theorem dX3_rule_33 : decode cX3_rule 33 = .ok (.sipush 160, 3) := dk_17 0 160 (dk_at dksX3_rule_1 10 rfl rfl)
theorem dX3_rule_36 : decode cX3_rule 36 = .ok (.aload_n 0, 1) := dk_42 (dk_at dksX3_rule_1 13 rfl rfl)
theorem dX3_rule_37 : decode cX3_rule 37 = .ok (.getfield 400, 3) := dk_180 1 144 (dk_at dksX3_rule_1 14 rfl rfl)
theorem dX3_rule_40 : decode cX3_rule 40 = .ok (.imul, 1) := dk_104 (dk_at dksX3_rule_1 17 rfl rfl)
theorem dX3_rule_41 : decode cX3_rule 41 = .ok (.iload_n 1, 1) := dk_27 (dk_at dksX3_rule_1 18 rfl rfl)
theorem dX3_rule_42 : decode cX3_rule 42 = .ok (.iadd, 1) := dk_96 (dk_at dksX3_rule_1 19 rfl rfl)
theorem dX3_rule_43 : decode cX3_rule 43 = .ok (.aload_n 0, 1) := dk_42 (dk_at dksX3_rule_1 20 rfl rfl)
theorem dX3_rule_44 : decode cX3_rule 44 = .ok (.getfield 41, 3) := dk_180 0 41 (dk_at dksX3_rule_1 21 rfl rfl)
theorem dX3_rule_47 : decode cX3_rule 47 = .ok (.iload_n 1, 1) := dk_27 (dk_at dksX3_rule_2 0 rfl rfl)
theorem dX3_rule_48 : decode cX3_rule 48 = .ok (.baload, 1) := dk_51 (dk_at dksX3_rule_2 1 rfl rfl)
theorem dX3_rule_49 : decode cX3_rule 49 = .ok (.bastore, 1) := dk_84 (dk_at dksX3_rule_2 2 rfl rfl)
theorem dX3_rule_50 : decode cX3_rule 50 = .ok (.iinc 1 1, 3) := dk_132 1 1 (dk_at dksX3_rule_2 3 rfl rfl)
theorem dX3_rule_53 : decode cX3_rule 53 = .ok (.goto (-32), 3) := dk_167 255 224 (dk_at dksX3_rule_2 6 rfl rfl)
theorem dX3_rule_56 : decode cX3_rule 56 = .ok (.aload_n 0, 1) := dk_42 (dk_at dksX3_rule_2 9 rfl rfl)
theorem dX3_rule_57 : decode cX3_rule 57 = .ok (.getfield 88, 3) := dk_180 0 88 (dk_at dksX3_rule_2 10 rfl rfl)
theorem dX3_rule_60 : decode cX3_rule 60 = .ok (.aload_n 0, 1) := dk_42 (dk_at dksX3_rule_2 13 rfl rfl)
theorem dX3_rule_61 : decode cX3_rule 61 = .ok (.getfield 400, 3) := dk_180 1 144 (dk_at dksX3_rule_2 14 rfl rfl)
theorem dX3_rule_64 : decode cX3_rule 64 = .ok (.aload_n 0, 1) := dk_42 (dk_at dksX3_rule_2 17 rfl rfl)
theorem dX3_rule_65 : decode cX3_rule 65 = .ok (.getfield 205, 3) := dk_180 0 205 (dk_at dksX3_rule_2 18 rfl rfl)
theorem dX3_rule_68 : decode cX3_rule 68 = .ok (.iastore, 1) := dk_79 (dk_at dksX3_rule_2 21 rfl rfl)
theorem dX3_rule_69 : decode cX3_rule 69 = .ok (.aload_n 0, 1) := dk_42 (dk_at dksX3_rule_2 22 rfl rfl)
theorem dX3_rule_70 : decode cX3_rule 70 = .ok (.dup, 1) := dk_89 (dk_at dksX3_rule_2 23 rfl rfl)
theorem dX3_rule_71 : decode cX3_rule 71 = .ok (.getfield 400, 3) := dk_180 1 144 (dk_at dksX3_rule_3 0 rfl rfl)
theorem dX3_rule_74 : decode cX3_rule 74 = .ok (.iconst 1, 1) := dk_4 (dk_at dksX3_rule_3 3 rfl rfl)
theorem dX3_rule_75 : decode cX3_rule 75 = .ok (.iadd, 1) := dk_96 (dk_at dksX3_rule_3 4 rfl rfl)
theorem dX3_rule_76 : decode cX3_rule 76 = .ok (.putfield 400, 3) := dk_181 1 144 (dk_at dksX3_rule_3 5 rfl rfl)
theorem dX3_rule_79 : decode cX3_rule 79 = .ok (.aload_n 0, 1) := dk_42 (dk_at dksX3_rule_3 8 rfl rfl)
theorem dX3_rule_80 : decode cX3_rule 80 = .ok (.iconst 0, 1) := dk_3 (dk_at dksX3_rule_3 9 rfl rfl)
theorem dX3_rule_81 : decode cX3_rule 81 = .ok (.putfield 205, 3) := dk_181 0 205 (dk_at dksX3_rule_3 10 rfl rfl)
theorem dX3_rule_84 : decode cX3_rule 84 = .ok (.aload_n 0, 1) := dk_42 (dk_at dksX3_rule_3 13 rfl rfl)
theorem dX3_rule_85 : decode cX3_rule 85 = .ok (.getfield 400, 3) := dk_180 1 144 (dk_at dksX3_rule_3 14 rfl rfl)
theorem dX3_rule_88 : decode cX3_rule 88 = .ok (.iconst 1, 1) := dk_4 (dk_at dksX3_rule_3 17 rfl rfl)
theorem dX3_rule_89 : decode cX3_rule 89 = .ok (.isub, 1) := dk_100 (dk_at dksX3_rule_3 18 rfl rfl)
theorem dX3_rule_90 : decode cX3_rule 90 = .ok (.ireturn, 1) := dk_172 (dk_at dksX3_rule_3 19 rfl rfl)
abbrev cX3_death : ByteArray := prog_22_method_67_code
def yX3_death : MethodName := ⟨RX3, "death", "(II)Z"⟩
def dkwX3_death_3 : List UInt8 := [96, 181, 1, 132, 4, 172]
abbrev dktX3_death_3 : List UInt8 := dkwX3_death_3 ++ []
def dkwX3_death_2 : List UInt8 := [180, 1, 132, 28, 79, 42, 180, 0, 97, 42, 180, 1, 132, 42, 180, 0, 185, 79, 42, 89, 180, 1, 132, 4]
abbrev dktX3_death_2 : List UInt8 := dkwX3_death_2 ++ dktX3_death_3
def dkwX3_death_1 : List UInt8 := [182, 1, 147, 154, 0, 5, 3, 172, 42, 180, 0, 91, 42, 180, 1, 132, 27, 79, 42, 180, 0, 94, 42]
abbrev dktX3_death_1 : List UInt8 := dkwX3_death_1 ++ dktX3_death_2
def dkwX3_death_0 : List UInt8 := [42, 3, 181, 0, 181, 42, 180, 1, 132, 16, 40, 159, 0, 19, 42, 27, 182, 0, 226, 153, 0, 11, 42, 28]
abbrev dktX3_death_0 : List UInt8 := dkwX3_death_0 ++ dktX3_death_1
theorem dksX3_death_0 : cX3_death.data.toList.drop 0 = dktX3_death_0 := by decide +kernel
theorem dksX3_death_1 : cX3_death.data.toList.drop 24 = dktX3_death_1 := dk_seg dksX3_death_0 24 rfl rfl
theorem dksX3_death_2 : cX3_death.data.toList.drop 47 = dktX3_death_2 := dk_seg dksX3_death_1 23 rfl rfl
theorem dksX3_death_3 : cX3_death.data.toList.drop 71 = dktX3_death_3 := dk_seg dksX3_death_2 24 rfl rfl
theorem dX3_death_0 : decode cX3_death 0 = .ok (.aload_n 0, 1) := dk_42 (dk_at dksX3_death_0 0 rfl rfl)
theorem dX3_death_1 : decode cX3_death 1 = .ok (.iconst 0, 1) := dk_3 (dk_at dksX3_death_0 1 rfl rfl)
theorem dX3_death_2 : decode cX3_death 2 = .ok (.putfield 181, 3) := dk_181 0 181 (dk_at dksX3_death_0 2 rfl rfl)
theorem dX3_death_5 : decode cX3_death 5 = .ok (.aload_n 0, 1) := dk_42 (dk_at dksX3_death_0 5 rfl rfl)
theorem dX3_death_6 : decode cX3_death 6 = .ok (.getfield 388, 3) := dk_180 1 132 (dk_at dksX3_death_0 6 rfl rfl)
theorem dX3_death_9 : decode cX3_death 9 = .ok (.bipush 40, 2) := dk_16 40 (dk_at dksX3_death_0 9 rfl rfl)
theorem dX3_death_11 : decode cX3_death 11 = .ok (.if_icmp .eq 19, 3) := dk_159 0 19 (dk_at dksX3_death_0 11 rfl rfl)
theorem dX3_death_14 : decode cX3_death 14 = .ok (.aload_n 0, 1) := dk_42 (dk_at dksX3_death_0 14 rfl rfl)
theorem dX3_death_15 : decode cX3_death 15 = .ok (.iload_n 1, 1) := dk_27 (dk_at dksX3_death_0 15 rfl rfl)
theorem dX3_death_16 : decode cX3_death 16 = .ok (.invokevirtual 226, 3) := dk_182 0 226 (dk_at dksX3_death_0 16 rfl rfl)
theorem dX3_death_19 : decode cX3_death 19 = .ok (.ifCond .eq 11, 3) := dk_153 0 11 (dk_at dksX3_death_0 19 rfl rfl)
theorem dX3_death_22 : decode cX3_death 22 = .ok (.aload_n 0, 1) := dk_42 (dk_at dksX3_death_0 22 rfl rfl)
theorem dX3_death_23 : decode cX3_death 23 = .ok (.iload_n 2, 1) := dk_28 (dk_at dksX3_death_0 23 rfl rfl)
theorem dX3_death_24 : decode cX3_death 24 = .ok (.invokevirtual 403, 3) := dk_182 1 147 (dk_at dksX3_death_1 0 rfl rfl)
theorem dX3_death_27 : decode cX3_death 27 = .ok (.ifCond .ne 5, 3) := dk_154 0 5 (dk_at dksX3_death_1 3 rfl rfl)
theorem dX3_death_30 : decode cX3_death 30 = .ok (.iconst 0, 1) := dk_3 (dk_at dksX3_death_1 6 rfl rfl)
theorem dX3_death_31 : decode cX3_death 31 = .ok (.ireturn, 1) := dk_172 (dk_at dksX3_death_1 7 rfl rfl)
theorem dX3_death_32 : decode cX3_death 32 = .ok (.aload_n 0, 1) := dk_42 (dk_at dksX3_death_1 8 rfl rfl)
theorem dX3_death_33 : decode cX3_death 33 = .ok (.getfield 91, 3) := dk_180 0 91 (dk_at dksX3_death_1 9 rfl rfl)
theorem dX3_death_36 : decode cX3_death 36 = .ok (.aload_n 0, 1) := dk_42 (dk_at dksX3_death_1 12 rfl rfl)
theorem dX3_death_37 : decode cX3_death 37 = .ok (.getfield 388, 3) := dk_180 1 132 (dk_at dksX3_death_1 13 rfl rfl)
theorem dX3_death_40 : decode cX3_death 40 = .ok (.iload_n 1, 1) := dk_27 (dk_at dksX3_death_1 16 rfl rfl)
theorem dX3_death_41 : decode cX3_death 41 = .ok (.iastore, 1) := dk_79 (dk_at dksX3_death_1 17 rfl rfl)
theorem dX3_death_42 : decode cX3_death 42 = .ok (.aload_n 0, 1) := dk_42 (dk_at dksX3_death_1 18 rfl rfl)
theorem dX3_death_43 : decode cX3_death 43 = .ok (.getfield 94, 3) := dk_180 0 94 (dk_at dksX3_death_1 19 rfl rfl)
theorem dX3_death_46 : decode cX3_death 46 = .ok (.aload_n 0, 1) := dk_42 (dk_at dksX3_death_1 22 rfl rfl)
theorem dX3_death_47 : decode cX3_death 47 = .ok (.getfield 388, 3) := dk_180 1 132 (dk_at dksX3_death_2 0 rfl rfl)
theorem dX3_death_50 : decode cX3_death 50 = .ok (.iload_n 2, 1) := dk_28 (dk_at dksX3_death_2 3 rfl rfl)
theorem dX3_death_51 : decode cX3_death 51 = .ok (.iastore, 1) := dk_79 (dk_at dksX3_death_2 4 rfl rfl)
theorem dX3_death_52 : decode cX3_death 52 = .ok (.aload_n 0, 1) := dk_42 (dk_at dksX3_death_2 5 rfl rfl)
theorem dX3_death_53 : decode cX3_death 53 = .ok (.getfield 97, 3) := dk_180 0 97 (dk_at dksX3_death_2 6 rfl rfl)
theorem dX3_death_56 : decode cX3_death 56 = .ok (.aload_n 0, 1) := dk_42 (dk_at dksX3_death_2 9 rfl rfl)
theorem dX3_death_57 : decode cX3_death 57 = .ok (.getfield 388, 3) := dk_180 1 132 (dk_at dksX3_death_2 10 rfl rfl)
theorem dX3_death_60 : decode cX3_death 60 = .ok (.aload_n 0, 1) := dk_42 (dk_at dksX3_death_2 13 rfl rfl)
theorem dX3_death_61 : decode cX3_death 61 = .ok (.getfield 185, 3) := dk_180 0 185 (dk_at dksX3_death_2 14 rfl rfl)
theorem dX3_death_64 : decode cX3_death 64 = .ok (.iastore, 1) := dk_79 (dk_at dksX3_death_2 17 rfl rfl)
theorem dX3_death_65 : decode cX3_death 65 = .ok (.aload_n 0, 1) := dk_42 (dk_at dksX3_death_2 18 rfl rfl)
theorem dX3_death_66 : decode cX3_death 66 = .ok (.dup, 1) := dk_89 (dk_at dksX3_death_2 19 rfl rfl)
theorem dX3_death_67 : decode cX3_death 67 = .ok (.getfield 388, 3) := dk_180 1 132 (dk_at dksX3_death_2 20 rfl rfl)
theorem dX3_death_70 : decode cX3_death 70 = .ok (.iconst 1, 1) := dk_4 (dk_at dksX3_death_2 23 rfl rfl)
theorem dX3_death_71 : decode cX3_death 71 = .ok (.iadd, 1) := dk_96 (dk_at dksX3_death_3 0 rfl rfl)
theorem dX3_death_72 : decode cX3_death 72 = .ok (.putfield 388, 3) := dk_181 1 132 (dk_at dksX3_death_3 1 rfl rfl)
theorem dX3_death_75 : decode cX3_death 75 = .ok (.iconst 1, 1) := dk_4 (dk_at dksX3_death_3 4 rfl rfl)
theorem dX3_death_76 : decode cX3_death 76 = .ok (.ireturn, 1) := dk_172 (dk_at dksX3_death_3 5 rfl rfl)
abbrev cX3_isRule : ByteArray := prog_22_method_66_code
def yX3_isRule : MethodName := ⟨RX3, "isRule", "(I)Z"⟩
def dkwX3_isRule_0 : List UInt8 := [27, 155, 0, 15, 27, 42, 180, 1, 144, 162, 0, 7, 4, 167, 0, 4, 3, 172]
abbrev dktX3_isRule_0 : List UInt8 := dkwX3_isRule_0 ++ []
theorem dksX3_isRule_0 : cX3_isRule.data.toList.drop 0 = dktX3_isRule_0 := by decide +kernel
theorem dX3_isRule_0 : decode cX3_isRule 0 = .ok (.iload_n 1, 1) := dk_27 (dk_at dksX3_isRule_0 0 rfl rfl)
theorem dX3_isRule_1 : decode cX3_isRule 1 = .ok (.ifCond .lt 15, 3) := dk_155 0 15 (dk_at dksX3_isRule_0 1 rfl rfl)
theorem dX3_isRule_4 : decode cX3_isRule 4 = .ok (.iload_n 1, 1) := dk_27 (dk_at dksX3_isRule_0 4 rfl rfl)
theorem dX3_isRule_5 : decode cX3_isRule 5 = .ok (.aload_n 0, 1) := dk_42 (dk_at dksX3_isRule_0 5 rfl rfl)
theorem dX3_isRule_6 : decode cX3_isRule 6 = .ok (.getfield 400, 3) := dk_180 1 144 (dk_at dksX3_isRule_0 6 rfl rfl)
theorem dX3_isRule_9 : decode cX3_isRule 9 = .ok (.if_icmp .ge 7, 3) := dk_162 0 7 (dk_at dksX3_isRule_0 9 rfl rfl)
theorem dX3_isRule_12 : decode cX3_isRule 12 = .ok (.iconst 1, 1) := dk_4 (dk_at dksX3_isRule_0 12 rfl rfl)
theorem dX3_isRule_13 : decode cX3_isRule 13 = .ok (.goto 4, 3) := dk_167 0 4 (dk_at dksX3_isRule_0 13 rfl rfl)
theorem dX3_isRule_16 : decode cX3_isRule 16 = .ok (.iconst 0, 1) := dk_3 (dk_at dksX3_isRule_0 16 rfl rfl)
theorem dX3_isRule_17 : decode cX3_isRule 17 = .ok (.ireturn, 1) := dk_172 (dk_at dksX3_isRule_0 17 rfl rfl)
abbrev cX3_seal : ByteArray := prog_22_method_69_code
def yX3_seal : MethodName := ⟨RX3, "seal", "(IIZ)I"⟩
def dkwX3_seal_4 : List UInt8 := [180, 1, 150, 4, 96, 181, 1, 150, 42, 180, 1, 150, 4, 100, 172]
abbrev dktX3_seal_4 : List UInt8 := dkwX3_seal_4 ++ []
def dkwX3_seal_3 : List UInt8 := [79, 42, 180, 0, 118, 42, 180, 1, 150, 29, 84, 42, 180, 0, 106, 42, 180, 1, 150, 2, 79, 42, 89]
abbrev dktX3_seal_3 : List UInt8 := dkwX3_seal_3 ++ dktX3_seal_4
def dkwX3_seal_2 : List UInt8 := [154, 0, 5, 2, 172, 42, 180, 0, 100, 42, 180, 1, 150, 27, 79, 42, 180, 0, 103, 42, 180, 1, 150, 28]
abbrev dktX3_seal_2 : List UInt8 := dkwX3_seal_2 ++ dktX3_seal_3
def dkwX3_seal_1 : List UInt8 := [153, 0, 26, 29, 153, 0, 14, 42, 28, 182, 1, 147, 154, 0, 16, 167, 0, 11, 42, 28, 182, 0, 216]
abbrev dktX3_seal_1 : List UInt8 := dkwX3_seal_1 ++ dktX3_seal_2
def dkwX3_seal_0 : List UInt8 := [42, 3, 181, 0, 181, 42, 180, 1, 150, 16, 40, 159, 0, 37, 27, 3, 17, 3, 250, 184, 0, 188]
abbrev dktX3_seal_0 : List UInt8 := dkwX3_seal_0 ++ dktX3_seal_1
theorem dksX3_seal_0 : cX3_seal.data.toList.drop 0 = dktX3_seal_0 := by decide +kernel
theorem dksX3_seal_1 : cX3_seal.data.toList.drop 22 = dktX3_seal_1 := dk_seg dksX3_seal_0 22 rfl rfl
theorem dksX3_seal_2 : cX3_seal.data.toList.drop 45 = dktX3_seal_2 := dk_seg dksX3_seal_1 23 rfl rfl
theorem dksX3_seal_3 : cX3_seal.data.toList.drop 69 = dktX3_seal_3 := dk_seg dksX3_seal_2 24 rfl rfl
theorem dksX3_seal_4 : cX3_seal.data.toList.drop 92 = dktX3_seal_4 := dk_seg dksX3_seal_3 23 rfl rfl
theorem dX3_seal_0 : decode cX3_seal 0 = .ok (.aload_n 0, 1) := dk_42 (dk_at dksX3_seal_0 0 rfl rfl)
theorem dX3_seal_1 : decode cX3_seal 1 = .ok (.iconst 0, 1) := dk_3 (dk_at dksX3_seal_0 1 rfl rfl)
theorem dX3_seal_2 : decode cX3_seal 2 = .ok (.putfield 181, 3) := dk_181 0 181 (dk_at dksX3_seal_0 2 rfl rfl)
theorem dX3_seal_5 : decode cX3_seal 5 = .ok (.aload_n 0, 1) := dk_42 (dk_at dksX3_seal_0 5 rfl rfl)
theorem dX3_seal_6 : decode cX3_seal 6 = .ok (.getfield 406, 3) := dk_180 1 150 (dk_at dksX3_seal_0 6 rfl rfl)
theorem dX3_seal_9 : decode cX3_seal 9 = .ok (.bipush 40, 2) := dk_16 40 (dk_at dksX3_seal_0 9 rfl rfl)
theorem dX3_seal_11 : decode cX3_seal 11 = .ok (.if_icmp .eq 37, 3) := dk_159 0 37 (dk_at dksX3_seal_0 11 rfl rfl)
theorem dX3_seal_14 : decode cX3_seal 14 = .ok (.iload_n 1, 1) := dk_27 (dk_at dksX3_seal_0 14 rfl rfl)
theorem dX3_seal_15 : decode cX3_seal 15 = .ok (.iconst 0, 1) := dk_3 (dk_at dksX3_seal_0 15 rfl rfl)
theorem dX3_seal_16 : decode cX3_seal 16 = .ok (.sipush 1018, 3) := dk_17 3 250 (dk_at dksX3_seal_0 16 rfl rfl)
theorem dX3_seal_19 : decode cX3_seal 19 = .ok (.invokestatic 188, 3) := dk_184 0 188 (dk_at dksX3_seal_0 19 rfl rfl)
theorem dX3_seal_22 : decode cX3_seal 22 = .ok (.ifCond .eq 26, 3) := dk_153 0 26 (dk_at dksX3_seal_1 0 rfl rfl)
theorem dX3_seal_25 : decode cX3_seal 25 = .ok (.iload_n 3, 1) := dk_29 (dk_at dksX3_seal_1 3 rfl rfl)
theorem dX3_seal_26 : decode cX3_seal 26 = .ok (.ifCond .eq 14, 3) := dk_153 0 14 (dk_at dksX3_seal_1 4 rfl rfl)
theorem dX3_seal_29 : decode cX3_seal 29 = .ok (.aload_n 0, 1) := dk_42 (dk_at dksX3_seal_1 7 rfl rfl)
theorem dX3_seal_30 : decode cX3_seal 30 = .ok (.iload_n 2, 1) := dk_28 (dk_at dksX3_seal_1 8 rfl rfl)
theorem dX3_seal_31 : decode cX3_seal 31 = .ok (.invokevirtual 403, 3) := dk_182 1 147 (dk_at dksX3_seal_1 9 rfl rfl)
theorem dX3_seal_34 : decode cX3_seal 34 = .ok (.ifCond .ne 16, 3) := dk_154 0 16 (dk_at dksX3_seal_1 12 rfl rfl)
theorem dX3_seal_37 : decode cX3_seal 37 = .ok (.goto 11, 3) := dk_167 0 11 (dk_at dksX3_seal_1 15 rfl rfl)
theorem dX3_seal_40 : decode cX3_seal 40 = .ok (.aload_n 0, 1) := dk_42 (dk_at dksX3_seal_1 18 rfl rfl)
theorem dX3_seal_41 : decode cX3_seal 41 = .ok (.iload_n 2, 1) := dk_28 (dk_at dksX3_seal_1 19 rfl rfl)
theorem dX3_seal_42 : decode cX3_seal 42 = .ok (.invokevirtual 216, 3) := dk_182 0 216 (dk_at dksX3_seal_1 20 rfl rfl)
theorem dX3_seal_45 : decode cX3_seal 45 = .ok (.ifCond .ne 5, 3) := dk_154 0 5 (dk_at dksX3_seal_2 0 rfl rfl)
theorem dX3_seal_48 : decode cX3_seal 48 = .ok (.iconst (-1), 1) := dk_2 (dk_at dksX3_seal_2 3 rfl rfl)
theorem dX3_seal_49 : decode cX3_seal 49 = .ok (.ireturn, 1) := dk_172 (dk_at dksX3_seal_2 4 rfl rfl)
theorem dX3_seal_50 : decode cX3_seal 50 = .ok (.aload_n 0, 1) := dk_42 (dk_at dksX3_seal_2 5 rfl rfl)
theorem dX3_seal_51 : decode cX3_seal 51 = .ok (.getfield 100, 3) := dk_180 0 100 (dk_at dksX3_seal_2 6 rfl rfl)
theorem dX3_seal_54 : decode cX3_seal 54 = .ok (.aload_n 0, 1) := dk_42 (dk_at dksX3_seal_2 9 rfl rfl)
theorem dX3_seal_55 : decode cX3_seal 55 = .ok (.getfield 406, 3) := dk_180 1 150 (dk_at dksX3_seal_2 10 rfl rfl)
theorem dX3_seal_58 : decode cX3_seal 58 = .ok (.iload_n 1, 1) := dk_27 (dk_at dksX3_seal_2 13 rfl rfl)
theorem dX3_seal_59 : decode cX3_seal 59 = .ok (.iastore, 1) := dk_79 (dk_at dksX3_seal_2 14 rfl rfl)
theorem dX3_seal_60 : decode cX3_seal 60 = .ok (.aload_n 0, 1) := dk_42 (dk_at dksX3_seal_2 15 rfl rfl)
theorem dX3_seal_61 : decode cX3_seal 61 = .ok (.getfield 103, 3) := dk_180 0 103 (dk_at dksX3_seal_2 16 rfl rfl)
theorem dX3_seal_64 : decode cX3_seal 64 = .ok (.aload_n 0, 1) := dk_42 (dk_at dksX3_seal_2 19 rfl rfl)
theorem dX3_seal_65 : decode cX3_seal 65 = .ok (.getfield 406, 3) := dk_180 1 150 (dk_at dksX3_seal_2 20 rfl rfl)
theorem dX3_seal_68 : decode cX3_seal 68 = .ok (.iload_n 2, 1) := dk_28 (dk_at dksX3_seal_2 23 rfl rfl)
theorem dX3_seal_69 : decode cX3_seal 69 = .ok (.iastore, 1) := dk_79 (dk_at dksX3_seal_3 0 rfl rfl)
theorem dX3_seal_70 : decode cX3_seal 70 = .ok (.aload_n 0, 1) := dk_42 (dk_at dksX3_seal_3 1 rfl rfl)
theorem dX3_seal_71 : decode cX3_seal 71 = .ok (.getfield 118, 3) := dk_180 0 118 (dk_at dksX3_seal_3 2 rfl rfl)
theorem dX3_seal_74 : decode cX3_seal 74 = .ok (.aload_n 0, 1) := dk_42 (dk_at dksX3_seal_3 5 rfl rfl)
theorem dX3_seal_75 : decode cX3_seal 75 = .ok (.getfield 406, 3) := dk_180 1 150 (dk_at dksX3_seal_3 6 rfl rfl)
theorem dX3_seal_78 : decode cX3_seal 78 = .ok (.iload_n 3, 1) := dk_29 (dk_at dksX3_seal_3 9 rfl rfl)
theorem dX3_seal_79 : decode cX3_seal 79 = .ok (.bastore, 1) := dk_84 (dk_at dksX3_seal_3 10 rfl rfl)
theorem dX3_seal_80 : decode cX3_seal 80 = .ok (.aload_n 0, 1) := dk_42 (dk_at dksX3_seal_3 11 rfl rfl)
theorem dX3_seal_81 : decode cX3_seal 81 = .ok (.getfield 106, 3) := dk_180 0 106 (dk_at dksX3_seal_3 12 rfl rfl)
theorem dX3_seal_84 : decode cX3_seal 84 = .ok (.aload_n 0, 1) := dk_42 (dk_at dksX3_seal_3 15 rfl rfl)
theorem dX3_seal_85 : decode cX3_seal 85 = .ok (.getfield 406, 3) := dk_180 1 150 (dk_at dksX3_seal_3 16 rfl rfl)
theorem dX3_seal_88 : decode cX3_seal 88 = .ok (.iconst (-1), 1) := dk_2 (dk_at dksX3_seal_3 19 rfl rfl)
theorem dX3_seal_89 : decode cX3_seal 89 = .ok (.iastore, 1) := dk_79 (dk_at dksX3_seal_3 20 rfl rfl)
theorem dX3_seal_90 : decode cX3_seal 90 = .ok (.aload_n 0, 1) := dk_42 (dk_at dksX3_seal_3 21 rfl rfl)
theorem dX3_seal_91 : decode cX3_seal 91 = .ok (.dup, 1) := dk_89 (dk_at dksX3_seal_3 22 rfl rfl)
theorem dX3_seal_92 : decode cX3_seal 92 = .ok (.getfield 406, 3) := dk_180 1 150 (dk_at dksX3_seal_4 0 rfl rfl)
theorem dX3_seal_95 : decode cX3_seal 95 = .ok (.iconst 1, 1) := dk_4 (dk_at dksX3_seal_4 3 rfl rfl)
theorem dX3_seal_96 : decode cX3_seal 96 = .ok (.iadd, 1) := dk_96 (dk_at dksX3_seal_4 4 rfl rfl)
theorem dX3_seal_97 : decode cX3_seal 97 = .ok (.putfield 406, 3) := dk_181 1 150 (dk_at dksX3_seal_4 5 rfl rfl)
theorem dX3_seal_100 : decode cX3_seal 100 = .ok (.aload_n 0, 1) := dk_42 (dk_at dksX3_seal_4 8 rfl rfl)
theorem dX3_seal_101 : decode cX3_seal 101 = .ok (.getfield 406, 3) := dk_180 1 150 (dk_at dksX3_seal_4 9 rfl rfl)
theorem dX3_seal_104 : decode cX3_seal 104 = .ok (.iconst 1, 1) := dk_4 (dk_at dksX3_seal_4 12 rfl rfl)
theorem dX3_seal_105 : decode cX3_seal 105 = .ok (.isub, 1) := dk_100 (dk_at dksX3_seal_4 13 rfl rfl)
theorem dX3_seal_106 : decode cX3_seal 106 = .ok (.ireturn, 1) := dk_172 (dk_at dksX3_seal_4 14 rfl rfl)
abbrev cX3_say : ByteArray := prog_22_method_71_code
def yX3_say : MethodName := ⟨RX3, "say", "(IIZ)Z"⟩
def dkwX3_say_1 : List UInt8 := [29, 3, 182, 1, 156, 153, 0, 7, 4, 167, 0, 4, 3, 172]
abbrev dktX3_say_1 : List UInt8 := dkwX3_say_1 ++ []
def dkwX3_say_0 : List UInt8 := [42, 3, 181, 0, 181, 42, 27, 182, 0, 226, 153, 0, 26, 42, 28, 182, 1, 153, 153, 0, 18, 42, 27, 28]
abbrev dktX3_say_0 : List UInt8 := dkwX3_say_0 ++ dktX3_say_1
theorem dksX3_say_0 : cX3_say.data.toList.drop 0 = dktX3_say_0 := by decide +kernel
theorem dksX3_say_1 : cX3_say.data.toList.drop 24 = dktX3_say_1 := dk_seg dksX3_say_0 24 rfl rfl
theorem dX3_say_0 : decode cX3_say 0 = .ok (.aload_n 0, 1) := dk_42 (dk_at dksX3_say_0 0 rfl rfl)
theorem dX3_say_1 : decode cX3_say 1 = .ok (.iconst 0, 1) := dk_3 (dk_at dksX3_say_0 1 rfl rfl)
theorem dX3_say_2 : decode cX3_say 2 = .ok (.putfield 181, 3) := dk_181 0 181 (dk_at dksX3_say_0 2 rfl rfl)
theorem dX3_say_5 : decode cX3_say 5 = .ok (.aload_n 0, 1) := dk_42 (dk_at dksX3_say_0 5 rfl rfl)
theorem dX3_say_6 : decode cX3_say 6 = .ok (.iload_n 1, 1) := dk_27 (dk_at dksX3_say_0 6 rfl rfl)
theorem dX3_say_7 : decode cX3_say 7 = .ok (.invokevirtual 226, 3) := dk_182 0 226 (dk_at dksX3_say_0 7 rfl rfl)
theorem dX3_say_10 : decode cX3_say 10 = .ok (.ifCond .eq 26, 3) := dk_153 0 26 (dk_at dksX3_say_0 10 rfl rfl)
theorem dX3_say_13 : decode cX3_say 13 = .ok (.aload_n 0, 1) := dk_42 (dk_at dksX3_say_0 13 rfl rfl)
theorem dX3_say_14 : decode cX3_say 14 = .ok (.iload_n 2, 1) := dk_28 (dk_at dksX3_say_0 14 rfl rfl)
theorem dX3_say_15 : decode cX3_say 15 = .ok (.invokevirtual 409, 3) := dk_182 1 153 (dk_at dksX3_say_0 15 rfl rfl)
theorem dX3_say_18 : decode cX3_say 18 = .ok (.ifCond .eq 18, 3) := dk_153 0 18 (dk_at dksX3_say_0 18 rfl rfl)
theorem dX3_say_21 : decode cX3_say 21 = .ok (.aload_n 0, 1) := dk_42 (dk_at dksX3_say_0 21 rfl rfl)
theorem dX3_say_22 : decode cX3_say 22 = .ok (.iload_n 1, 1) := dk_27 (dk_at dksX3_say_0 22 rfl rfl)
theorem dX3_say_23 : decode cX3_say 23 = .ok (.iload_n 2, 1) := dk_28 (dk_at dksX3_say_0 23 rfl rfl)
theorem dX3_say_24 : decode cX3_say 24 = .ok (.iload_n 3, 1) := dk_29 (dk_at dksX3_say_1 0 rfl rfl)
theorem dX3_say_25 : decode cX3_say 25 = .ok (.iconst 0, 1) := dk_3 (dk_at dksX3_say_1 1 rfl rfl)
theorem dX3_say_26 : decode cX3_say 26 = .ok (.invokevirtual 412, 3) := dk_182 1 156 (dk_at dksX3_say_1 2 rfl rfl)
theorem dX3_say_29 : decode cX3_say 29 = .ok (.ifCond .eq 7, 3) := dk_153 0 7 (dk_at dksX3_say_1 5 rfl rfl)
theorem dX3_say_32 : decode cX3_say 32 = .ok (.iconst 1, 1) := dk_4 (dk_at dksX3_say_1 8 rfl rfl)
theorem dX3_say_33 : decode cX3_say 33 = .ok (.goto 4, 3) := dk_167 0 4 (dk_at dksX3_say_1 9 rfl rfl)
theorem dX3_say_36 : decode cX3_say 36 = .ok (.iconst 0, 1) := dk_3 (dk_at dksX3_say_1 12 rfl rfl)
theorem dX3_say_37 : decode cX3_say 37 = .ok (.ireturn, 1) := dk_172 (dk_at dksX3_say_1 13 rfl rfl)
abbrev cX3_isThing : ByteArray := prog_22_method_68_code
def yX3_isThing : MethodName := ⟨RX3, "isThing", "(I)Z"⟩
def dkwX3_isThing_0 : List UInt8 := [27, 155, 0, 15, 27, 42, 180, 1, 150, 162, 0, 7, 4, 167, 0, 4, 3, 172]
abbrev dktX3_isThing_0 : List UInt8 := dkwX3_isThing_0 ++ []
theorem dksX3_isThing_0 : cX3_isThing.data.toList.drop 0 = dktX3_isThing_0 := by decide +kernel
theorem dX3_isThing_0 : decode cX3_isThing 0 = .ok (.iload_n 1, 1) := dk_27 (dk_at dksX3_isThing_0 0 rfl rfl)
theorem dX3_isThing_1 : decode cX3_isThing 1 = .ok (.ifCond .lt 15, 3) := dk_155 0 15 (dk_at dksX3_isThing_0 1 rfl rfl)
theorem dX3_isThing_4 : decode cX3_isThing 4 = .ok (.iload_n 1, 1) := dk_27 (dk_at dksX3_isThing_0 4 rfl rfl)
theorem dX3_isThing_5 : decode cX3_isThing 5 = .ok (.aload_n 0, 1) := dk_42 (dk_at dksX3_isThing_0 5 rfl rfl)
theorem dX3_isThing_6 : decode cX3_isThing 6 = .ok (.getfield 406, 3) := dk_180 1 150 (dk_at dksX3_isThing_0 6 rfl rfl)
theorem dX3_isThing_9 : decode cX3_isThing 9 = .ok (.if_icmp .ge 7, 3) := dk_162 0 7 (dk_at dksX3_isThing_0 9 rfl rfl)
theorem dX3_isThing_12 : decode cX3_isThing 12 = .ok (.iconst 1, 1) := dk_4 (dk_at dksX3_isThing_0 12 rfl rfl)
theorem dX3_isThing_13 : decode cX3_isThing 13 = .ok (.goto 4, 3) := dk_167 0 4 (dk_at dksX3_isThing_0 13 rfl rfl)
theorem dX3_isThing_16 : decode cX3_isThing 16 = .ok (.iconst 0, 1) := dk_3 (dk_at dksX3_isThing_0 16 rfl rfl)
theorem dX3_isThing_17 : decode cX3_isThing 17 = .ok (.ireturn, 1) := dk_172 (dk_at dksX3_isThing_0 17 rfl rfl)
abbrev cX3_says : ByteArray := prog_22_method_70_code
def yX3_says : MethodName := ⟨RX3, "says", "(IIZZ)Z"⟩
def dkwX3_says_3 : List UInt8 := [180, 1, 119, 4, 96, 181, 1, 119, 4, 172]
abbrev dktX3_says_3 : List UInt8 := dkwX3_says_3 ++ []
def dkwX3_says_2 : List UInt8 := [180, 0, 124, 42, 180, 1, 119, 29, 84, 42, 180, 0, 127, 42, 180, 1, 119, 21, 4, 84, 42, 89]
abbrev dktX3_says_2 : List UInt8 := dkwX3_says_2 ++ dktX3_says_3
def dkwX3_says_1 : List UInt8 := [180, 0, 112, 42, 180, 1, 119, 28, 79, 42, 180, 0, 115, 42, 180, 1, 119, 42, 180, 0, 185, 79, 42]
abbrev dktX3_says_1 : List UInt8 := dkwX3_says_1 ++ dktX3_says_2
def dkwX3_says_0 : List UInt8 := [42, 180, 1, 119, 17, 0, 200, 160, 0, 5, 3, 172, 42, 180, 0, 109, 42, 180, 1, 119, 27, 79, 42]
abbrev dktX3_says_0 : List UInt8 := dkwX3_says_0 ++ dktX3_says_1
theorem dksX3_says_0 : cX3_says.data.toList.drop 0 = dktX3_says_0 := by decide +kernel
theorem dksX3_says_1 : cX3_says.data.toList.drop 23 = dktX3_says_1 := dk_seg dksX3_says_0 23 rfl rfl
theorem dksX3_says_2 : cX3_says.data.toList.drop 46 = dktX3_says_2 := dk_seg dksX3_says_1 23 rfl rfl
theorem dksX3_says_3 : cX3_says.data.toList.drop 68 = dktX3_says_3 := dk_seg dksX3_says_2 22 rfl rfl
theorem dX3_says_0 : decode cX3_says 0 = .ok (.aload_n 0, 1) := dk_42 (dk_at dksX3_says_0 0 rfl rfl)
theorem dX3_says_1 : decode cX3_says 1 = .ok (.getfield 375, 3) := dk_180 1 119 (dk_at dksX3_says_0 1 rfl rfl)
theorem dX3_says_4 : decode cX3_says 4 = .ok (.sipush 200, 3) := dk_17 0 200 (dk_at dksX3_says_0 4 rfl rfl)
theorem dX3_says_7 : decode cX3_says 7 = .ok (.if_icmp .ne 5, 3) := dk_160 0 5 (dk_at dksX3_says_0 7 rfl rfl)
theorem dX3_says_10 : decode cX3_says 10 = .ok (.iconst 0, 1) := dk_3 (dk_at dksX3_says_0 10 rfl rfl)
theorem dX3_says_11 : decode cX3_says 11 = .ok (.ireturn, 1) := dk_172 (dk_at dksX3_says_0 11 rfl rfl)
theorem dX3_says_12 : decode cX3_says 12 = .ok (.aload_n 0, 1) := dk_42 (dk_at dksX3_says_0 12 rfl rfl)
theorem dX3_says_13 : decode cX3_says 13 = .ok (.getfield 109, 3) := dk_180 0 109 (dk_at dksX3_says_0 13 rfl rfl)
theorem dX3_says_16 : decode cX3_says 16 = .ok (.aload_n 0, 1) := dk_42 (dk_at dksX3_says_0 16 rfl rfl)
theorem dX3_says_17 : decode cX3_says 17 = .ok (.getfield 375, 3) := dk_180 1 119 (dk_at dksX3_says_0 17 rfl rfl)
theorem dX3_says_20 : decode cX3_says 20 = .ok (.iload_n 1, 1) := dk_27 (dk_at dksX3_says_0 20 rfl rfl)
theorem dX3_says_21 : decode cX3_says 21 = .ok (.iastore, 1) := dk_79 (dk_at dksX3_says_0 21 rfl rfl)
theorem dX3_says_22 : decode cX3_says 22 = .ok (.aload_n 0, 1) := dk_42 (dk_at dksX3_says_0 22 rfl rfl)
theorem dX3_says_23 : decode cX3_says 23 = .ok (.getfield 112, 3) := dk_180 0 112 (dk_at dksX3_says_1 0 rfl rfl)
theorem dX3_says_26 : decode cX3_says 26 = .ok (.aload_n 0, 1) := dk_42 (dk_at dksX3_says_1 3 rfl rfl)
theorem dX3_says_27 : decode cX3_says 27 = .ok (.getfield 375, 3) := dk_180 1 119 (dk_at dksX3_says_1 4 rfl rfl)
theorem dX3_says_30 : decode cX3_says 30 = .ok (.iload_n 2, 1) := dk_28 (dk_at dksX3_says_1 7 rfl rfl)
theorem dX3_says_31 : decode cX3_says 31 = .ok (.iastore, 1) := dk_79 (dk_at dksX3_says_1 8 rfl rfl)
theorem dX3_says_32 : decode cX3_says 32 = .ok (.aload_n 0, 1) := dk_42 (dk_at dksX3_says_1 9 rfl rfl)
theorem dX3_says_33 : decode cX3_says 33 = .ok (.getfield 115, 3) := dk_180 0 115 (dk_at dksX3_says_1 10 rfl rfl)
theorem dX3_says_36 : decode cX3_says 36 = .ok (.aload_n 0, 1) := dk_42 (dk_at dksX3_says_1 13 rfl rfl)
theorem dX3_says_37 : decode cX3_says 37 = .ok (.getfield 375, 3) := dk_180 1 119 (dk_at dksX3_says_1 14 rfl rfl)
theorem dX3_says_40 : decode cX3_says 40 = .ok (.aload_n 0, 1) := dk_42 (dk_at dksX3_says_1 17 rfl rfl)
theorem dX3_says_41 : decode cX3_says 41 = .ok (.getfield 185, 3) := dk_180 0 185 (dk_at dksX3_says_1 18 rfl rfl)
theorem dX3_says_44 : decode cX3_says 44 = .ok (.iastore, 1) := dk_79 (dk_at dksX3_says_1 21 rfl rfl)
theorem dX3_says_45 : decode cX3_says 45 = .ok (.aload_n 0, 1) := dk_42 (dk_at dksX3_says_1 22 rfl rfl)
theorem dX3_says_46 : decode cX3_says 46 = .ok (.getfield 124, 3) := dk_180 0 124 (dk_at dksX3_says_2 0 rfl rfl)
theorem dX3_says_49 : decode cX3_says 49 = .ok (.aload_n 0, 1) := dk_42 (dk_at dksX3_says_2 3 rfl rfl)
theorem dX3_says_50 : decode cX3_says 50 = .ok (.getfield 375, 3) := dk_180 1 119 (dk_at dksX3_says_2 4 rfl rfl)
theorem dX3_says_53 : decode cX3_says 53 = .ok (.iload_n 3, 1) := dk_29 (dk_at dksX3_says_2 7 rfl rfl)
theorem dX3_says_54 : decode cX3_says 54 = .ok (.bastore, 1) := dk_84 (dk_at dksX3_says_2 8 rfl rfl)
theorem dX3_says_55 : decode cX3_says 55 = .ok (.aload_n 0, 1) := dk_42 (dk_at dksX3_says_2 9 rfl rfl)
theorem dX3_says_56 : decode cX3_says 56 = .ok (.getfield 127, 3) := dk_180 0 127 (dk_at dksX3_says_2 10 rfl rfl)
theorem dX3_says_59 : decode cX3_says 59 = .ok (.aload_n 0, 1) := dk_42 (dk_at dksX3_says_2 13 rfl rfl)
theorem dX3_says_60 : decode cX3_says 60 = .ok (.getfield 375, 3) := dk_180 1 119 (dk_at dksX3_says_2 14 rfl rfl)
theorem dX3_says_63 : decode cX3_says 63 = .ok (.iload 4, 2) := dk_21 4 (dk_at dksX3_says_2 17 rfl rfl)
theorem dX3_says_65 : decode cX3_says 65 = .ok (.bastore, 1) := dk_84 (dk_at dksX3_says_2 19 rfl rfl)
theorem dX3_says_66 : decode cX3_says 66 = .ok (.aload_n 0, 1) := dk_42 (dk_at dksX3_says_2 20 rfl rfl)
theorem dX3_says_67 : decode cX3_says 67 = .ok (.dup, 1) := dk_89 (dk_at dksX3_says_2 21 rfl rfl)
theorem dX3_says_68 : decode cX3_says 68 = .ok (.getfield 375, 3) := dk_180 1 119 (dk_at dksX3_says_3 0 rfl rfl)
theorem dX3_says_71 : decode cX3_says 71 = .ok (.iconst 1, 1) := dk_4 (dk_at dksX3_says_3 3 rfl rfl)
theorem dX3_says_72 : decode cX3_says 72 = .ok (.iadd, 1) := dk_96 (dk_at dksX3_says_3 4 rfl rfl)
theorem dX3_says_73 : decode cX3_says 73 = .ok (.putfield 375, 3) := dk_181 1 119 (dk_at dksX3_says_3 5 rfl rfl)
theorem dX3_says_76 : decode cX3_says 76 = .ok (.iconst 1, 1) := dk_4 (dk_at dksX3_says_3 8 rfl rfl)
theorem dX3_says_77 : decode cX3_says 77 = .ok (.ireturn, 1) := dk_172 (dk_at dksX3_says_3 9 rfl rfl)
abbrev cX3_mourn : ByteArray := prog_22_method_72_code
def yX3_mourn : MethodName := ⟨RX3, "mourn", "(IIZ)Z"⟩
def dkwX3_mourn_1 : List UInt8 := [159, 0, 18, 42, 27, 28, 29, 4, 182, 1, 156, 153, 0, 7, 4, 167, 0, 4, 3, 172]
abbrev dktX3_mourn_1 : List UInt8 := dkwX3_mourn_1 ++ []
def dkwX3_mourn_0 : List UInt8 := [42, 3, 181, 0, 181, 42, 27, 182, 0, 226, 153, 0, 31, 42, 28, 182, 0, 226, 153, 0, 23, 27, 28]
abbrev dktX3_mourn_0 : List UInt8 := dkwX3_mourn_0 ++ dktX3_mourn_1
theorem dksX3_mourn_0 : cX3_mourn.data.toList.drop 0 = dktX3_mourn_0 := by decide +kernel
theorem dksX3_mourn_1 : cX3_mourn.data.toList.drop 23 = dktX3_mourn_1 := dk_seg dksX3_mourn_0 23 rfl rfl
theorem dX3_mourn_0 : decode cX3_mourn 0 = .ok (.aload_n 0, 1) := dk_42 (dk_at dksX3_mourn_0 0 rfl rfl)
theorem dX3_mourn_1 : decode cX3_mourn 1 = .ok (.iconst 0, 1) := dk_3 (dk_at dksX3_mourn_0 1 rfl rfl)
theorem dX3_mourn_2 : decode cX3_mourn 2 = .ok (.putfield 181, 3) := dk_181 0 181 (dk_at dksX3_mourn_0 2 rfl rfl)
theorem dX3_mourn_5 : decode cX3_mourn 5 = .ok (.aload_n 0, 1) := dk_42 (dk_at dksX3_mourn_0 5 rfl rfl)
theorem dX3_mourn_6 : decode cX3_mourn 6 = .ok (.iload_n 1, 1) := dk_27 (dk_at dksX3_mourn_0 6 rfl rfl)
theorem dX3_mourn_7 : decode cX3_mourn 7 = .ok (.invokevirtual 226, 3) := dk_182 0 226 (dk_at dksX3_mourn_0 7 rfl rfl)
theorem dX3_mourn_10 : decode cX3_mourn 10 = .ok (.ifCond .eq 31, 3) := dk_153 0 31 (dk_at dksX3_mourn_0 10 rfl rfl)
theorem dX3_mourn_13 : decode cX3_mourn 13 = .ok (.aload_n 0, 1) := dk_42 (dk_at dksX3_mourn_0 13 rfl rfl)
theorem dX3_mourn_14 : decode cX3_mourn 14 = .ok (.iload_n 2, 1) := dk_28 (dk_at dksX3_mourn_0 14 rfl rfl)
theorem dX3_mourn_15 : decode cX3_mourn 15 = .ok (.invokevirtual 226, 3) := dk_182 0 226 (dk_at dksX3_mourn_0 15 rfl rfl)
theorem dX3_mourn_18 : decode cX3_mourn 18 = .ok (.ifCond .eq 23, 3) := dk_153 0 23 (dk_at dksX3_mourn_0 18 rfl rfl)
theorem dX3_mourn_21 : decode cX3_mourn 21 = .ok (.iload_n 1, 1) := dk_27 (dk_at dksX3_mourn_0 21 rfl rfl)
theorem dX3_mourn_22 : decode cX3_mourn 22 = .ok (.iload_n 2, 1) := dk_28 (dk_at dksX3_mourn_0 22 rfl rfl)
theorem dX3_mourn_23 : decode cX3_mourn 23 = .ok (.if_icmp .eq 18, 3) := dk_159 0 18 (dk_at dksX3_mourn_1 0 rfl rfl)
theorem dX3_mourn_26 : decode cX3_mourn 26 = .ok (.aload_n 0, 1) := dk_42 (dk_at dksX3_mourn_1 3 rfl rfl)
theorem dX3_mourn_27 : decode cX3_mourn 27 = .ok (.iload_n 1, 1) := dk_27 (dk_at dksX3_mourn_1 4 rfl rfl)
theorem dX3_mourn_28 : decode cX3_mourn 28 = .ok (.iload_n 2, 1) := dk_28 (dk_at dksX3_mourn_1 5 rfl rfl)
theorem dX3_mourn_29 : decode cX3_mourn 29 = .ok (.iload_n 3, 1) := dk_29 (dk_at dksX3_mourn_1 6 rfl rfl)
theorem dX3_mourn_30 : decode cX3_mourn 30 = .ok (.iconst 1, 1) := dk_4 (dk_at dksX3_mourn_1 7 rfl rfl)
theorem dX3_mourn_31 : decode cX3_mourn 31 = .ok (.invokevirtual 412, 3) := dk_182 1 156 (dk_at dksX3_mourn_1 8 rfl rfl)
theorem dX3_mourn_34 : decode cX3_mourn 34 = .ok (.ifCond .eq 7, 3) := dk_153 0 7 (dk_at dksX3_mourn_1 11 rfl rfl)
theorem dX3_mourn_37 : decode cX3_mourn 37 = .ok (.iconst 1, 1) := dk_4 (dk_at dksX3_mourn_1 14 rfl rfl)
theorem dX3_mourn_38 : decode cX3_mourn 38 = .ok (.goto 4, 3) := dk_167 0 4 (dk_at dksX3_mourn_1 15 rfl rfl)
theorem dX3_mourn_41 : decode cX3_mourn 41 = .ok (.iconst 0, 1) := dk_3 (dk_at dksX3_mourn_1 18 rfl rfl)
theorem dX3_mourn_42 : decode cX3_mourn 42 = .ok (.ireturn, 1) := dk_172 (dk_at dksX3_mourn_1 19 rfl rfl)
abbrev cX3_ask : ByteArray := prog_22_method_73_code
def yX3_ask : MethodName := ⟨RX3, "ask", "(I)Z"⟩
def dkwX3_ask_1 : List UInt8 := [172, 42, 180, 0, 106, 27, 42, 180, 0, 185, 79, 4, 172]
abbrev dktX3_ask_1 : List UInt8 := dkwX3_ask_1 ++ []
def dkwX3_ask_0 : List UInt8 := [42, 3, 181, 0, 181, 42, 27, 182, 1, 153, 153, 0, 13, 42, 180, 0, 106, 27, 46, 2, 159, 0, 5, 3]
abbrev dktX3_ask_0 : List UInt8 := dkwX3_ask_0 ++ dktX3_ask_1
theorem dksX3_ask_0 : cX3_ask.data.toList.drop 0 = dktX3_ask_0 := by decide +kernel
theorem dksX3_ask_1 : cX3_ask.data.toList.drop 24 = dktX3_ask_1 := dk_seg dksX3_ask_0 24 rfl rfl
theorem dX3_ask_0 : decode cX3_ask 0 = .ok (.aload_n 0, 1) := dk_42 (dk_at dksX3_ask_0 0 rfl rfl)
theorem dX3_ask_1 : decode cX3_ask 1 = .ok (.iconst 0, 1) := dk_3 (dk_at dksX3_ask_0 1 rfl rfl)
theorem dX3_ask_2 : decode cX3_ask 2 = .ok (.putfield 181, 3) := dk_181 0 181 (dk_at dksX3_ask_0 2 rfl rfl)
theorem dX3_ask_5 : decode cX3_ask 5 = .ok (.aload_n 0, 1) := dk_42 (dk_at dksX3_ask_0 5 rfl rfl)
theorem dX3_ask_6 : decode cX3_ask 6 = .ok (.iload_n 1, 1) := dk_27 (dk_at dksX3_ask_0 6 rfl rfl)
theorem dX3_ask_7 : decode cX3_ask 7 = .ok (.invokevirtual 409, 3) := dk_182 1 153 (dk_at dksX3_ask_0 7 rfl rfl)
theorem dX3_ask_10 : decode cX3_ask 10 = .ok (.ifCond .eq 13, 3) := dk_153 0 13 (dk_at dksX3_ask_0 10 rfl rfl)
theorem dX3_ask_13 : decode cX3_ask 13 = .ok (.aload_n 0, 1) := dk_42 (dk_at dksX3_ask_0 13 rfl rfl)
theorem dX3_ask_14 : decode cX3_ask 14 = .ok (.getfield 106, 3) := dk_180 0 106 (dk_at dksX3_ask_0 14 rfl rfl)
theorem dX3_ask_17 : decode cX3_ask 17 = .ok (.iload_n 1, 1) := dk_27 (dk_at dksX3_ask_0 17 rfl rfl)
theorem dX3_ask_18 : decode cX3_ask 18 = .ok (.iaload, 1) := dk_46 (dk_at dksX3_ask_0 18 rfl rfl)
theorem dX3_ask_19 : decode cX3_ask 19 = .ok (.iconst (-1), 1) := dk_2 (dk_at dksX3_ask_0 19 rfl rfl)
theorem dX3_ask_20 : decode cX3_ask 20 = .ok (.if_icmp .eq 5, 3) := dk_159 0 5 (dk_at dksX3_ask_0 20 rfl rfl)
theorem dX3_ask_23 : decode cX3_ask 23 = .ok (.iconst 0, 1) := dk_3 (dk_at dksX3_ask_0 23 rfl rfl)
theorem dX3_ask_24 : decode cX3_ask 24 = .ok (.ireturn, 1) := dk_172 (dk_at dksX3_ask_1 0 rfl rfl)
theorem dX3_ask_25 : decode cX3_ask 25 = .ok (.aload_n 0, 1) := dk_42 (dk_at dksX3_ask_1 1 rfl rfl)
theorem dX3_ask_26 : decode cX3_ask 26 = .ok (.getfield 106, 3) := dk_180 0 106 (dk_at dksX3_ask_1 2 rfl rfl)
theorem dX3_ask_29 : decode cX3_ask 29 = .ok (.iload_n 1, 1) := dk_27 (dk_at dksX3_ask_1 5 rfl rfl)
theorem dX3_ask_30 : decode cX3_ask 30 = .ok (.aload_n 0, 1) := dk_42 (dk_at dksX3_ask_1 6 rfl rfl)
theorem dX3_ask_31 : decode cX3_ask 31 = .ok (.getfield 185, 3) := dk_180 0 185 (dk_at dksX3_ask_1 7 rfl rfl)
theorem dX3_ask_34 : decode cX3_ask 34 = .ok (.iastore, 1) := dk_79 (dk_at dksX3_ask_1 10 rfl rfl)
theorem dX3_ask_35 : decode cX3_ask 35 = .ok (.iconst 1, 1) := dk_4 (dk_at dksX3_ask_1 11 rfl rfl)
theorem dX3_ask_36 : decode cX3_ask 36 = .ok (.ireturn, 1) := dk_172 (dk_at dksX3_ask_1 12 rfl rfl)
abbrev cX3_may : ByteArray := prog_22_method_74_code
def yX3_may : MethodName := ⟨RX3, "may", "(III)I"⟩
def dkwX3_may_2 : List UInt8 := [182, 1, 163, 153, 0, 7, 4, 167, 0, 4, 3, 172]
abbrev dktX3_may_2 : List UInt8 := dkwX3_may_2 ++ []
def dkwX3_may_1 : List UInt8 := [184, 1, 160, 153, 0, 11, 42, 29, 182, 1, 51, 154, 0, 7, 2, 167, 0, 18, 42, 27, 28, 29]
abbrev dktX3_may_1 : List UInt8 := dkwX3_may_1 ++ dktX3_may_2
def dkwX3_may_0 : List UInt8 := [42, 3, 181, 0, 181, 42, 27, 182, 1, 153, 153, 0, 27, 42, 180, 0, 118, 27, 51, 153, 0, 18, 28]
abbrev dktX3_may_0 : List UInt8 := dkwX3_may_0 ++ dktX3_may_1
theorem dksX3_may_0 : cX3_may.data.toList.drop 0 = dktX3_may_0 := by decide +kernel
theorem dksX3_may_1 : cX3_may.data.toList.drop 23 = dktX3_may_1 := dk_seg dksX3_may_0 23 rfl rfl
theorem dksX3_may_2 : cX3_may.data.toList.drop 45 = dktX3_may_2 := dk_seg dksX3_may_1 22 rfl rfl
theorem dX3_may_0 : decode cX3_may 0 = .ok (.aload_n 0, 1) := dk_42 (dk_at dksX3_may_0 0 rfl rfl)
theorem dX3_may_1 : decode cX3_may 1 = .ok (.iconst 0, 1) := dk_3 (dk_at dksX3_may_0 1 rfl rfl)
theorem dX3_may_2 : decode cX3_may 2 = .ok (.putfield 181, 3) := dk_181 0 181 (dk_at dksX3_may_0 2 rfl rfl)
theorem dX3_may_5 : decode cX3_may 5 = .ok (.aload_n 0, 1) := dk_42 (dk_at dksX3_may_0 5 rfl rfl)
theorem dX3_may_6 : decode cX3_may 6 = .ok (.iload_n 1, 1) := dk_27 (dk_at dksX3_may_0 6 rfl rfl)
theorem dX3_may_7 : decode cX3_may 7 = .ok (.invokevirtual 409, 3) := dk_182 1 153 (dk_at dksX3_may_0 7 rfl rfl)
theorem dX3_may_10 : decode cX3_may 10 = .ok (.ifCond .eq 27, 3) := dk_153 0 27 (dk_at dksX3_may_0 10 rfl rfl)
theorem dX3_may_13 : decode cX3_may 13 = .ok (.aload_n 0, 1) := dk_42 (dk_at dksX3_may_0 13 rfl rfl)
theorem dX3_may_14 : decode cX3_may 14 = .ok (.getfield 118, 3) := dk_180 0 118 (dk_at dksX3_may_0 14 rfl rfl)
theorem dX3_may_17 : decode cX3_may 17 = .ok (.iload_n 1, 1) := dk_27 (dk_at dksX3_may_0 17 rfl rfl)
theorem dX3_may_18 : decode cX3_may 18 = .ok (.baload, 1) := dk_51 (dk_at dksX3_may_0 18 rfl rfl)
theorem dX3_may_19 : decode cX3_may 19 = .ok (.ifCond .eq 18, 3) := dk_153 0 18 (dk_at dksX3_may_0 19 rfl rfl)
theorem dX3_may_22 : decode cX3_may 22 = .ok (.iload_n 2, 1) := dk_28 (dk_at dksX3_may_0 22 rfl rfl)
theorem dX3_may_23 : decode cX3_may 23 = .ok (.invokestatic 416, 3) := dk_184 1 160 (dk_at dksX3_may_1 0 rfl rfl)
theorem dX3_may_26 : decode cX3_may 26 = .ok (.ifCond .eq 11, 3) := dk_153 0 11 (dk_at dksX3_may_1 3 rfl rfl)
theorem dX3_may_29 : decode cX3_may 29 = .ok (.aload_n 0, 1) := dk_42 (dk_at dksX3_may_1 6 rfl rfl)
theorem dX3_may_30 : decode cX3_may 30 = .ok (.iload_n 3, 1) := dk_29 (dk_at dksX3_may_1 7 rfl rfl)
theorem dX3_may_31 : decode cX3_may 31 = .ok (.invokevirtual 307, 3) := dk_182 1 51 (dk_at dksX3_may_1 8 rfl rfl)
theorem dX3_may_34 : decode cX3_may 34 = .ok (.ifCond .ne 7, 3) := dk_154 0 7 (dk_at dksX3_may_1 11 rfl rfl)
theorem dX3_may_37 : decode cX3_may 37 = .ok (.iconst (-1), 1) := dk_2 (dk_at dksX3_may_1 14 rfl rfl)
theorem dX3_may_38 : decode cX3_may 38 = .ok (.goto 18, 3) := dk_167 0 18 (dk_at dksX3_may_1 15 rfl rfl)
theorem dX3_may_41 : decode cX3_may 41 = .ok (.aload_n 0, 1) := dk_42 (dk_at dksX3_may_1 18 rfl rfl)
theorem dX3_may_42 : decode cX3_may 42 = .ok (.iload_n 1, 1) := dk_27 (dk_at dksX3_may_1 19 rfl rfl)
theorem dX3_may_43 : decode cX3_may 43 = .ok (.iload_n 2, 1) := dk_28 (dk_at dksX3_may_1 20 rfl rfl)
theorem dX3_may_44 : decode cX3_may 44 = .ok (.iload_n 3, 1) := dk_29 (dk_at dksX3_may_1 21 rfl rfl)
theorem dX3_may_45 : decode cX3_may 45 = .ok (.invokevirtual 419, 3) := dk_182 1 163 (dk_at dksX3_may_2 0 rfl rfl)
theorem dX3_may_48 : decode cX3_may 48 = .ok (.ifCond .eq 7, 3) := dk_153 0 7 (dk_at dksX3_may_2 3 rfl rfl)
theorem dX3_may_51 : decode cX3_may 51 = .ok (.iconst 1, 1) := dk_4 (dk_at dksX3_may_2 6 rfl rfl)
theorem dX3_may_52 : decode cX3_may 52 = .ok (.goto 4, 3) := dk_167 0 4 (dk_at dksX3_may_2 7 rfl rfl)
theorem dX3_may_55 : decode cX3_may 55 = .ok (.iconst 0, 1) := dk_3 (dk_at dksX3_may_2 10 rfl rfl)
theorem dX3_may_56 : decode cX3_may 56 = .ok (.ireturn, 1) := dk_172 (dk_at dksX3_may_2 11 rfl rfl)
abbrev cX3_isDay : ByteArray := prog_22_method_5_code
def yX3_isDay : MethodName := ⟨RX3, "isDay", "(I)Z"⟩
def dkwX3_isDay_0 : List UInt8 := [26, 3, 17, 7, 208, 184, 0, 188, 172]
abbrev dktX3_isDay_0 : List UInt8 := dkwX3_isDay_0 ++ []
theorem dksX3_isDay_0 : cX3_isDay.data.toList.drop 0 = dktX3_isDay_0 := by decide +kernel
theorem dX3_isDay_0 : decode cX3_isDay 0 = .ok (.iload_n 0, 1) := dk_26 (dk_at dksX3_isDay_0 0 rfl rfl)
theorem dX3_isDay_1 : decode cX3_isDay 1 = .ok (.iconst 0, 1) := dk_3 (dk_at dksX3_isDay_0 1 rfl rfl)
theorem dX3_isDay_2 : decode cX3_isDay 2 = .ok (.sipush 2000, 3) := dk_17 7 208 (dk_at dksX3_isDay_0 2 rfl rfl)
theorem dX3_isDay_5 : decode cX3_isDay 5 = .ok (.invokestatic 188, 3) := dk_184 0 188 (dk_at dksX3_isDay_0 5 rfl rfl)
theorem dX3_isDay_8 : decode cX3_isDay 8 = .ok (.ireturn, 1) := dk_172 (dk_at dksX3_isDay_0 8 rfl rfl)
abbrev cX3_holdsFor : ByteArray := prog_22_method_63_code
def yX3_holdsFor : MethodName := ⟨RX3, "holdsFo\x72", "(III)Z"⟩
def dkwX3_holdsFor_2 : List UInt8 := [180, 0, 106, 27, 46, 167, 0, 4, 2, 181, 1, 113, 42, 42, 180, 0, 103, 27, 46, 182, 1, 135, 172]
abbrev dktX3_holdsFor_2 : List UInt8 := dkwX3_holdsFor_2 ++ []
def dkwX3_holdsFor_1 : List UInt8 := [159, 0, 32, 42, 180, 0, 106, 27, 46, 28, 163, 0, 22, 42, 180, 0, 106, 27, 46, 29, 163, 0, 12, 42]
abbrev dktX3_holdsFor_1 : List UInt8 := dkwX3_holdsFor_1 ++ dktX3_holdsFor_2
def dkwX3_holdsFor_0 : List UInt8 := [42, 28, 29, 182, 1, 138, 42, 3, 181, 1, 104, 42, 27, 181, 1, 122, 42, 42, 180, 0, 106, 27, 46, 2]
abbrev dktX3_holdsFor_0 : List UInt8 := dkwX3_holdsFor_0 ++ dktX3_holdsFor_1
theorem dksX3_holdsFor_0 : cX3_holdsFor.data.toList.drop 0 = dktX3_holdsFor_0 := by decide +kernel
theorem dksX3_holdsFor_1 : cX3_holdsFor.data.toList.drop 24 = dktX3_holdsFor_1 := dk_seg dksX3_holdsFor_0 24 rfl rfl
theorem dksX3_holdsFor_2 : cX3_holdsFor.data.toList.drop 48 = dktX3_holdsFor_2 := dk_seg dksX3_holdsFor_1 24 rfl rfl
theorem dX3_holdsFor_0 : decode cX3_holdsFor 0 = .ok (.aload_n 0, 1) := dk_42 (dk_at dksX3_holdsFor_0 0 rfl rfl)
theorem dX3_holdsFor_1 : decode cX3_holdsFor 1 = .ok (.iload_n 2, 1) := dk_28 (dk_at dksX3_holdsFor_0 1 rfl rfl)
theorem dX3_holdsFor_2 : decode cX3_holdsFor 2 = .ok (.iload_n 3, 1) := dk_29 (dk_at dksX3_holdsFor_0 2 rfl rfl)
theorem dX3_holdsFor_3 : decode cX3_holdsFor 3 = .ok (.invokevirtual 394, 3) := dk_182 1 138 (dk_at dksX3_holdsFor_0 3 rfl rfl)
theorem dX3_holdsFor_6 : decode cX3_holdsFor 6 = .ok (.aload_n 0, 1) := dk_42 (dk_at dksX3_holdsFor_0 6 rfl rfl)
theorem dX3_holdsFor_7 : decode cX3_holdsFor 7 = .ok (.iconst 0, 1) := dk_3 (dk_at dksX3_holdsFor_0 7 rfl rfl)
theorem dX3_holdsFor_8 : decode cX3_holdsFor 8 = .ok (.putfield 360, 3) := dk_181 1 104 (dk_at dksX3_holdsFor_0 8 rfl rfl)
theorem dX3_holdsFor_11 : decode cX3_holdsFor 11 = .ok (.aload_n 0, 1) := dk_42 (dk_at dksX3_holdsFor_0 11 rfl rfl)
theorem dX3_holdsFor_12 : decode cX3_holdsFor 12 = .ok (.iload_n 1, 1) := dk_27 (dk_at dksX3_holdsFor_0 12 rfl rfl)
theorem dX3_holdsFor_13 : decode cX3_holdsFor 13 = .ok (.putfield 378, 3) := dk_181 1 122 (dk_at dksX3_holdsFor_0 13 rfl rfl)
theorem dX3_holdsFor_16 : decode cX3_holdsFor 16 = .ok (.aload_n 0, 1) := dk_42 (dk_at dksX3_holdsFor_0 16 rfl rfl)
theorem dX3_holdsFor_17 : decode cX3_holdsFor 17 = .ok (.aload_n 0, 1) := dk_42 (dk_at dksX3_holdsFor_0 17 rfl rfl)
theorem dX3_holdsFor_18 : decode cX3_holdsFor 18 = .ok (.getfield 106, 3) := dk_180 0 106 (dk_at dksX3_holdsFor_0 18 rfl rfl)
theorem dX3_holdsFor_21 : decode cX3_holdsFor 21 = .ok (.iload_n 1, 1) := dk_27 (dk_at dksX3_holdsFor_0 21 rfl rfl)
theorem dX3_holdsFor_22 : decode cX3_holdsFor 22 = .ok (.iaload, 1) := dk_46 (dk_at dksX3_holdsFor_0 22 rfl rfl)
theorem dX3_holdsFor_23 : decode cX3_holdsFor 23 = .ok (.iconst (-1), 1) := dk_2 (dk_at dksX3_holdsFor_0 23 rfl rfl)
theorem dX3_holdsFor_24 : decode cX3_holdsFor 24 = .ok (.if_icmp .eq 32, 3) := dk_159 0 32 (dk_at dksX3_holdsFor_1 0 rfl rfl)
theorem dX3_holdsFor_27 : decode cX3_holdsFor 27 = .ok (.aload_n 0, 1) := dk_42 (dk_at dksX3_holdsFor_1 3 rfl rfl)
theorem dX3_holdsFor_28 : decode cX3_holdsFor 28 = .ok (.getfield 106, 3) := dk_180 0 106 (dk_at dksX3_holdsFor_1 4 rfl rfl)
theorem dX3_holdsFor_31 : decode cX3_holdsFor 31 = .ok (.iload_n 1, 1) := dk_27 (dk_at dksX3_holdsFor_1 7 rfl rfl)
theorem dX3_holdsFor_32 : decode cX3_holdsFor 32 = .ok (.iaload, 1) := dk_46 (dk_at dksX3_holdsFor_1 8 rfl rfl)
theorem dX3_holdsFor_33 : decode cX3_holdsFor 33 = .ok (.iload_n 2, 1) := dk_28 (dk_at dksX3_holdsFor_1 9 rfl rfl)
theorem dX3_holdsFor_34 : decode cX3_holdsFor 34 = .ok (.if_icmp .gt 22, 3) := dk_163 0 22 (dk_at dksX3_holdsFor_1 10 rfl rfl)
theorem dX3_holdsFor_37 : decode cX3_holdsFor 37 = .ok (.aload_n 0, 1) := dk_42 (dk_at dksX3_holdsFor_1 13 rfl rfl)
theorem dX3_holdsFor_38 : decode cX3_holdsFor 38 = .ok (.getfield 106, 3) := dk_180 0 106 (dk_at dksX3_holdsFor_1 14 rfl rfl)
theorem dX3_holdsFor_41 : decode cX3_holdsFor 41 = .ok (.iload_n 1, 1) := dk_27 (dk_at dksX3_holdsFor_1 17 rfl rfl)
theorem dX3_holdsFor_42 : decode cX3_holdsFor 42 = .ok (.iaload, 1) := dk_46 (dk_at dksX3_holdsFor_1 18 rfl rfl)
theorem dX3_holdsFor_43 : decode cX3_holdsFor 43 = .ok (.iload_n 3, 1) := dk_29 (dk_at dksX3_holdsFor_1 19 rfl rfl)
theorem dX3_holdsFor_44 : decode cX3_holdsFor 44 = .ok (.if_icmp .gt 12, 3) := dk_163 0 12 (dk_at dksX3_holdsFor_1 20 rfl rfl)
theorem dX3_holdsFor_47 : decode cX3_holdsFor 47 = .ok (.aload_n 0, 1) := dk_42 (dk_at dksX3_holdsFor_1 23 rfl rfl)
theorem dX3_holdsFor_48 : decode cX3_holdsFor 48 = .ok (.getfield 106, 3) := dk_180 0 106 (dk_at dksX3_holdsFor_2 0 rfl rfl)
theorem dX3_holdsFor_51 : decode cX3_holdsFor 51 = .ok (.iload_n 1, 1) := dk_27 (dk_at dksX3_holdsFor_2 3 rfl rfl)
theorem dX3_holdsFor_52 : decode cX3_holdsFor 52 = .ok (.iaload, 1) := dk_46 (dk_at dksX3_holdsFor_2 4 rfl rfl)
theorem dX3_holdsFor_53 : decode cX3_holdsFor 53 = .ok (.goto 4, 3) := dk_167 0 4 (dk_at dksX3_holdsFor_2 5 rfl rfl)
theorem dX3_holdsFor_56 : decode cX3_holdsFor 56 = .ok (.iconst (-1), 1) := dk_2 (dk_at dksX3_holdsFor_2 8 rfl rfl)
theorem dX3_holdsFor_57 : decode cX3_holdsFor 57 = .ok (.putfield 369, 3) := dk_181 1 113 (dk_at dksX3_holdsFor_2 9 rfl rfl)
theorem dX3_holdsFor_60 : decode cX3_holdsFor 60 = .ok (.aload_n 0, 1) := dk_42 (dk_at dksX3_holdsFor_2 12 rfl rfl)
theorem dX3_holdsFor_61 : decode cX3_holdsFor 61 = .ok (.aload_n 0, 1) := dk_42 (dk_at dksX3_holdsFor_2 13 rfl rfl)
theorem dX3_holdsFor_62 : decode cX3_holdsFor 62 = .ok (.getfield 103, 3) := dk_180 0 103 (dk_at dksX3_holdsFor_2 14 rfl rfl)
theorem dX3_holdsFor_65 : decode cX3_holdsFor 65 = .ok (.iload_n 1, 1) := dk_27 (dk_at dksX3_holdsFor_2 17 rfl rfl)
theorem dX3_holdsFor_66 : decode cX3_holdsFor 66 = .ok (.iaload, 1) := dk_46 (dk_at dksX3_holdsFor_2 18 rfl rfl)
theorem dX3_holdsFor_67 : decode cX3_holdsFor 67 = .ok (.invokevirtual 391, 3) := dk_182 1 135 (dk_at dksX3_holdsFor_2 19 rfl rfl)
theorem dX3_holdsFor_70 : decode cX3_holdsFor 70 = .ok (.ireturn, 1) := dk_172 (dk_at dksX3_holdsFor_2 22 rfl rfl)
abbrev cX3_findDead : ByteArray := prog_22_method_62_code
def yX3_findDead : MethodName := ⟨RX3, "findDead", "(II)V"⟩
def dkwX3_findDead_8 : List UInt8 := [153, 0, 7, 4, 167, 0, 4, 3, 84, 132, 3, 1, 167, 255, 76, 177]
abbrev dktX3_findDead_8 : List UInt8 := dkwX3_findDead_8 ++ []
def dkwX3_findDead_7 : List UInt8 := [132, 5, 255, 167, 255, 184, 42, 180, 0, 133, 29, 21, 4, 2, 159, 0, 16, 42, 21, 4, 182, 1, 135]
abbrev dktX3_findDead_7 : List UInt8 := dkwX3_findDead_7 ++ dktX3_findDead_8
def dkwX3_findDead_6 : List UInt8 := [42, 180, 0, 115, 21, 5, 46, 28, 163, 0, 14, 42, 42, 180, 0, 115, 21, 5, 46, 181, 1, 113]
abbrev dktX3_findDead_6 : List UInt8 := dkwX3_findDead_6 ++ dktX3_findDead_7
def dkwX3_findDead_5 : List UInt8 := [160, 0, 46, 42, 180, 0, 124, 21, 5, 51, 153, 0, 36, 42, 180, 0, 115, 21, 5, 46, 27, 163, 0, 25]
abbrev dktX3_findDead_5 : List UInt8 := dkwX3_findDead_5 ++ dktX3_findDead_6
def dkwX3_findDead_4 : List UInt8 := [21, 5, 155, 0, 73, 42, 180, 0, 127, 21, 5, 51, 153, 0, 57, 42, 180, 0, 112, 21, 5, 46, 29]
abbrev dktX3_findDead_4 : List UInt8 := dkwX3_findDead_4 ++ dktX3_findDead_5
def dkwX3_findDead_3 : List UInt8 := [132, 5, 1, 167, 255, 213, 42, 29, 181, 1, 122, 42, 2, 181, 1, 113, 42, 180, 1, 119, 4, 100, 54, 5]
abbrev dktX3_findDead_3 : List UInt8 := dkwX3_findDead_3 ++ dktX3_findDead_4
def dkwX3_findDead_2 : List UInt8 := [160, 0, 23, 42, 180, 0, 97, 21, 5, 46, 28, 163, 0, 12, 42, 180, 0, 94, 21, 5, 46, 54, 4]
abbrev dktX3_findDead_2 : List UInt8 := dkwX3_findDead_2 ++ dktX3_findDead_3
def dkwX3_findDead_1 : List UInt8 := [54, 4, 3, 54, 5, 21, 5, 42, 180, 1, 132, 162, 0, 40, 42, 180, 0, 91, 21, 5, 46, 29]
abbrev dktX3_findDead_1 : List UInt8 := dkwX3_findDead_1 ++ dktX3_findDead_2
def dkwX3_findDead_0 : List UInt8 := [42, 4, 181, 1, 104, 42, 27, 181, 1, 116, 42, 28, 181, 1, 125, 3, 62, 29, 16, 12, 162, 0, 180, 2]
abbrev dktX3_findDead_0 : List UInt8 := dkwX3_findDead_0 ++ dktX3_findDead_1
theorem dksX3_findDead_0 : cX3_findDead.data.toList.drop 0 = dktX3_findDead_0 := by decide +kernel
theorem dksX3_findDead_1 : cX3_findDead.data.toList.drop 24 = dktX3_findDead_1 := dk_seg dksX3_findDead_0 24 rfl rfl
theorem dksX3_findDead_2 : cX3_findDead.data.toList.drop 46 = dktX3_findDead_2 := dk_seg dksX3_findDead_1 22 rfl rfl
theorem dksX3_findDead_3 : cX3_findDead.data.toList.drop 69 = dktX3_findDead_3 := dk_seg dksX3_findDead_2 23 rfl rfl
theorem dksX3_findDead_4 : cX3_findDead.data.toList.drop 93 = dktX3_findDead_4 := dk_seg dksX3_findDead_3 24 rfl rfl
theorem dksX3_findDead_5 : cX3_findDead.data.toList.drop 116 = dktX3_findDead_5 := dk_seg dksX3_findDead_4 23 rfl rfl
theorem dksX3_findDead_6 : cX3_findDead.data.toList.drop 140 = dktX3_findDead_6 := dk_seg dksX3_findDead_5 24 rfl rfl
theorem dksX3_findDead_7 : cX3_findDead.data.toList.drop 162 = dktX3_findDead_7 := dk_seg dksX3_findDead_6 22 rfl rfl
theorem dksX3_findDead_8 : cX3_findDead.data.toList.drop 185 = dktX3_findDead_8 := dk_seg dksX3_findDead_7 23 rfl rfl
theorem dX3_findDead_0 : decode cX3_findDead 0 = .ok (.aload_n 0, 1) := dk_42 (dk_at dksX3_findDead_0 0 rfl rfl)
theorem dX3_findDead_1 : decode cX3_findDead 1 = .ok (.iconst 1, 1) := dk_4 (dk_at dksX3_findDead_0 1 rfl rfl)
theorem dX3_findDead_2 : decode cX3_findDead 2 = .ok (.putfield 360, 3) := dk_181 1 104 (dk_at dksX3_findDead_0 2 rfl rfl)
theorem dX3_findDead_5 : decode cX3_findDead 5 = .ok (.aload_n 0, 1) := dk_42 (dk_at dksX3_findDead_0 5 rfl rfl)
theorem dX3_findDead_6 : decode cX3_findDead 6 = .ok (.iload_n 1, 1) := dk_27 (dk_at dksX3_findDead_0 6 rfl rfl)
theorem dX3_findDead_7 : decode cX3_findDead 7 = .ok (.putfield 372, 3) := dk_181 1 116 (dk_at dksX3_findDead_0 7 rfl rfl)
theorem dX3_findDead_10 : decode cX3_findDead 10 = .ok (.aload_n 0, 1) := dk_42 (dk_at dksX3_findDead_0 10 rfl rfl)
theorem dX3_findDead_11 : decode cX3_findDead 11 = .ok (.iload_n 2, 1) := dk_28 (dk_at dksX3_findDead_0 11 rfl rfl)
theorem dX3_findDead_12 : decode cX3_findDead 12 = .ok (.putfield 381, 3) := dk_181 1 125 (dk_at dksX3_findDead_0 12 rfl rfl)
theorem dX3_findDead_15 : decode cX3_findDead 15 = .ok (.iconst 0, 1) := dk_3 (dk_at dksX3_findDead_0 15 rfl rfl)
theorem dX3_findDead_16 : decode cX3_findDead 16 = .ok (.istore_n 3, 1) := dk_62 (dk_at dksX3_findDead_0 16 rfl rfl)
theorem dX3_findDead_17 : decode cX3_findDead 17 = .ok (.iload_n 3, 1) := dk_29 (dk_at dksX3_findDead_0 17 rfl rfl)
theorem dX3_findDead_18 : decode cX3_findDead 18 = .ok (.bipush 12, 2) := dk_16 12 (dk_at dksX3_findDead_0 18 rfl rfl)
theorem dX3_findDead_20 : decode cX3_findDead 20 = .ok (.if_icmp .ge 180, 3) := dk_162 0 180 (dk_at dksX3_findDead_0 20 rfl rfl)
theorem dX3_findDead_23 : decode cX3_findDead 23 = .ok (.iconst (-1), 1) := dk_2 (dk_at dksX3_findDead_0 23 rfl rfl)
theorem dX3_findDead_24 : decode cX3_findDead 24 = .ok (.istore 4, 2) := dk_54 4 (dk_at dksX3_findDead_1 0 rfl rfl)
theorem dX3_findDead_26 : decode cX3_findDead 26 = .ok (.iconst 0, 1) := dk_3 (dk_at dksX3_findDead_1 2 rfl rfl)
theorem dX3_findDead_27 : decode cX3_findDead 27 = .ok (.istore 5, 2) := dk_54 5 (dk_at dksX3_findDead_1 3 rfl rfl)
theorem dX3_findDead_29 : decode cX3_findDead 29 = .ok (.iload 5, 2) := dk_21 5 (dk_at dksX3_findDead_1 5 rfl rfl)
theorem dX3_findDead_31 : decode cX3_findDead 31 = .ok (.aload_n 0, 1) := dk_42 (dk_at dksX3_findDead_1 7 rfl rfl)
theorem dX3_findDead_32 : decode cX3_findDead 32 = .ok (.getfield 388, 3) := dk_180 1 132 (dk_at dksX3_findDead_1 8 rfl rfl)
theorem dX3_findDead_35 : decode cX3_findDead 35 = .ok (.if_icmp .ge 40, 3) := dk_162 0 40 (dk_at dksX3_findDead_1 11 rfl rfl)
theorem dX3_findDead_38 : decode cX3_findDead 38 = .ok (.aload_n 0, 1) := dk_42 (dk_at dksX3_findDead_1 14 rfl rfl)
theorem dX3_findDead_39 : decode cX3_findDead 39 = .ok (.getfield 91, 3) := dk_180 0 91 (dk_at dksX3_findDead_1 15 rfl rfl)
theorem dX3_findDead_42 : decode cX3_findDead 42 = .ok (.iload 5, 2) := dk_21 5 (dk_at dksX3_findDead_1 18 rfl rfl)
theorem dX3_findDead_44 : decode cX3_findDead 44 = .ok (.iaload, 1) := dk_46 (dk_at dksX3_findDead_1 20 rfl rfl)
theorem dX3_findDead_45 : decode cX3_findDead 45 = .ok (.iload_n 3, 1) := dk_29 (dk_at dksX3_findDead_1 21 rfl rfl)
theorem dX3_findDead_46 : decode cX3_findDead 46 = .ok (.if_icmp .ne 23, 3) := dk_160 0 23 (dk_at dksX3_findDead_2 0 rfl rfl)
theorem dX3_findDead_49 : decode cX3_findDead 49 = .ok (.aload_n 0, 1) := dk_42 (dk_at dksX3_findDead_2 3 rfl rfl)
theorem dX3_findDead_50 : decode cX3_findDead 50 = .ok (.getfield 97, 3) := dk_180 0 97 (dk_at dksX3_findDead_2 4 rfl rfl)
theorem dX3_findDead_53 : decode cX3_findDead 53 = .ok (.iload 5, 2) := dk_21 5 (dk_at dksX3_findDead_2 7 rfl rfl)
theorem dX3_findDead_55 : decode cX3_findDead 55 = .ok (.iaload, 1) := dk_46 (dk_at dksX3_findDead_2 9 rfl rfl)
theorem dX3_findDead_56 : decode cX3_findDead 56 = .ok (.iload_n 2, 1) := dk_28 (dk_at dksX3_findDead_2 10 rfl rfl)
theorem dX3_findDead_57 : decode cX3_findDead 57 = .ok (.if_icmp .gt 12, 3) := dk_163 0 12 (dk_at dksX3_findDead_2 11 rfl rfl)
theorem dX3_findDead_60 : decode cX3_findDead 60 = .ok (.aload_n 0, 1) := dk_42 (dk_at dksX3_findDead_2 14 rfl rfl)
theorem dX3_findDead_61 : decode cX3_findDead 61 = .ok (.getfield 94, 3) := dk_180 0 94 (dk_at dksX3_findDead_2 15 rfl rfl)
theorem dX3_findDead_64 : decode cX3_findDead 64 = .ok (.iload 5, 2) := dk_21 5 (dk_at dksX3_findDead_2 18 rfl rfl)
theorem dX3_findDead_66 : decode cX3_findDead 66 = .ok (.iaload, 1) := dk_46 (dk_at dksX3_findDead_2 20 rfl rfl)
theorem dX3_findDead_67 : decode cX3_findDead 67 = .ok (.istore 4, 2) := dk_54 4 (dk_at dksX3_findDead_2 21 rfl rfl)
theorem dX3_findDead_69 : decode cX3_findDead 69 = .ok (.iinc 5 1, 3) := dk_132 5 1 (dk_at dksX3_findDead_3 0 rfl rfl)
theorem dX3_findDead_72 : decode cX3_findDead 72 = .ok (.goto (-43), 3) := dk_167 255 213 (dk_at dksX3_findDead_3 3 rfl rfl)
theorem dX3_findDead_75 : decode cX3_findDead 75 = .ok (.aload_n 0, 1) := dk_42 (dk_at dksX3_findDead_3 6 rfl rfl)
theorem dX3_findDead_76 : decode cX3_findDead 76 = .ok (.iload_n 3, 1) := dk_29 (dk_at dksX3_findDead_3 7 rfl rfl)
theorem dX3_findDead_77 : decode cX3_findDead 77 = .ok (.putfield 378, 3) := dk_181 1 122 (dk_at dksX3_findDead_3 8 rfl rfl)
theorem dX3_findDead_80 : decode cX3_findDead 80 = .ok (.aload_n 0, 1) := dk_42 (dk_at dksX3_findDead_3 11 rfl rfl)
theorem dX3_findDead_81 : decode cX3_findDead 81 = .ok (.iconst (-1), 1) := dk_2 (dk_at dksX3_findDead_3 12 rfl rfl)
theorem dX3_findDead_82 : decode cX3_findDead 82 = .ok (.putfield 369, 3) := dk_181 1 113 (dk_at dksX3_findDead_3 13 rfl rfl)
theorem dX3_findDead_85 : decode cX3_findDead 85 = .ok (.aload_n 0, 1) := dk_42 (dk_at dksX3_findDead_3 16 rfl rfl)
theorem dX3_findDead_86 : decode cX3_findDead 86 = .ok (.getfield 375, 3) := dk_180 1 119 (dk_at dksX3_findDead_3 17 rfl rfl)
theorem dX3_findDead_89 : decode cX3_findDead 89 = .ok (.iconst 1, 1) := dk_4 (dk_at dksX3_findDead_3 20 rfl rfl)
theorem dX3_findDead_90 : decode cX3_findDead 90 = .ok (.isub, 1) := dk_100 (dk_at dksX3_findDead_3 21 rfl rfl)
theorem dX3_findDead_91 : decode cX3_findDead 91 = .ok (.istore 5, 2) := dk_54 5 (dk_at dksX3_findDead_3 22 rfl rfl)
theorem dX3_findDead_93 : decode cX3_findDead 93 = .ok (.iload 5, 2) := dk_21 5 (dk_at dksX3_findDead_4 0 rfl rfl)
theorem dX3_findDead_95 : decode cX3_findDead 95 = .ok (.ifCond .lt 73, 3) := dk_155 0 73 (dk_at dksX3_findDead_4 2 rfl rfl)
theorem dX3_findDead_98 : decode cX3_findDead 98 = .ok (.aload_n 0, 1) := dk_42 (dk_at dksX3_findDead_4 5 rfl rfl)
theorem dX3_findDead_99 : decode cX3_findDead 99 = .ok (.getfield 127, 3) := dk_180 0 127 (dk_at dksX3_findDead_4 6 rfl rfl)
theorem dX3_findDead_102 : decode cX3_findDead 102 = .ok (.iload 5, 2) := dk_21 5 (dk_at dksX3_findDead_4 9 rfl rfl)
theorem dX3_findDead_104 : decode cX3_findDead 104 = .ok (.baload, 1) := dk_51 (dk_at dksX3_findDead_4 11 rfl rfl)
theorem dX3_findDead_105 : decode cX3_findDead 105 = .ok (.ifCond .eq 57, 3) := dk_153 0 57 (dk_at dksX3_findDead_4 12 rfl rfl)
theorem dX3_findDead_108 : decode cX3_findDead 108 = .ok (.aload_n 0, 1) := dk_42 (dk_at dksX3_findDead_4 15 rfl rfl)
theorem dX3_findDead_109 : decode cX3_findDead 109 = .ok (.getfield 112, 3) := dk_180 0 112 (dk_at dksX3_findDead_4 16 rfl rfl)
theorem dX3_findDead_112 : decode cX3_findDead 112 = .ok (.iload 5, 2) := dk_21 5 (dk_at dksX3_findDead_4 19 rfl rfl)
theorem dX3_findDead_114 : decode cX3_findDead 114 = .ok (.iaload, 1) := dk_46 (dk_at dksX3_findDead_4 21 rfl rfl)
theorem dX3_findDead_115 : decode cX3_findDead 115 = .ok (.iload_n 3, 1) := dk_29 (dk_at dksX3_findDead_4 22 rfl rfl)
theorem dX3_findDead_116 : decode cX3_findDead 116 = .ok (.if_icmp .ne 46, 3) := dk_160 0 46 (dk_at dksX3_findDead_5 0 rfl rfl)
theorem dX3_findDead_119 : decode cX3_findDead 119 = .ok (.aload_n 0, 1) := dk_42 (dk_at dksX3_findDead_5 3 rfl rfl)
theorem dX3_findDead_120 : decode cX3_findDead 120 = .ok (.getfield 124, 3) := dk_180 0 124 (dk_at dksX3_findDead_5 4 rfl rfl)
theorem dX3_findDead_123 : decode cX3_findDead 123 = .ok (.iload 5, 2) := dk_21 5 (dk_at dksX3_findDead_5 7 rfl rfl)
theorem dX3_findDead_125 : decode cX3_findDead 125 = .ok (.baload, 1) := dk_51 (dk_at dksX3_findDead_5 9 rfl rfl)
theorem dX3_findDead_126 : decode cX3_findDead 126 = .ok (.ifCond .eq 36, 3) := dk_153 0 36 (dk_at dksX3_findDead_5 10 rfl rfl)
theorem dX3_findDead_129 : decode cX3_findDead 129 = .ok (.aload_n 0, 1) := dk_42 (dk_at dksX3_findDead_5 13 rfl rfl)
theorem dX3_findDead_130 : decode cX3_findDead 130 = .ok (.getfield 115, 3) := dk_180 0 115 (dk_at dksX3_findDead_5 14 rfl rfl)
theorem dX3_findDead_133 : decode cX3_findDead 133 = .ok (.iload 5, 2) := dk_21 5 (dk_at dksX3_findDead_5 17 rfl rfl)
theorem dX3_findDead_135 : decode cX3_findDead 135 = .ok (.iaload, 1) := dk_46 (dk_at dksX3_findDead_5 19 rfl rfl)
theorem dX3_findDead_136 : decode cX3_findDead 136 = .ok (.iload_n 1, 1) := dk_27 (dk_at dksX3_findDead_5 20 rfl rfl)
theorem dX3_findDead_137 : decode cX3_findDead 137 = .ok (.if_icmp .gt 25, 3) := dk_163 0 25 (dk_at dksX3_findDead_5 21 rfl rfl)
theorem dX3_findDead_140 : decode cX3_findDead 140 = .ok (.aload_n 0, 1) := dk_42 (dk_at dksX3_findDead_6 0 rfl rfl)
theorem dX3_findDead_141 : decode cX3_findDead 141 = .ok (.getfield 115, 3) := dk_180 0 115 (dk_at dksX3_findDead_6 1 rfl rfl)
theorem dX3_findDead_144 : decode cX3_findDead 144 = .ok (.iload 5, 2) := dk_21 5 (dk_at dksX3_findDead_6 4 rfl rfl)
theorem dX3_findDead_146 : decode cX3_findDead 146 = .ok (.iaload, 1) := dk_46 (dk_at dksX3_findDead_6 6 rfl rfl)
theorem dX3_findDead_147 : decode cX3_findDead 147 = .ok (.iload_n 2, 1) := dk_28 (dk_at dksX3_findDead_6 7 rfl rfl)
theorem dX3_findDead_148 : decode cX3_findDead 148 = .ok (.if_icmp .gt 14, 3) := dk_163 0 14 (dk_at dksX3_findDead_6 8 rfl rfl)
theorem dX3_findDead_151 : decode cX3_findDead 151 = .ok (.aload_n 0, 1) := dk_42 (dk_at dksX3_findDead_6 11 rfl rfl)
theorem dX3_findDead_152 : decode cX3_findDead 152 = .ok (.aload_n 0, 1) := dk_42 (dk_at dksX3_findDead_6 12 rfl rfl)
theorem dX3_findDead_153 : decode cX3_findDead 153 = .ok (.getfield 115, 3) := dk_180 0 115 (dk_at dksX3_findDead_6 13 rfl rfl)
theorem dX3_findDead_156 : decode cX3_findDead 156 = .ok (.iload 5, 2) := dk_21 5 (dk_at dksX3_findDead_6 16 rfl rfl)
theorem dX3_findDead_158 : decode cX3_findDead 158 = .ok (.iaload, 1) := dk_46 (dk_at dksX3_findDead_6 18 rfl rfl)
theorem dX3_findDead_159 : decode cX3_findDead 159 = .ok (.putfield 369, 3) := dk_181 1 113 (dk_at dksX3_findDead_6 19 rfl rfl)
theorem dX3_findDead_162 : decode cX3_findDead 162 = .ok (.iinc 5 (-1), 3) := dk_132 5 255 (dk_at dksX3_findDead_7 0 rfl rfl)
theorem dX3_findDead_165 : decode cX3_findDead 165 = .ok (.goto (-72), 3) := dk_167 255 184 (dk_at dksX3_findDead_7 3 rfl rfl)
theorem dX3_findDead_168 : decode cX3_findDead 168 = .ok (.aload_n 0, 1) := dk_42 (dk_at dksX3_findDead_7 6 rfl rfl)
theorem dX3_findDead_169 : decode cX3_findDead 169 = .ok (.getfield 133, 3) := dk_180 0 133 (dk_at dksX3_findDead_7 7 rfl rfl)
theorem dX3_findDead_172 : decode cX3_findDead 172 = .ok (.iload_n 3, 1) := dk_29 (dk_at dksX3_findDead_7 10 rfl rfl)
theorem dX3_findDead_173 : decode cX3_findDead 173 = .ok (.iload 4, 2) := dk_21 4 (dk_at dksX3_findDead_7 11 rfl rfl)
theorem dX3_findDead_175 : decode cX3_findDead 175 = .ok (.iconst (-1), 1) := dk_2 (dk_at dksX3_findDead_7 13 rfl rfl)
theorem dX3_findDead_176 : decode cX3_findDead 176 = .ok (.if_icmp .eq 16, 3) := dk_159 0 16 (dk_at dksX3_findDead_7 14 rfl rfl)
theorem dX3_findDead_179 : decode cX3_findDead 179 = .ok (.aload_n 0, 1) := dk_42 (dk_at dksX3_findDead_7 17 rfl rfl)
theorem dX3_findDead_180 : decode cX3_findDead 180 = .ok (.iload 4, 2) := dk_21 4 (dk_at dksX3_findDead_7 18 rfl rfl)
theorem dX3_findDead_182 : decode cX3_findDead 182 = .ok (.invokevirtual 391, 3) := dk_182 1 135 (dk_at dksX3_findDead_7 20 rfl rfl)
theorem dX3_findDead_185 : decode cX3_findDead 185 = .ok (.ifCond .eq 7, 3) := dk_153 0 7 (dk_at dksX3_findDead_8 0 rfl rfl)
theorem dX3_findDead_188 : decode cX3_findDead 188 = .ok (.iconst 1, 1) := dk_4 (dk_at dksX3_findDead_8 3 rfl rfl)
theorem dX3_findDead_189 : decode cX3_findDead 189 = .ok (.goto 4, 3) := dk_167 0 4 (dk_at dksX3_findDead_8 4 rfl rfl)
theorem dX3_findDead_192 : decode cX3_findDead 192 = .ok (.iconst 0, 1) := dk_3 (dk_at dksX3_findDead_8 7 rfl rfl)
theorem dX3_findDead_193 : decode cX3_findDead 193 = .ok (.bastore, 1) := dk_84 (dk_at dksX3_findDead_8 8 rfl rfl)
theorem dX3_findDead_194 : decode cX3_findDead 194 = .ok (.iinc 3 1, 3) := dk_132 3 1 (dk_at dksX3_findDead_8 9 rfl rfl)
theorem dX3_findDead_197 : decode cX3_findDead 197 = .ok (.goto (-180), 3) := dk_167 255 76 (dk_at dksX3_findDead_8 12 rfl rfl)
theorem dX3_findDead_200 : decode cX3_findDead 200 = .ok (.return_, 1) := dk_177 (dk_at dksX3_findDead_8 15 rfl rfl)
abbrev cX3_holds : ByteArray := prog_22_method_61_code
def yX3_holds : MethodName := ⟨RX3, "holds", "(I)Z"⟩
def dkwX3_holds_0 : List UInt8 := [42, 42, 180, 0, 85, 17, 0, 160, 27, 104, 42, 180, 0, 88, 27, 46, 182, 1, 128, 172]
abbrev dktX3_holds_0 : List UInt8 := dkwX3_holds_0 ++ []
theorem dksX3_holds_0 : cX3_holds.data.toList.drop 0 = dktX3_holds_0 := by decide +kernel
theorem dX3_holds_0 : decode cX3_holds 0 = .ok (.aload_n 0, 1) := dk_42 (dk_at dksX3_holds_0 0 rfl rfl)
theorem dX3_holds_1 : decode cX3_holds 1 = .ok (.aload_n 0, 1) := dk_42 (dk_at dksX3_holds_0 1 rfl rfl)
theorem dX3_holds_2 : decode cX3_holds 2 = .ok (.getfield 85, 3) := dk_180 0 85 (dk_at dksX3_holds_0 2 rfl rfl)
theorem dX3_holds_5 : decode cX3_holds 5 = .ok (.sipush 160, 3) := dk_17 0 160 (dk_at dksX3_holds_0 5 rfl rfl)
theorem dX3_holds_8 : decode cX3_holds 8 = .ok (.iload_n 1, 1) := dk_27 (dk_at dksX3_holds_0 8 rfl rfl)
theorem dX3_holds_9 : decode cX3_holds 9 = .ok (.imul, 1) := dk_104 (dk_at dksX3_holds_0 9 rfl rfl)
theorem dX3_holds_10 : decode cX3_holds 10 = .ok (.aload_n 0, 1) := dk_42 (dk_at dksX3_holds_0 10 rfl rfl)
theorem dX3_holds_11 : decode cX3_holds 11 = .ok (.getfield 88, 3) := dk_180 0 88 (dk_at dksX3_holds_0 11 rfl rfl)
theorem dX3_holds_14 : decode cX3_holds 14 = .ok (.iload_n 1, 1) := dk_27 (dk_at dksX3_holds_0 14 rfl rfl)
theorem dX3_holds_15 : decode cX3_holds 15 = .ok (.iaload, 1) := dk_46 (dk_at dksX3_holds_0 15 rfl rfl)
theorem dX3_holds_16 : decode cX3_holds 16 = .ok (.invokevirtual 384, 3) := dk_182 1 128 (dk_at dksX3_holds_0 16 rfl rfl)
theorem dX3_holds_19 : decode cX3_holds 19 = .ok (.ireturn, 1) := dk_172 (dk_at dksX3_holds_0 19 rfl rfl)
abbrev cX3_dead : ByteArray := prog_22_method_75_code
def yX3_dead : MethodName := ⟨RX3, "dead", "(III)I"⟩
def dkwX3_dead_2 : List UInt8 := [167, 0, 4, 3, 172]
abbrev dktX3_dead_2 : List UInt8 := dkwX3_dead_2 ++ []
def dkwX3_dead_1 : List UInt8 := [182, 1, 51, 154, 0, 5, 2, 172, 42, 28, 29, 182, 1, 138, 42, 180, 0, 133, 27, 51, 153, 0, 7, 4]
abbrev dktX3_dead_1 : List UInt8 := dkwX3_dead_1 ++ dktX3_dead_2
def dkwX3_dead_0 : List UInt8 := [42, 3, 181, 0, 181, 42, 27, 182, 0, 226, 153, 0, 18, 28, 184, 1, 160, 153, 0, 11, 42, 29]
abbrev dktX3_dead_0 : List UInt8 := dkwX3_dead_0 ++ dktX3_dead_1
theorem dksX3_dead_0 : cX3_dead.data.toList.drop 0 = dktX3_dead_0 := by decide +kernel
theorem dksX3_dead_1 : cX3_dead.data.toList.drop 22 = dktX3_dead_1 := dk_seg dksX3_dead_0 22 rfl rfl
theorem dksX3_dead_2 : cX3_dead.data.toList.drop 46 = dktX3_dead_2 := dk_seg dksX3_dead_1 24 rfl rfl
theorem dX3_dead_0 : decode cX3_dead 0 = .ok (.aload_n 0, 1) := dk_42 (dk_at dksX3_dead_0 0 rfl rfl)
theorem dX3_dead_1 : decode cX3_dead 1 = .ok (.iconst 0, 1) := dk_3 (dk_at dksX3_dead_0 1 rfl rfl)
theorem dX3_dead_2 : decode cX3_dead 2 = .ok (.putfield 181, 3) := dk_181 0 181 (dk_at dksX3_dead_0 2 rfl rfl)
theorem dX3_dead_5 : decode cX3_dead 5 = .ok (.aload_n 0, 1) := dk_42 (dk_at dksX3_dead_0 5 rfl rfl)
theorem dX3_dead_6 : decode cX3_dead 6 = .ok (.iload_n 1, 1) := dk_27 (dk_at dksX3_dead_0 6 rfl rfl)
theorem dX3_dead_7 : decode cX3_dead 7 = .ok (.invokevirtual 226, 3) := dk_182 0 226 (dk_at dksX3_dead_0 7 rfl rfl)
theorem dX3_dead_10 : decode cX3_dead 10 = .ok (.ifCond .eq 18, 3) := dk_153 0 18 (dk_at dksX3_dead_0 10 rfl rfl)
theorem dX3_dead_13 : decode cX3_dead 13 = .ok (.iload_n 2, 1) := dk_28 (dk_at dksX3_dead_0 13 rfl rfl)
theorem dX3_dead_14 : decode cX3_dead 14 = .ok (.invokestatic 416, 3) := dk_184 1 160 (dk_at dksX3_dead_0 14 rfl rfl)
theorem dX3_dead_17 : decode cX3_dead 17 = .ok (.ifCond .eq 11, 3) := dk_153 0 11 (dk_at dksX3_dead_0 17 rfl rfl)
theorem dX3_dead_20 : decode cX3_dead 20 = .ok (.aload_n 0, 1) := dk_42 (dk_at dksX3_dead_0 20 rfl rfl)
theorem dX3_dead_21 : decode cX3_dead 21 = .ok (.iload_n 3, 1) := dk_29 (dk_at dksX3_dead_0 21 rfl rfl)
theorem dX3_dead_22 : decode cX3_dead 22 = .ok (.invokevirtual 307, 3) := dk_182 1 51 (dk_at dksX3_dead_1 0 rfl rfl)
theorem dX3_dead_25 : decode cX3_dead 25 = .ok (.ifCond .ne 5, 3) := dk_154 0 5 (dk_at dksX3_dead_1 3 rfl rfl)
theorem dX3_dead_28 : decode cX3_dead 28 = .ok (.iconst (-1), 1) := dk_2 (dk_at dksX3_dead_1 6 rfl rfl)
theorem dX3_dead_29 : decode cX3_dead 29 = .ok (.ireturn, 1) := dk_172 (dk_at dksX3_dead_1 7 rfl rfl)
theorem dX3_dead_30 : decode cX3_dead 30 = .ok (.aload_n 0, 1) := dk_42 (dk_at dksX3_dead_1 8 rfl rfl)
theorem dX3_dead_31 : decode cX3_dead 31 = .ok (.iload_n 2, 1) := dk_28 (dk_at dksX3_dead_1 9 rfl rfl)
theorem dX3_dead_32 : decode cX3_dead 32 = .ok (.iload_n 3, 1) := dk_29 (dk_at dksX3_dead_1 10 rfl rfl)
theorem dX3_dead_33 : decode cX3_dead 33 = .ok (.invokevirtual 394, 3) := dk_182 1 138 (dk_at dksX3_dead_1 11 rfl rfl)
theorem dX3_dead_36 : decode cX3_dead 36 = .ok (.aload_n 0, 1) := dk_42 (dk_at dksX3_dead_1 14 rfl rfl)
theorem dX3_dead_37 : decode cX3_dead 37 = .ok (.getfield 133, 3) := dk_180 0 133 (dk_at dksX3_dead_1 15 rfl rfl)
theorem dX3_dead_40 : decode cX3_dead 40 = .ok (.iload_n 1, 1) := dk_27 (dk_at dksX3_dead_1 18 rfl rfl)
theorem dX3_dead_41 : decode cX3_dead 41 = .ok (.baload, 1) := dk_51 (dk_at dksX3_dead_1 19 rfl rfl)
theorem dX3_dead_42 : decode cX3_dead 42 = .ok (.ifCond .eq 7, 3) := dk_153 0 7 (dk_at dksX3_dead_1 20 rfl rfl)
theorem dX3_dead_45 : decode cX3_dead 45 = .ok (.iconst 1, 1) := dk_4 (dk_at dksX3_dead_1 23 rfl rfl)
theorem dX3_dead_46 : decode cX3_dead 46 = .ok (.goto 4, 3) := dk_167 0 4 (dk_at dksX3_dead_2 0 rfl rfl)
theorem dX3_dead_49 : decode cX3_dead 49 = .ok (.iconst 0, 1) := dk_3 (dk_at dksX3_dead_2 3 rfl rfl)
theorem dX3_dead_50 : decode cX3_dead 50 = .ok (.ireturn, 1) := dk_172 (dk_at dksX3_dead_2 4 rfl rfl)
abbrev cX3_unseal : ByteArray := prog_22_method_76_code
def yX3_unseal : MethodName := ⟨RX3, "unseal", "(I)I"⟩
def dkwX3_unseal_2 : List UInt8 := [180, 0, 185, 182, 1, 163, 84, 42, 180, 0, 121, 27, 51, 153, 0, 7, 4, 167, 0, 4, 3, 172]
abbrev dktX3_unseal_2 : List UInt8 := dkwX3_unseal_2 ++ []
def dkwX3_unseal_1 : List UInt8 := [42, 180, 0, 121, 27, 51, 153, 0, 5, 5, 172, 42, 180, 0, 121, 27, 42, 27, 42, 180, 0, 185, 42]
abbrev dktX3_unseal_1 : List UInt8 := dkwX3_unseal_1 ++ dktX3_unseal_2
def dkwX3_unseal_0 : List UInt8 := [42, 3, 181, 0, 181, 42, 27, 182, 1, 153, 153, 0, 12, 42, 180, 0, 118, 27, 51, 154, 0, 5, 2, 172]
abbrev dktX3_unseal_0 : List UInt8 := dkwX3_unseal_0 ++ dktX3_unseal_1
theorem dksX3_unseal_0 : cX3_unseal.data.toList.drop 0 = dktX3_unseal_0 := by decide +kernel
theorem dksX3_unseal_1 : cX3_unseal.data.toList.drop 24 = dktX3_unseal_1 := dk_seg dksX3_unseal_0 24 rfl rfl
theorem dksX3_unseal_2 : cX3_unseal.data.toList.drop 47 = dktX3_unseal_2 := dk_seg dksX3_unseal_1 23 rfl rfl
theorem dX3_unseal_0 : decode cX3_unseal 0 = .ok (.aload_n 0, 1) := dk_42 (dk_at dksX3_unseal_0 0 rfl rfl)
theorem dX3_unseal_1 : decode cX3_unseal 1 = .ok (.iconst 0, 1) := dk_3 (dk_at dksX3_unseal_0 1 rfl rfl)
theorem dX3_unseal_2 : decode cX3_unseal 2 = .ok (.putfield 181, 3) := dk_181 0 181 (dk_at dksX3_unseal_0 2 rfl rfl)
theorem dX3_unseal_5 : decode cX3_unseal 5 = .ok (.aload_n 0, 1) := dk_42 (dk_at dksX3_unseal_0 5 rfl rfl)
theorem dX3_unseal_6 : decode cX3_unseal 6 = .ok (.iload_n 1, 1) := dk_27 (dk_at dksX3_unseal_0 6 rfl rfl)
theorem dX3_unseal_7 : decode cX3_unseal 7 = .ok (.invokevirtual 409, 3) := dk_182 1 153 (dk_at dksX3_unseal_0 7 rfl rfl)
theorem dX3_unseal_10 : decode cX3_unseal 10 = .ok (.ifCond .eq 12, 3) := dk_153 0 12 (dk_at dksX3_unseal_0 10 rfl rfl)
theorem dX3_unseal_13 : decode cX3_unseal 13 = .ok (.aload_n 0, 1) := dk_42 (dk_at dksX3_unseal_0 13 rfl rfl)
theorem dX3_unseal_14 : decode cX3_unseal 14 = .ok (.getfield 118, 3) := dk_180 0 118 (dk_at dksX3_unseal_0 14 rfl rfl)
theorem dX3_unseal_17 : decode cX3_unseal 17 = .ok (.iload_n 1, 1) := dk_27 (dk_at dksX3_unseal_0 17 rfl rfl)
theorem dX3_unseal_18 : decode cX3_unseal 18 = .ok (.baload, 1) := dk_51 (dk_at dksX3_unseal_0 18 rfl rfl)
theorem dX3_unseal_19 : decode cX3_unseal 19 = .ok (.ifCond .ne 5, 3) := dk_154 0 5 (dk_at dksX3_unseal_0 19 rfl rfl)
theorem dX3_unseal_22 : decode cX3_unseal 22 = .ok (.iconst (-1), 1) := dk_2 (dk_at dksX3_unseal_0 22 rfl rfl)
theorem dX3_unseal_23 : decode cX3_unseal 23 = .ok (.ireturn, 1) := dk_172 (dk_at dksX3_unseal_0 23 rfl rfl)
theorem dX3_unseal_24 : decode cX3_unseal 24 = .ok (.aload_n 0, 1) := dk_42 (dk_at dksX3_unseal_1 0 rfl rfl)
theorem dX3_unseal_25 : decode cX3_unseal 25 = .ok (.getfield 121, 3) := dk_180 0 121 (dk_at dksX3_unseal_1 1 rfl rfl)
theorem dX3_unseal_28 : decode cX3_unseal 28 = .ok (.iload_n 1, 1) := dk_27 (dk_at dksX3_unseal_1 4 rfl rfl)
theorem dX3_unseal_29 : decode cX3_unseal 29 = .ok (.baload, 1) := dk_51 (dk_at dksX3_unseal_1 5 rfl rfl)
theorem dX3_unseal_30 : decode cX3_unseal 30 = .ok (.ifCond .eq 5, 3) := dk_153 0 5 (dk_at dksX3_unseal_1 6 rfl rfl)
theorem dX3_unseal_33 : decode cX3_unseal 33 = .ok (.iconst 2, 1) := dk_5 (dk_at dksX3_unseal_1 9 rfl rfl)
theorem dX3_unseal_34 : decode cX3_unseal 34 = .ok (.ireturn, 1) := dk_172 (dk_at dksX3_unseal_1 10 rfl rfl)
theorem dX3_unseal_35 : decode cX3_unseal 35 = .ok (.aload_n 0, 1) := dk_42 (dk_at dksX3_unseal_1 11 rfl rfl)
theorem dX3_unseal_36 : decode cX3_unseal 36 = .ok (.getfield 121, 3) := dk_180 0 121 (dk_at dksX3_unseal_1 12 rfl rfl)
theorem dX3_unseal_39 : decode cX3_unseal 39 = .ok (.iload_n 1, 1) := dk_27 (dk_at dksX3_unseal_1 15 rfl rfl)
theorem dX3_unseal_40 : decode cX3_unseal 40 = .ok (.aload_n 0, 1) := dk_42 (dk_at dksX3_unseal_1 16 rfl rfl)
theorem dX3_unseal_41 : decode cX3_unseal 41 = .ok (.iload_n 1, 1) := dk_27 (dk_at dksX3_unseal_1 17 rfl rfl)
theorem dX3_unseal_42 : decode cX3_unseal 42 = .ok (.aload_n 0, 1) := dk_42 (dk_at dksX3_unseal_1 18 rfl rfl)
theorem dX3_unseal_43 : decode cX3_unseal 43 = .ok (.getfield 185, 3) := dk_180 0 185 (dk_at dksX3_unseal_1 19 rfl rfl)
theorem dX3_unseal_46 : decode cX3_unseal 46 = .ok (.aload_n 0, 1) := dk_42 (dk_at dksX3_unseal_1 22 rfl rfl)
theorem dX3_unseal_47 : decode cX3_unseal 47 = .ok (.getfield 185, 3) := dk_180 0 185 (dk_at dksX3_unseal_2 0 rfl rfl)
theorem dX3_unseal_50 : decode cX3_unseal 50 = .ok (.invokevirtual 419, 3) := dk_182 1 163 (dk_at dksX3_unseal_2 3 rfl rfl)
theorem dX3_unseal_53 : decode cX3_unseal 53 = .ok (.bastore, 1) := dk_84 (dk_at dksX3_unseal_2 6 rfl rfl)
theorem dX3_unseal_54 : decode cX3_unseal 54 = .ok (.aload_n 0, 1) := dk_42 (dk_at dksX3_unseal_2 7 rfl rfl)
theorem dX3_unseal_55 : decode cX3_unseal 55 = .ok (.getfield 121, 3) := dk_180 0 121 (dk_at dksX3_unseal_2 8 rfl rfl)
theorem dX3_unseal_58 : decode cX3_unseal 58 = .ok (.iload_n 1, 1) := dk_27 (dk_at dksX3_unseal_2 11 rfl rfl)
theorem dX3_unseal_59 : decode cX3_unseal 59 = .ok (.baload, 1) := dk_51 (dk_at dksX3_unseal_2 12 rfl rfl)
theorem dX3_unseal_60 : decode cX3_unseal 60 = .ok (.ifCond .eq 7, 3) := dk_153 0 7 (dk_at dksX3_unseal_2 13 rfl rfl)
theorem dX3_unseal_63 : decode cX3_unseal 63 = .ok (.iconst 1, 1) := dk_4 (dk_at dksX3_unseal_2 16 rfl rfl)
theorem dX3_unseal_64 : decode cX3_unseal 64 = .ok (.goto 4, 3) := dk_167 0 4 (dk_at dksX3_unseal_2 17 rfl rfl)
theorem dX3_unseal_67 : decode cX3_unseal 67 = .ok (.iconst 0, 1) := dk_3 (dk_at dksX3_unseal_2 20 rfl rfl)
theorem dX3_unseal_68 : decode cX3_unseal 68 = .ok (.ireturn, 1) := dk_172 (dk_at dksX3_unseal_2 21 rfl rfl)
abbrev cX3_sign : ByteArray := prog_22_method_82_code
def yX3_sign : MethodName := ⟨RX3, "sign", "(IIII)I"⟩
def dkwX3_sign_3 : List UInt8 := [10, 127, 9, 148, 154, 0, 5, 2, 172, 42, 28, 29, 21, 4, 182, 1, 185, 172]
abbrev dktX3_sign_3 : List UInt8 := dkwX3_sign_3 ++ []
def dkwX3_sign_2 : List UInt8 := [153, 0, 31, 42, 28, 182, 1, 182, 153, 0, 23, 42, 4, 27, 120, 42, 180, 0, 185, 182, 1, 54, 28, 123]
abbrev dktX3_sign_2 : List UInt8 := dkwX3_sign_2 ++ dktX3_sign_3
def dkwX3_sign_1 : List UInt8 := [182, 0, 216, 153, 0, 51, 42, 29, 182, 1, 153, 153, 0, 43, 21, 4, 4, 17, 3, 250, 184, 0, 188]
abbrev dktX3_sign_1 : List UInt8 := dkwX3_sign_1 ++ dktX3_sign_2
def dkwX3_sign_0 : List UInt8 := [42, 3, 181, 0, 181, 42, 180, 1, 172, 16, 80, 159, 0, 67, 42, 27, 182, 0, 226, 153, 0, 59, 42, 28]
abbrev dktX3_sign_0 : List UInt8 := dkwX3_sign_0 ++ dktX3_sign_1
theorem dksX3_sign_0 : cX3_sign.data.toList.drop 0 = dktX3_sign_0 := by decide +kernel
theorem dksX3_sign_1 : cX3_sign.data.toList.drop 24 = dktX3_sign_1 := dk_seg dksX3_sign_0 24 rfl rfl
theorem dksX3_sign_2 : cX3_sign.data.toList.drop 47 = dktX3_sign_2 := dk_seg dksX3_sign_1 23 rfl rfl
theorem dksX3_sign_3 : cX3_sign.data.toList.drop 71 = dktX3_sign_3 := dk_seg dksX3_sign_2 24 rfl rfl
theorem dX3_sign_0 : decode cX3_sign 0 = .ok (.aload_n 0, 1) := dk_42 (dk_at dksX3_sign_0 0 rfl rfl)
theorem dX3_sign_1 : decode cX3_sign 1 = .ok (.iconst 0, 1) := dk_3 (dk_at dksX3_sign_0 1 rfl rfl)
theorem dX3_sign_2 : decode cX3_sign 2 = .ok (.putfield 181, 3) := dk_181 0 181 (dk_at dksX3_sign_0 2 rfl rfl)
theorem dX3_sign_5 : decode cX3_sign 5 = .ok (.aload_n 0, 1) := dk_42 (dk_at dksX3_sign_0 5 rfl rfl)
theorem dX3_sign_6 : decode cX3_sign 6 = .ok (.getfield 428, 3) := dk_180 1 172 (dk_at dksX3_sign_0 6 rfl rfl)
theorem dX3_sign_9 : decode cX3_sign 9 = .ok (.bipush 80, 2) := dk_16 80 (dk_at dksX3_sign_0 9 rfl rfl)
theorem dX3_sign_11 : decode cX3_sign 11 = .ok (.if_icmp .eq 67, 3) := dk_159 0 67 (dk_at dksX3_sign_0 11 rfl rfl)
theorem dX3_sign_14 : decode cX3_sign 14 = .ok (.aload_n 0, 1) := dk_42 (dk_at dksX3_sign_0 14 rfl rfl)
theorem dX3_sign_15 : decode cX3_sign 15 = .ok (.iload_n 1, 1) := dk_27 (dk_at dksX3_sign_0 15 rfl rfl)
theorem dX3_sign_16 : decode cX3_sign 16 = .ok (.invokevirtual 226, 3) := dk_182 0 226 (dk_at dksX3_sign_0 16 rfl rfl)
theorem dX3_sign_19 : decode cX3_sign 19 = .ok (.ifCond .eq 59, 3) := dk_153 0 59 (dk_at dksX3_sign_0 19 rfl rfl)
theorem dX3_sign_22 : decode cX3_sign 22 = .ok (.aload_n 0, 1) := dk_42 (dk_at dksX3_sign_0 22 rfl rfl)
theorem dX3_sign_23 : decode cX3_sign 23 = .ok (.iload_n 2, 1) := dk_28 (dk_at dksX3_sign_0 23 rfl rfl)
theorem dX3_sign_24 : decode cX3_sign 24 = .ok (.invokevirtual 216, 3) := dk_182 0 216 (dk_at dksX3_sign_1 0 rfl rfl)
theorem dX3_sign_27 : decode cX3_sign 27 = .ok (.ifCond .eq 51, 3) := dk_153 0 51 (dk_at dksX3_sign_1 3 rfl rfl)
theorem dX3_sign_30 : decode cX3_sign 30 = .ok (.aload_n 0, 1) := dk_42 (dk_at dksX3_sign_1 6 rfl rfl)
theorem dX3_sign_31 : decode cX3_sign 31 = .ok (.iload_n 3, 1) := dk_29 (dk_at dksX3_sign_1 7 rfl rfl)
theorem dX3_sign_32 : decode cX3_sign 32 = .ok (.invokevirtual 409, 3) := dk_182 1 153 (dk_at dksX3_sign_1 8 rfl rfl)
theorem dX3_sign_35 : decode cX3_sign 35 = .ok (.ifCond .eq 43, 3) := dk_153 0 43 (dk_at dksX3_sign_1 11 rfl rfl)
theorem dX3_sign_38 : decode cX3_sign 38 = .ok (.iload 4, 2) := dk_21 4 (dk_at dksX3_sign_1 14 rfl rfl)
theorem dX3_sign_40 : decode cX3_sign 40 = .ok (.iconst 1, 1) := dk_4 (dk_at dksX3_sign_1 16 rfl rfl)
theorem dX3_sign_41 : decode cX3_sign 41 = .ok (.sipush 1018, 3) := dk_17 3 250 (dk_at dksX3_sign_1 17 rfl rfl)
theorem dX3_sign_44 : decode cX3_sign 44 = .ok (.invokestatic 188, 3) := dk_184 0 188 (dk_at dksX3_sign_1 20 rfl rfl)
theorem dX3_sign_47 : decode cX3_sign 47 = .ok (.ifCond .eq 31, 3) := dk_153 0 31 (dk_at dksX3_sign_2 0 rfl rfl)
theorem dX3_sign_50 : decode cX3_sign 50 = .ok (.aload_n 0, 1) := dk_42 (dk_at dksX3_sign_2 3 rfl rfl)
theorem dX3_sign_51 : decode cX3_sign 51 = .ok (.iload_n 2, 1) := dk_28 (dk_at dksX3_sign_2 4 rfl rfl)
theorem dX3_sign_52 : decode cX3_sign 52 = .ok (.invokevirtual 438, 3) := dk_182 1 182 (dk_at dksX3_sign_2 5 rfl rfl)
theorem dX3_sign_55 : decode cX3_sign 55 = .ok (.ifCond .eq 23, 3) := dk_153 0 23 (dk_at dksX3_sign_2 8 rfl rfl)
theorem dX3_sign_58 : decode cX3_sign 58 = .ok (.aload_n 0, 1) := dk_42 (dk_at dksX3_sign_2 11 rfl rfl)
theorem dX3_sign_59 : decode cX3_sign 59 = .ok (.iconst 1, 1) := dk_4 (dk_at dksX3_sign_2 12 rfl rfl)
theorem dX3_sign_60 : decode cX3_sign 60 = .ok (.iload_n 1, 1) := dk_27 (dk_at dksX3_sign_2 13 rfl rfl)
theorem dX3_sign_61 : decode cX3_sign 61 = .ok (.ishl, 1) := dk_120 (dk_at dksX3_sign_2 14 rfl rfl)
theorem dX3_sign_62 : decode cX3_sign 62 = .ok (.aload_n 0, 1) := dk_42 (dk_at dksX3_sign_2 15 rfl rfl)
theorem dX3_sign_63 : decode cX3_sign 63 = .ok (.getfield 185, 3) := dk_180 0 185 (dk_at dksX3_sign_2 16 rfl rfl)
theorem dX3_sign_66 : decode cX3_sign 66 = .ok (.invokevirtual 310, 3) := dk_182 1 54 (dk_at dksX3_sign_2 19 rfl rfl)
theorem dX3_sign_69 : decode cX3_sign 69 = .ok (.iload_n 2, 1) := dk_28 (dk_at dksX3_sign_2 22 rfl rfl)
theorem dX3_sign_70 : decode cX3_sign 70 = .ok (.lshr, 1) := dk_123 (dk_at dksX3_sign_2 23 rfl rfl)
theorem dX3_sign_71 : decode cX3_sign 71 = .ok (.lconst 1, 1) := dk_10 (dk_at dksX3_sign_3 0 rfl rfl)
theorem dX3_sign_72 : decode cX3_sign 72 = .ok (.land, 1) := dk_127 (dk_at dksX3_sign_3 1 rfl rfl)
theorem dX3_sign_73 : decode cX3_sign 73 = .ok (.lconst 0, 1) := dk_9 (dk_at dksX3_sign_3 2 rfl rfl)
theorem dX3_sign_74 : decode cX3_sign 74 = .ok (.lcmp, 1) := dk_148 (dk_at dksX3_sign_3 3 rfl rfl)
theorem dX3_sign_75 : decode cX3_sign 75 = .ok (.ifCond .ne 5, 3) := dk_154 0 5 (dk_at dksX3_sign_3 4 rfl rfl)
theorem dX3_sign_78 : decode cX3_sign 78 = .ok (.iconst (-1), 1) := dk_2 (dk_at dksX3_sign_3 7 rfl rfl)
theorem dX3_sign_79 : decode cX3_sign 79 = .ok (.ireturn, 1) := dk_172 (dk_at dksX3_sign_3 8 rfl rfl)
theorem dX3_sign_80 : decode cX3_sign 80 = .ok (.aload_n 0, 1) := dk_42 (dk_at dksX3_sign_3 9 rfl rfl)
theorem dX3_sign_81 : decode cX3_sign 81 = .ok (.iload_n 2, 1) := dk_28 (dk_at dksX3_sign_3 10 rfl rfl)
theorem dX3_sign_82 : decode cX3_sign 82 = .ok (.iload_n 3, 1) := dk_29 (dk_at dksX3_sign_3 11 rfl rfl)
theorem dX3_sign_83 : decode cX3_sign 83 = .ok (.iload 4, 2) := dk_21 4 (dk_at dksX3_sign_3 12 rfl rfl)
theorem dX3_sign_85 : decode cX3_sign 85 = .ok (.invokevirtual 441, 3) := dk_182 1 185 (dk_at dksX3_sign_3 14 rfl rfl)
theorem dX3_sign_88 : decode cX3_sign 88 = .ok (.ireturn, 1) := dk_172 (dk_at dksX3_sign_3 17 rfl rfl)
abbrev cX3_maySign : ByteArray := prog_22_method_78_code
def yX3_maySign : MethodName := ⟨RX3, "maySign", "(I)Z"⟩
def dkwX3_maySign_1 : List UInt8 := [180, 0, 22, 27, 46, 2, 160, 0, 7, 4, 167, 0, 4, 3, 172]
abbrev dktX3_maySign_1 : List UInt8 := dkwX3_maySign_1 ++ []
def dkwX3_maySign_0 : List UInt8 := [42, 27, 42, 180, 0, 185, 182, 1, 169, 61, 28, 2, 159, 0, 11, 28, 42, 180, 0, 185, 164, 0, 17, 42]
abbrev dktX3_maySign_0 : List UInt8 := dkwX3_maySign_0 ++ dktX3_maySign_1
theorem dksX3_maySign_0 : cX3_maySign.data.toList.drop 0 = dktX3_maySign_0 := by decide +kernel
theorem dksX3_maySign_1 : cX3_maySign.data.toList.drop 24 = dktX3_maySign_1 := dk_seg dksX3_maySign_0 24 rfl rfl
theorem dX3_maySign_0 : decode cX3_maySign 0 = .ok (.aload_n 0, 1) := dk_42 (dk_at dksX3_maySign_0 0 rfl rfl)
theorem dX3_maySign_1 : decode cX3_maySign 1 = .ok (.iload_n 1, 1) := dk_27 (dk_at dksX3_maySign_0 1 rfl rfl)
theorem dX3_maySign_2 : decode cX3_maySign 2 = .ok (.aload_n 0, 1) := dk_42 (dk_at dksX3_maySign_0 2 rfl rfl)
theorem dX3_maySign_3 : decode cX3_maySign 3 = .ok (.getfield 185, 3) := dk_180 0 185 (dk_at dksX3_maySign_0 3 rfl rfl)
theorem dX3_maySign_6 : decode cX3_maySign 6 = .ok (.invokevirtual 425, 3) := dk_182 1 169 (dk_at dksX3_maySign_0 6 rfl rfl)
theorem dX3_maySign_9 : decode cX3_maySign 9 = .ok (.istore_n 2, 1) := dk_61 (dk_at dksX3_maySign_0 9 rfl rfl)
theorem dX3_maySign_10 : decode cX3_maySign 10 = .ok (.iload_n 2, 1) := dk_28 (dk_at dksX3_maySign_0 10 rfl rfl)
theorem dX3_maySign_11 : decode cX3_maySign 11 = .ok (.iconst (-1), 1) := dk_2 (dk_at dksX3_maySign_0 11 rfl rfl)
theorem dX3_maySign_12 : decode cX3_maySign 12 = .ok (.if_icmp .eq 11, 3) := dk_159 0 11 (dk_at dksX3_maySign_0 12 rfl rfl)
theorem dX3_maySign_15 : decode cX3_maySign 15 = .ok (.iload_n 2, 1) := dk_28 (dk_at dksX3_maySign_0 15 rfl rfl)
theorem dX3_maySign_16 : decode cX3_maySign 16 = .ok (.aload_n 0, 1) := dk_42 (dk_at dksX3_maySign_0 16 rfl rfl)
theorem dX3_maySign_17 : decode cX3_maySign 17 = .ok (.getfield 185, 3) := dk_180 0 185 (dk_at dksX3_maySign_0 17 rfl rfl)
theorem dX3_maySign_20 : decode cX3_maySign 20 = .ok (.if_icmp .le 17, 3) := dk_164 0 17 (dk_at dksX3_maySign_0 20 rfl rfl)
theorem dX3_maySign_23 : decode cX3_maySign 23 = .ok (.aload_n 0, 1) := dk_42 (dk_at dksX3_maySign_0 23 rfl rfl)
theorem dX3_maySign_24 : decode cX3_maySign 24 = .ok (.getfield 22, 3) := dk_180 0 22 (dk_at dksX3_maySign_1 0 rfl rfl)
theorem dX3_maySign_27 : decode cX3_maySign 27 = .ok (.iload_n 1, 1) := dk_27 (dk_at dksX3_maySign_1 3 rfl rfl)
theorem dX3_maySign_28 : decode cX3_maySign 28 = .ok (.iaload, 1) := dk_46 (dk_at dksX3_maySign_1 4 rfl rfl)
theorem dX3_maySign_29 : decode cX3_maySign 29 = .ok (.iconst (-1), 1) := dk_2 (dk_at dksX3_maySign_1 5 rfl rfl)
theorem dX3_maySign_30 : decode cX3_maySign 30 = .ok (.if_icmp .ne 7, 3) := dk_160 0 7 (dk_at dksX3_maySign_1 6 rfl rfl)
theorem dX3_maySign_33 : decode cX3_maySign 33 = .ok (.iconst 1, 1) := dk_4 (dk_at dksX3_maySign_1 9 rfl rfl)
theorem dX3_maySign_34 : decode cX3_maySign 34 = .ok (.goto 4, 3) := dk_167 0 4 (dk_at dksX3_maySign_1 10 rfl rfl)
theorem dX3_maySign_37 : decode cX3_maySign 37 = .ok (.iconst 0, 1) := dk_3 (dk_at dksX3_maySign_1 13 rfl rfl)
theorem dX3_maySign_38 : decode cX3_maySign 38 = .ok (.ireturn, 1) := dk_172 (dk_at dksX3_maySign_1 14 rfl rfl)
abbrev cX3_burntFrom : ByteArray := prog_22_method_77_code
def yX3_burntFrom : MethodName := ⟨RX3, "burntFrom", "(II)I"⟩
def dkwX3_burntFrom_2 : List UInt8 := [21, 4, 46, 29, 162, 0, 11, 42, 180, 0, 154, 21, 4, 46, 62, 132, 4, 1, 167, 255, 198, 29, 172]
abbrev dktX3_burntFrom_2 : List UInt8 := dkwX3_burntFrom_2 ++ []
def dkwX3_burntFrom_1 : List UInt8 := [160, 0, 38, 42, 180, 0, 157, 21, 4, 46, 28, 163, 0, 27, 29, 2, 159, 0, 14, 42, 180, 0, 154]
abbrev dktX3_burntFrom_1 : List UInt8 := dkwX3_burntFrom_1 ++ dktX3_burntFrom_2
def dkwX3_burntFrom_0 : List UInt8 := [2, 62, 3, 54, 4, 21, 4, 42, 180, 1, 166, 162, 0, 55, 42, 180, 0, 151, 21, 4, 46, 27]
abbrev dktX3_burntFrom_0 : List UInt8 := dkwX3_burntFrom_0 ++ dktX3_burntFrom_1
theorem dksX3_burntFrom_0 : cX3_burntFrom.data.toList.drop 0 = dktX3_burntFrom_0 := by decide +kernel
theorem dksX3_burntFrom_1 : cX3_burntFrom.data.toList.drop 22 = dktX3_burntFrom_1 := dk_seg dksX3_burntFrom_0 22 rfl rfl
theorem dksX3_burntFrom_2 : cX3_burntFrom.data.toList.drop 45 = dktX3_burntFrom_2 := dk_seg dksX3_burntFrom_1 23 rfl rfl
theorem dX3_burntFrom_0 : decode cX3_burntFrom 0 = .ok (.iconst (-1), 1) := dk_2 (dk_at dksX3_burntFrom_0 0 rfl rfl)
theorem dX3_burntFrom_1 : decode cX3_burntFrom 1 = .ok (.istore_n 3, 1) := dk_62 (dk_at dksX3_burntFrom_0 1 rfl rfl)
theorem dX3_burntFrom_2 : decode cX3_burntFrom 2 = .ok (.iconst 0, 1) := dk_3 (dk_at dksX3_burntFrom_0 2 rfl rfl)
theorem dX3_burntFrom_3 : decode cX3_burntFrom 3 = .ok (.istore 4, 2) := dk_54 4 (dk_at dksX3_burntFrom_0 3 rfl rfl)
theorem dX3_burntFrom_5 : decode cX3_burntFrom 5 = .ok (.iload 4, 2) := dk_21 4 (dk_at dksX3_burntFrom_0 5 rfl rfl)
theorem dX3_burntFrom_7 : decode cX3_burntFrom 7 = .ok (.aload_n 0, 1) := dk_42 (dk_at dksX3_burntFrom_0 7 rfl rfl)
theorem dX3_burntFrom_8 : decode cX3_burntFrom 8 = .ok (.getfield 422, 3) := dk_180 1 166 (dk_at dksX3_burntFrom_0 8 rfl rfl)
theorem dX3_burntFrom_11 : decode cX3_burntFrom 11 = .ok (.if_icmp .ge 55, 3) := dk_162 0 55 (dk_at dksX3_burntFrom_0 11 rfl rfl)
theorem dX3_burntFrom_14 : decode cX3_burntFrom 14 = .ok (.aload_n 0, 1) := dk_42 (dk_at dksX3_burntFrom_0 14 rfl rfl)
theorem dX3_burntFrom_15 : decode cX3_burntFrom 15 = .ok (.getfield 151, 3) := dk_180 0 151 (dk_at dksX3_burntFrom_0 15 rfl rfl)
theorem dX3_burntFrom_18 : decode cX3_burntFrom 18 = .ok (.iload 4, 2) := dk_21 4 (dk_at dksX3_burntFrom_0 18 rfl rfl)
theorem dX3_burntFrom_20 : decode cX3_burntFrom 20 = .ok (.iaload, 1) := dk_46 (dk_at dksX3_burntFrom_0 20 rfl rfl)
theorem dX3_burntFrom_21 : decode cX3_burntFrom 21 = .ok (.iload_n 1, 1) := dk_27 (dk_at dksX3_burntFrom_0 21 rfl rfl)
theorem dX3_burntFrom_22 : decode cX3_burntFrom 22 = .ok (.if_icmp .ne 38, 3) := dk_160 0 38 (dk_at dksX3_burntFrom_1 0 rfl rfl)
theorem dX3_burntFrom_25 : decode cX3_burntFrom 25 = .ok (.aload_n 0, 1) := dk_42 (dk_at dksX3_burntFrom_1 3 rfl rfl)
theorem dX3_burntFrom_26 : decode cX3_burntFrom 26 = .ok (.getfield 157, 3) := dk_180 0 157 (dk_at dksX3_burntFrom_1 4 rfl rfl)
theorem dX3_burntFrom_29 : decode cX3_burntFrom 29 = .ok (.iload 4, 2) := dk_21 4 (dk_at dksX3_burntFrom_1 7 rfl rfl)
theorem dX3_burntFrom_31 : decode cX3_burntFrom 31 = .ok (.iaload, 1) := dk_46 (dk_at dksX3_burntFrom_1 9 rfl rfl)
theorem dX3_burntFrom_32 : decode cX3_burntFrom 32 = .ok (.iload_n 2, 1) := dk_28 (dk_at dksX3_burntFrom_1 10 rfl rfl)
theorem dX3_burntFrom_33 : decode cX3_burntFrom 33 = .ok (.if_icmp .gt 27, 3) := dk_163 0 27 (dk_at dksX3_burntFrom_1 11 rfl rfl)
theorem dX3_burntFrom_36 : decode cX3_burntFrom 36 = .ok (.iload_n 3, 1) := dk_29 (dk_at dksX3_burntFrom_1 14 rfl rfl)
theorem dX3_burntFrom_37 : decode cX3_burntFrom 37 = .ok (.iconst (-1), 1) := dk_2 (dk_at dksX3_burntFrom_1 15 rfl rfl)
theorem dX3_burntFrom_38 : decode cX3_burntFrom 38 = .ok (.if_icmp .eq 14, 3) := dk_159 0 14 (dk_at dksX3_burntFrom_1 16 rfl rfl)
theorem dX3_burntFrom_41 : decode cX3_burntFrom 41 = .ok (.aload_n 0, 1) := dk_42 (dk_at dksX3_burntFrom_1 19 rfl rfl)
theorem dX3_burntFrom_42 : decode cX3_burntFrom 42 = .ok (.getfield 154, 3) := dk_180 0 154 (dk_at dksX3_burntFrom_1 20 rfl rfl)
theorem dX3_burntFrom_45 : decode cX3_burntFrom 45 = .ok (.iload 4, 2) := dk_21 4 (dk_at dksX3_burntFrom_2 0 rfl rfl)
theorem dX3_burntFrom_47 : decode cX3_burntFrom 47 = .ok (.iaload, 1) := dk_46 (dk_at dksX3_burntFrom_2 2 rfl rfl)
theorem dX3_burntFrom_48 : decode cX3_burntFrom 48 = .ok (.iload_n 3, 1) := dk_29 (dk_at dksX3_burntFrom_2 3 rfl rfl)
theorem dX3_burntFrom_49 : decode cX3_burntFrom 49 = .ok (.if_icmp .ge 11, 3) := dk_162 0 11 (dk_at dksX3_burntFrom_2 4 rfl rfl)
theorem dX3_burntFrom_52 : decode cX3_burntFrom 52 = .ok (.aload_n 0, 1) := dk_42 (dk_at dksX3_burntFrom_2 7 rfl rfl)
theorem dX3_burntFrom_53 : decode cX3_burntFrom 53 = .ok (.getfield 154, 3) := dk_180 0 154 (dk_at dksX3_burntFrom_2 8 rfl rfl)
theorem dX3_burntFrom_56 : decode cX3_burntFrom 56 = .ok (.iload 4, 2) := dk_21 4 (dk_at dksX3_burntFrom_2 11 rfl rfl)
theorem dX3_burntFrom_58 : decode cX3_burntFrom 58 = .ok (.iaload, 1) := dk_46 (dk_at dksX3_burntFrom_2 13 rfl rfl)
theorem dX3_burntFrom_59 : decode cX3_burntFrom 59 = .ok (.istore_n 3, 1) := dk_62 (dk_at dksX3_burntFrom_2 14 rfl rfl)
theorem dX3_burntFrom_60 : decode cX3_burntFrom 60 = .ok (.iinc 4 1, 3) := dk_132 4 1 (dk_at dksX3_burntFrom_2 15 rfl rfl)
theorem dX3_burntFrom_63 : decode cX3_burntFrom 63 = .ok (.goto (-58), 3) := dk_167 255 198 (dk_at dksX3_burntFrom_2 18 rfl rfl)
theorem dX3_burntFrom_66 : decode cX3_burntFrom 66 = .ok (.iload_n 3, 1) := dk_29 (dk_at dksX3_burntFrom_2 21 rfl rfl)
theorem dX3_burntFrom_67 : decode cX3_burntFrom 67 = .ok (.ireturn, 1) := dk_172 (dk_at dksX3_burntFrom_2 22 rfl rfl)
abbrev cX3_signs : ByteArray := prog_22_method_81_code
def yX3_signs : MethodName := ⟨RX3, "signs", "(III)I"⟩
def dkwX3_signs_1 : List UInt8 := [180, 0, 13, 27, 46, 104, 96, 17, 3, 251, 112, 27, 28, 182, 1, 178, 172]
abbrev dktX3_signs_1 : List UInt8 := dkwX3_signs_1 ++ []
def dkwX3_signs_0 : List UInt8 := [29, 184, 0, 220, 54, 4, 42, 21, 4, 29, 21, 4, 42, 180, 0, 100, 28, 46, 184, 1, 175, 42]
abbrev dktX3_signs_0 : List UInt8 := dkwX3_signs_0 ++ dktX3_signs_1
theorem dksX3_signs_0 : cX3_signs.data.toList.drop 0 = dktX3_signs_0 := by decide +kernel
theorem dksX3_signs_1 : cX3_signs.data.toList.drop 22 = dktX3_signs_1 := dk_seg dksX3_signs_0 22 rfl rfl
theorem dX3_signs_0 : decode cX3_signs 0 = .ok (.iload_n 3, 1) := dk_29 (dk_at dksX3_signs_0 0 rfl rfl)
theorem dX3_signs_1 : decode cX3_signs 1 = .ok (.invokestatic 220, 3) := dk_184 0 220 (dk_at dksX3_signs_0 1 rfl rfl)
theorem dX3_signs_4 : decode cX3_signs 4 = .ok (.istore 4, 2) := dk_54 4 (dk_at dksX3_signs_0 4 rfl rfl)
theorem dX3_signs_6 : decode cX3_signs 6 = .ok (.aload_n 0, 1) := dk_42 (dk_at dksX3_signs_0 6 rfl rfl)
theorem dX3_signs_7 : decode cX3_signs 7 = .ok (.iload 4, 2) := dk_21 4 (dk_at dksX3_signs_0 7 rfl rfl)
theorem dX3_signs_9 : decode cX3_signs 9 = .ok (.iload_n 3, 1) := dk_29 (dk_at dksX3_signs_0 9 rfl rfl)
theorem dX3_signs_10 : decode cX3_signs 10 = .ok (.iload 4, 2) := dk_21 4 (dk_at dksX3_signs_0 10 rfl rfl)
theorem dX3_signs_12 : decode cX3_signs 12 = .ok (.aload_n 0, 1) := dk_42 (dk_at dksX3_signs_0 12 rfl rfl)
theorem dX3_signs_13 : decode cX3_signs 13 = .ok (.getfield 100, 3) := dk_180 0 100 (dk_at dksX3_signs_0 13 rfl rfl)
theorem dX3_signs_16 : decode cX3_signs 16 = .ok (.iload_n 2, 1) := dk_28 (dk_at dksX3_signs_0 16 rfl rfl)
theorem dX3_signs_17 : decode cX3_signs 17 = .ok (.iaload, 1) := dk_46 (dk_at dksX3_signs_0 17 rfl rfl)
theorem dX3_signs_18 : decode cX3_signs 18 = .ok (.invokestatic 431, 3) := dk_184 1 175 (dk_at dksX3_signs_0 18 rfl rfl)
theorem dX3_signs_21 : decode cX3_signs 21 = .ok (.aload_n 0, 1) := dk_42 (dk_at dksX3_signs_0 21 rfl rfl)
theorem dX3_signs_22 : decode cX3_signs 22 = .ok (.getfield 13, 3) := dk_180 0 13 (dk_at dksX3_signs_1 0 rfl rfl)
theorem dX3_signs_25 : decode cX3_signs 25 = .ok (.iload_n 1, 1) := dk_27 (dk_at dksX3_signs_1 3 rfl rfl)
theorem dX3_signs_26 : decode cX3_signs 26 = .ok (.iaload, 1) := dk_46 (dk_at dksX3_signs_1 4 rfl rfl)
theorem dX3_signs_27 : decode cX3_signs 27 = .ok (.imul, 1) := dk_104 (dk_at dksX3_signs_1 5 rfl rfl)
theorem dX3_signs_28 : decode cX3_signs 28 = .ok (.iadd, 1) := dk_96 (dk_at dksX3_signs_1 6 rfl rfl)
theorem dX3_signs_29 : decode cX3_signs 29 = .ok (.sipush 1019, 3) := dk_17 3 251 (dk_at dksX3_signs_1 7 rfl rfl)
theorem dX3_signs_32 : decode cX3_signs 32 = .ok (.irem, 1) := dk_112 (dk_at dksX3_signs_1 10 rfl rfl)
theorem dX3_signs_33 : decode cX3_signs 33 = .ok (.iload_n 1, 1) := dk_27 (dk_at dksX3_signs_1 11 rfl rfl)
theorem dX3_signs_34 : decode cX3_signs 34 = .ok (.iload_n 2, 1) := dk_28 (dk_at dksX3_signs_1 12 rfl rfl)
theorem dX3_signs_35 : decode cX3_signs 35 = .ok (.invokevirtual 434, 3) := dk_182 1 178 (dk_at dksX3_signs_1 13 rfl rfl)
theorem dX3_signs_38 : decode cX3_signs 38 = .ok (.ireturn, 1) := dk_172 (dk_at dksX3_signs_1 16 rfl rfl)
abbrev cX3_challenge : ByteArray := prog_22_method_79_code
def yX3_challenge : MethodName := ⟨RX3, "challenge", "(II)I"⟩
def dkwX3_challenge_0 : List UInt8 := [26, 16, 7, 27, 104, 96, 17, 3, 251, 112, 172]
abbrev dktX3_challenge_0 : List UInt8 := dkwX3_challenge_0 ++ []
theorem dksX3_challenge_0 : cX3_challenge.data.toList.drop 0 = dktX3_challenge_0 := by decide +kernel
theorem dX3_challenge_0 : decode cX3_challenge 0 = .ok (.iload_n 0, 1) := dk_26 (dk_at dksX3_challenge_0 0 rfl rfl)
theorem dX3_challenge_1 : decode cX3_challenge 1 = .ok (.bipush 7, 2) := dk_16 7 (dk_at dksX3_challenge_0 1 rfl rfl)
theorem dX3_challenge_3 : decode cX3_challenge 3 = .ok (.iload_n 1, 1) := dk_27 (dk_at dksX3_challenge_0 3 rfl rfl)
theorem dX3_challenge_4 : decode cX3_challenge 4 = .ok (.imul, 1) := dk_104 (dk_at dksX3_challenge_0 4 rfl rfl)
theorem dX3_challenge_5 : decode cX3_challenge 5 = .ok (.iadd, 1) := dk_96 (dk_at dksX3_challenge_0 5 rfl rfl)
theorem dX3_challenge_6 : decode cX3_challenge 6 = .ok (.sipush 1019, 3) := dk_17 3 251 (dk_at dksX3_challenge_0 6 rfl rfl)
theorem dX3_challenge_9 : decode cX3_challenge 9 = .ok (.irem, 1) := dk_112 (dk_at dksX3_challenge_0 9 rfl rfl)
theorem dX3_challenge_10 : decode cX3_challenge 10 = .ok (.ireturn, 1) := dk_172 (dk_at dksX3_challenge_0 10 rfl rfl)
abbrev cX3_keeps : ByteArray := prog_22_method_80_code
def yX3_keeps : MethodName := ⟨RX3, "keeps", "(IIII)I"⟩
def dkwX3_keeps_3 : List UInt8 := [172]
abbrev dktX3_keeps_3 : List UInt8 := dkwX3_keeps_3 ++ []
def dkwX3_keeps_2 : List UInt8 := [180, 1, 172, 42, 180, 0, 185, 79, 42, 89, 180, 1, 172, 4, 96, 181, 1, 172, 42, 180, 1, 172, 4, 100]
abbrev dktX3_keeps_2 : List UInt8 := dkwX3_keeps_2 ++ dktX3_keeps_3
def dkwX3_keeps_1 : List UInt8 := [42, 180, 1, 172, 29, 79, 42, 180, 0, 145, 42, 180, 1, 172, 21, 4, 79, 42, 180, 0, 148, 42]
abbrev dktX3_keeps_1 : List UInt8 := dkwX3_keeps_1 ++ dktX3_keeps_2
def dkwX3_keeps_0 : List UInt8 := [42, 180, 0, 136, 42, 180, 1, 172, 27, 79, 42, 180, 0, 139, 42, 180, 1, 172, 28, 79, 42, 180, 0, 142]
abbrev dktX3_keeps_0 : List UInt8 := dkwX3_keeps_0 ++ dktX3_keeps_1
theorem dksX3_keeps_0 : cX3_keeps.data.toList.drop 0 = dktX3_keeps_0 := by decide +kernel
theorem dksX3_keeps_1 : cX3_keeps.data.toList.drop 24 = dktX3_keeps_1 := dk_seg dksX3_keeps_0 24 rfl rfl
theorem dksX3_keeps_2 : cX3_keeps.data.toList.drop 46 = dktX3_keeps_2 := dk_seg dksX3_keeps_1 22 rfl rfl
theorem dksX3_keeps_3 : cX3_keeps.data.toList.drop 70 = dktX3_keeps_3 := dk_seg dksX3_keeps_2 24 rfl rfl
theorem dX3_keeps_0 : decode cX3_keeps 0 = .ok (.aload_n 0, 1) := dk_42 (dk_at dksX3_keeps_0 0 rfl rfl)
theorem dX3_keeps_1 : decode cX3_keeps 1 = .ok (.getfield 136, 3) := dk_180 0 136 (dk_at dksX3_keeps_0 1 rfl rfl)
theorem dX3_keeps_4 : decode cX3_keeps 4 = .ok (.aload_n 0, 1) := dk_42 (dk_at dksX3_keeps_0 4 rfl rfl)
theorem dX3_keeps_5 : decode cX3_keeps 5 = .ok (.getfield 428, 3) := dk_180 1 172 (dk_at dksX3_keeps_0 5 rfl rfl)
theorem dX3_keeps_8 : decode cX3_keeps 8 = .ok (.iload_n 1, 1) := dk_27 (dk_at dksX3_keeps_0 8 rfl rfl)
theorem dX3_keeps_9 : decode cX3_keeps 9 = .ok (.iastore, 1) := dk_79 (dk_at dksX3_keeps_0 9 rfl rfl)
theorem dX3_keeps_10 : decode cX3_keeps 10 = .ok (.aload_n 0, 1) := dk_42 (dk_at dksX3_keeps_0 10 rfl rfl)
theorem dX3_keeps_11 : decode cX3_keeps 11 = .ok (.getfield 139, 3) := dk_180 0 139 (dk_at dksX3_keeps_0 11 rfl rfl)
theorem dX3_keeps_14 : decode cX3_keeps 14 = .ok (.aload_n 0, 1) := dk_42 (dk_at dksX3_keeps_0 14 rfl rfl)
theorem dX3_keeps_15 : decode cX3_keeps 15 = .ok (.getfield 428, 3) := dk_180 1 172 (dk_at dksX3_keeps_0 15 rfl rfl)
theorem dX3_keeps_18 : decode cX3_keeps 18 = .ok (.iload_n 2, 1) := dk_28 (dk_at dksX3_keeps_0 18 rfl rfl)
theorem dX3_keeps_19 : decode cX3_keeps 19 = .ok (.iastore, 1) := dk_79 (dk_at dksX3_keeps_0 19 rfl rfl)
theorem dX3_keeps_20 : decode cX3_keeps 20 = .ok (.aload_n 0, 1) := dk_42 (dk_at dksX3_keeps_0 20 rfl rfl)
theorem dX3_keeps_21 : decode cX3_keeps 21 = .ok (.getfield 142, 3) := dk_180 0 142 (dk_at dksX3_keeps_0 21 rfl rfl)
theorem dX3_keeps_24 : decode cX3_keeps 24 = .ok (.aload_n 0, 1) := dk_42 (dk_at dksX3_keeps_1 0 rfl rfl)
theorem dX3_keeps_25 : decode cX3_keeps 25 = .ok (.getfield 428, 3) := dk_180 1 172 (dk_at dksX3_keeps_1 1 rfl rfl)
theorem dX3_keeps_28 : decode cX3_keeps 28 = .ok (.iload_n 3, 1) := dk_29 (dk_at dksX3_keeps_1 4 rfl rfl)
theorem dX3_keeps_29 : decode cX3_keeps 29 = .ok (.iastore, 1) := dk_79 (dk_at dksX3_keeps_1 5 rfl rfl)
theorem dX3_keeps_30 : decode cX3_keeps 30 = .ok (.aload_n 0, 1) := dk_42 (dk_at dksX3_keeps_1 6 rfl rfl)
theorem dX3_keeps_31 : decode cX3_keeps 31 = .ok (.getfield 145, 3) := dk_180 0 145 (dk_at dksX3_keeps_1 7 rfl rfl)
theorem dX3_keeps_34 : decode cX3_keeps 34 = .ok (.aload_n 0, 1) := dk_42 (dk_at dksX3_keeps_1 10 rfl rfl)
theorem dX3_keeps_35 : decode cX3_keeps 35 = .ok (.getfield 428, 3) := dk_180 1 172 (dk_at dksX3_keeps_1 11 rfl rfl)
theorem dX3_keeps_38 : decode cX3_keeps 38 = .ok (.iload 4, 2) := dk_21 4 (dk_at dksX3_keeps_1 14 rfl rfl)
theorem dX3_keeps_40 : decode cX3_keeps 40 = .ok (.iastore, 1) := dk_79 (dk_at dksX3_keeps_1 16 rfl rfl)
theorem dX3_keeps_41 : decode cX3_keeps 41 = .ok (.aload_n 0, 1) := dk_42 (dk_at dksX3_keeps_1 17 rfl rfl)
theorem dX3_keeps_42 : decode cX3_keeps 42 = .ok (.getfield 148, 3) := dk_180 0 148 (dk_at dksX3_keeps_1 18 rfl rfl)
theorem dX3_keeps_45 : decode cX3_keeps 45 = .ok (.aload_n 0, 1) := dk_42 (dk_at dksX3_keeps_1 21 rfl rfl)
theorem dX3_keeps_46 : decode cX3_keeps 46 = .ok (.getfield 428, 3) := dk_180 1 172 (dk_at dksX3_keeps_2 0 rfl rfl)
theorem dX3_keeps_49 : decode cX3_keeps 49 = .ok (.aload_n 0, 1) := dk_42 (dk_at dksX3_keeps_2 3 rfl rfl)
theorem dX3_keeps_50 : decode cX3_keeps 50 = .ok (.getfield 185, 3) := dk_180 0 185 (dk_at dksX3_keeps_2 4 rfl rfl)
theorem dX3_keeps_53 : decode cX3_keeps 53 = .ok (.iastore, 1) := dk_79 (dk_at dksX3_keeps_2 7 rfl rfl)
theorem dX3_keeps_54 : decode cX3_keeps 54 = .ok (.aload_n 0, 1) := dk_42 (dk_at dksX3_keeps_2 8 rfl rfl)
theorem dX3_keeps_55 : decode cX3_keeps 55 = .ok (.dup, 1) := dk_89 (dk_at dksX3_keeps_2 9 rfl rfl)
theorem dX3_keeps_56 : decode cX3_keeps 56 = .ok (.getfield 428, 3) := dk_180 1 172 (dk_at dksX3_keeps_2 10 rfl rfl)
theorem dX3_keeps_59 : decode cX3_keeps 59 = .ok (.iconst 1, 1) := dk_4 (dk_at dksX3_keeps_2 13 rfl rfl)
theorem dX3_keeps_60 : decode cX3_keeps 60 = .ok (.iadd, 1) := dk_96 (dk_at dksX3_keeps_2 14 rfl rfl)
theorem dX3_keeps_61 : decode cX3_keeps 61 = .ok (.putfield 428, 3) := dk_181 1 172 (dk_at dksX3_keeps_2 15 rfl rfl)
theorem dX3_keeps_64 : decode cX3_keeps 64 = .ok (.aload_n 0, 1) := dk_42 (dk_at dksX3_keeps_2 18 rfl rfl)
theorem dX3_keeps_65 : decode cX3_keeps 65 = .ok (.getfield 428, 3) := dk_180 1 172 (dk_at dksX3_keeps_2 19 rfl rfl)
theorem dX3_keeps_68 : decode cX3_keeps 68 = .ok (.iconst 1, 1) := dk_4 (dk_at dksX3_keeps_2 22 rfl rfl)
theorem dX3_keeps_69 : decode cX3_keeps 69 = .ok (.isub, 1) := dk_100 (dk_at dksX3_keeps_2 23 rfl rfl)
theorem dX3_keeps_70 : decode cX3_keeps 70 = .ok (.ireturn, 1) := dk_172 (dk_at dksX3_keeps_3 0 rfl rfl)
abbrev cX3_falsely : ByteArray := prog_22_method_83_code
def yX3_falsely : MethodName := ⟨RX3, "falsely", "(IZ)Z"⟩
def dkwX3_falsely_1 : List UInt8 := [172, 42, 180, 0, 38, 27, 28, 84, 4, 172]
abbrev dktX3_falsely_1 : List UInt8 := dkwX3_falsely_1 ++ []
def dkwX3_falsely_0 : List UInt8 := [42, 3, 181, 0, 181, 42, 27, 182, 0, 226, 153, 0, 13, 42, 180, 0, 38, 27, 51, 28, 160, 0, 5, 3]
abbrev dktX3_falsely_0 : List UInt8 := dkwX3_falsely_0 ++ dktX3_falsely_1
theorem dksX3_falsely_0 : cX3_falsely.data.toList.drop 0 = dktX3_falsely_0 := by decide +kernel
theorem dksX3_falsely_1 : cX3_falsely.data.toList.drop 24 = dktX3_falsely_1 := dk_seg dksX3_falsely_0 24 rfl rfl
theorem dX3_falsely_0 : decode cX3_falsely 0 = .ok (.aload_n 0, 1) := dk_42 (dk_at dksX3_falsely_0 0 rfl rfl)
theorem dX3_falsely_1 : decode cX3_falsely 1 = .ok (.iconst 0, 1) := dk_3 (dk_at dksX3_falsely_0 1 rfl rfl)
theorem dX3_falsely_2 : decode cX3_falsely 2 = .ok (.putfield 181, 3) := dk_181 0 181 (dk_at dksX3_falsely_0 2 rfl rfl)
theorem dX3_falsely_5 : decode cX3_falsely 5 = .ok (.aload_n 0, 1) := dk_42 (dk_at dksX3_falsely_0 5 rfl rfl)
theorem dX3_falsely_6 : decode cX3_falsely 6 = .ok (.iload_n 1, 1) := dk_27 (dk_at dksX3_falsely_0 6 rfl rfl)
theorem dX3_falsely_7 : decode cX3_falsely 7 = .ok (.invokevirtual 226, 3) := dk_182 0 226 (dk_at dksX3_falsely_0 7 rfl rfl)
theorem dX3_falsely_10 : decode cX3_falsely 10 = .ok (.ifCond .eq 13, 3) := dk_153 0 13 (dk_at dksX3_falsely_0 10 rfl rfl)
theorem dX3_falsely_13 : decode cX3_falsely 13 = .ok (.aload_n 0, 1) := dk_42 (dk_at dksX3_falsely_0 13 rfl rfl)
theorem dX3_falsely_14 : decode cX3_falsely 14 = .ok (.getfield 38, 3) := dk_180 0 38 (dk_at dksX3_falsely_0 14 rfl rfl)
theorem dX3_falsely_17 : decode cX3_falsely 17 = .ok (.iload_n 1, 1) := dk_27 (dk_at dksX3_falsely_0 17 rfl rfl)
theorem dX3_falsely_18 : decode cX3_falsely 18 = .ok (.baload, 1) := dk_51 (dk_at dksX3_falsely_0 18 rfl rfl)
theorem dX3_falsely_19 : decode cX3_falsely 19 = .ok (.iload_n 2, 1) := dk_28 (dk_at dksX3_falsely_0 19 rfl rfl)
theorem dX3_falsely_20 : decode cX3_falsely 20 = .ok (.if_icmp .ne 5, 3) := dk_160 0 5 (dk_at dksX3_falsely_0 20 rfl rfl)
theorem dX3_falsely_23 : decode cX3_falsely 23 = .ok (.iconst 0, 1) := dk_3 (dk_at dksX3_falsely_0 23 rfl rfl)
theorem dX3_falsely_24 : decode cX3_falsely 24 = .ok (.ireturn, 1) := dk_172 (dk_at dksX3_falsely_1 0 rfl rfl)
theorem dX3_falsely_25 : decode cX3_falsely 25 = .ok (.aload_n 0, 1) := dk_42 (dk_at dksX3_falsely_1 1 rfl rfl)
theorem dX3_falsely_26 : decode cX3_falsely 26 = .ok (.getfield 38, 3) := dk_180 0 38 (dk_at dksX3_falsely_1 2 rfl rfl)
theorem dX3_falsely_29 : decode cX3_falsely 29 = .ok (.iload_n 1, 1) := dk_27 (dk_at dksX3_falsely_1 5 rfl rfl)
theorem dX3_falsely_30 : decode cX3_falsely 30 = .ok (.iload_n 2, 1) := dk_28 (dk_at dksX3_falsely_1 6 rfl rfl)
theorem dX3_falsely_31 : decode cX3_falsely 31 = .ok (.bastore, 1) := dk_84 (dk_at dksX3_falsely_1 7 rfl rfl)
theorem dX3_falsely_32 : decode cX3_falsely 32 = .ok (.iconst 1, 1) := dk_4 (dk_at dksX3_falsely_1 8 rfl rfl)
theorem dX3_falsely_33 : decode cX3_falsely 33 = .ok (.ireturn, 1) := dk_172 (dk_at dksX3_falsely_1 9 rfl rfl)
