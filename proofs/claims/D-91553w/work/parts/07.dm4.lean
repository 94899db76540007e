set_option maxRecDepth 100000
abbrev cX3_isWell : ByteArray := prog_22_method_104_code
def yX3_isWell : MethodName := ⟨RX3, "isWell", "(II)Z"⟩
def dkwX3_isWell_3 : List UInt8 := [154, 0, 5, 3, 172, 132, 4, 1, 167, 255, 186, 4, 172]
abbrev dktX3_isWell_3 : List UInt8 := dkwX3_isWell_3 ++ []
def dkwX3_isWell_2 : List UInt8 := [180, 0, 175, 21, 4, 46, 182, 1, 201, 42, 180, 0, 185, 27, 28, 182, 1, 47, 29, 123, 10, 127, 9, 148]
abbrev dktX3_isWell_2 : List UInt8 := dkwX3_isWell_2 ++ dktX3_isWell_3
def dkwX3_isWell_1 : List UInt8 := [21, 4, 46, 42, 180, 0, 185, 27, 28, 182, 1, 47, 29, 123, 10, 127, 10, 148, 153, 0, 33, 42, 42, 42]
abbrev dktX3_isWell_1 : List UInt8 := dkwX3_isWell_1 ++ dktX3_isWell_2
def dkwX3_isWell_0 : List UInt8 := [42, 180, 0, 57, 27, 46, 62, 3, 54, 4, 21, 4, 42, 180, 1, 191, 162, 0, 67, 42, 42, 180, 0, 175]
abbrev dktX3_isWell_0 : List UInt8 := dkwX3_isWell_0 ++ dktX3_isWell_1
theorem dksX3_isWell_0 : cX3_isWell.data.toList.drop 0 = dktX3_isWell_0 := by decide +kernel
theorem dksX3_isWell_1 : cX3_isWell.data.toList.drop 24 = dktX3_isWell_1 := dk_seg dksX3_isWell_0 24 rfl rfl
theorem dksX3_isWell_2 : cX3_isWell.data.toList.drop 48 = dktX3_isWell_2 := dk_seg dksX3_isWell_1 24 rfl rfl
theorem dksX3_isWell_3 : cX3_isWell.data.toList.drop 72 = dktX3_isWell_3 := dk_seg dksX3_isWell_2 24 rfl rfl
theorem dX3_isWell_0 : decode cX3_isWell 0 = .ok (.aload_n 0, 1) := dk_42 (dk_at dksX3_isWell_0 0 rfl rfl)
theorem dX3_isWell_1 : decode cX3_isWell 1 = .ok (.getfield 57, 3) := dk_180 0 57 (dk_at dksX3_isWell_0 1 rfl rfl)
theorem dX3_isWell_4 : decode cX3_isWell 4 = .ok (.iload_n 1, 1) := dk_27 (dk_at dksX3_isWell_0 4 rfl rfl)
theorem dX3_isWell_5 : decode cX3_isWell 5 = .ok (.iaload, 1) := dk_46 (dk_at dksX3_isWell_0 5 rfl rfl)
theorem dX3_isWell_6 : decode cX3_isWell 6 = .ok (.istore_n 3, 1) := dk_62 (dk_at dksX3_isWell_0 6 rfl rfl)
theorem dX3_isWell_7 : decode cX3_isWell 7 = .ok (.iconst 0, 1) := dk_3 (dk_at dksX3_isWell_0 7 rfl rfl)
theorem dX3_isWell_8 : decode cX3_isWell 8 = .ok (.istore 4, 2) := dk_54 4 (dk_at dksX3_isWell_0 8 rfl rfl)
theorem dX3_isWell_10 : decode cX3_isWell 10 = .ok (.iload 4, 2) := dk_21 4 (dk_at dksX3_isWell_0 10 rfl rfl)
theorem dX3_isWell_12 : decode cX3_isWell 12 = .ok (.aload_n 0, 1) := dk_42 (dk_at dksX3_isWell_0 12 rfl rfl)
theorem dX3_isWell_13 : decode cX3_isWell 13 = .ok (.getfield 447, 3) := dk_180 1 191 (dk_at dksX3_isWell_0 13 rfl rfl)
theorem dX3_isWell_16 : decode cX3_isWell 16 = .ok (.if_icmp .ge 67, 3) := dk_162 0 67 (dk_at dksX3_isWell_0 16 rfl rfl)
theorem dX3_isWell_19 : decode cX3_isWell 19 = .ok (.aload_n 0, 1) := dk_42 (dk_at dksX3_isWell_0 19 rfl rfl)
theorem dX3_isWell_20 : decode cX3_isWell 20 = .ok (.aload_n 0, 1) := dk_42 (dk_at dksX3_isWell_0 20 rfl rfl)
theorem dX3_isWell_21 : decode cX3_isWell 21 = .ok (.getfield 175, 3) := dk_180 0 175 (dk_at dksX3_isWell_0 21 rfl rfl)
theorem dX3_isWell_24 : decode cX3_isWell 24 = .ok (.iload 4, 2) := dk_21 4 (dk_at dksX3_isWell_1 0 rfl rfl)
theorem dX3_isWell_26 : decode cX3_isWell 26 = .ok (.iaload, 1) := dk_46 (dk_at dksX3_isWell_1 2 rfl rfl)
theorem dX3_isWell_27 : decode cX3_isWell 27 = .ok (.aload_n 0, 1) := dk_42 (dk_at dksX3_isWell_1 3 rfl rfl)
theorem dX3_isWell_28 : decode cX3_isWell 28 = .ok (.getfield 185, 3) := dk_180 0 185 (dk_at dksX3_isWell_1 4 rfl rfl)
theorem dX3_isWell_31 : decode cX3_isWell 31 = .ok (.iload_n 1, 1) := dk_27 (dk_at dksX3_isWell_1 7 rfl rfl)
theorem dX3_isWell_32 : decode cX3_isWell 32 = .ok (.iload_n 2, 1) := dk_28 (dk_at dksX3_isWell_1 8 rfl rfl)
theorem dX3_isWell_33 : decode cX3_isWell 33 = .ok (.invokevirtual 303, 3) := dk_182 1 47 (dk_at dksX3_isWell_1 9 rfl rfl)
theorem dX3_isWell_36 : decode cX3_isWell 36 = .ok (.iload_n 3, 1) := dk_29 (dk_at dksX3_isWell_1 12 rfl rfl)
theorem dX3_isWell_37 : decode cX3_isWell 37 = .ok (.lshr, 1) := dk_123 (dk_at dksX3_isWell_1 13 rfl rfl)
theorem dX3_isWell_38 : decode cX3_isWell 38 = .ok (.lconst 1, 1) := dk_10 (dk_at dksX3_isWell_1 14 rfl rfl)
theorem dX3_isWell_39 : decode cX3_isWell 39 = .ok (.land, 1) := dk_127 (dk_at dksX3_isWell_1 15 rfl rfl)
theorem dX3_isWell_40 : decode cX3_isWell 40 = .ok (.lconst 1, 1) := dk_10 (dk_at dksX3_isWell_1 16 rfl rfl)
theorem dX3_isWell_41 : decode cX3_isWell 41 = .ok (.lcmp, 1) := dk_148 (dk_at dksX3_isWell_1 17 rfl rfl)
theorem dX3_isWell_42 : decode cX3_isWell 42 = .ok (.ifCond .eq 33, 3) := dk_153 0 33 (dk_at dksX3_isWell_1 18 rfl rfl)
theorem dX3_isWell_45 : decode cX3_isWell 45 = .ok (.aload_n 0, 1) := dk_42 (dk_at dksX3_isWell_1 21 rfl rfl)
theorem dX3_isWell_46 : decode cX3_isWell 46 = .ok (.aload_n 0, 1) := dk_42 (dk_at dksX3_isWell_1 22 rfl rfl)
theorem dX3_isWell_47 : decode cX3_isWell 47 = .ok (.aload_n 0, 1) := dk_42 (dk_at dksX3_isWell_1 23 rfl rfl)
theorem dX3_isWell_48 : decode cX3_isWell 48 = .ok (.getfield 175, 3) := dk_180 0 175 (dk_at dksX3_isWell_2 0 rfl rfl)
theorem dX3_isWell_51 : decode cX3_isWell 51 = .ok (.iload 4, 2) := dk_21 4 (dk_at dksX3_isWell_2 3 rfl rfl)
theorem dX3_isWell_53 : decode cX3_isWell 53 = .ok (.iaload, 1) := dk_46 (dk_at dksX3_isWell_2 5 rfl rfl)
theorem dX3_isWell_54 : decode cX3_isWell 54 = .ok (.invokevirtual 457, 3) := dk_182 1 201 (dk_at dksX3_isWell_2 6 rfl rfl)
theorem dX3_isWell_57 : decode cX3_isWell 57 = .ok (.aload_n 0, 1) := dk_42 (dk_at dksX3_isWell_2 9 rfl rfl)
theorem dX3_isWell_58 : decode cX3_isWell 58 = .ok (.getfield 185, 3) := dk_180 0 185 (dk_at dksX3_isWell_2 10 rfl rfl)
theorem dX3_isWell_61 : decode cX3_isWell 61 = .ok (.iload_n 1, 1) := dk_27 (dk_at dksX3_isWell_2 13 rfl rfl)
theorem dX3_isWell_62 : decode cX3_isWell 62 = .ok (.iload_n 2, 1) := dk_28 (dk_at dksX3_isWell_2 14 rfl rfl)
theorem dX3_isWell_63 : decode cX3_isWell 63 = .ok (.invokevirtual 303, 3) := dk_182 1 47 (dk_at dksX3_isWell_2 15 rfl rfl)
theorem dX3_isWell_66 : decode cX3_isWell 66 = .ok (.iload_n 3, 1) := dk_29 (dk_at dksX3_isWell_2 18 rfl rfl)
theorem dX3_isWell_67 : decode cX3_isWell 67 = .ok (.lshr, 1) := dk_123 (dk_at dksX3_isWell_2 19 rfl rfl)
theorem dX3_isWell_68 : decode cX3_isWell 68 = .ok (.lconst 1, 1) := dk_10 (dk_at dksX3_isWell_2 20 rfl rfl)
theorem dX3_isWell_69 : decode cX3_isWell 69 = .ok (.land, 1) := dk_127 (dk_at dksX3_isWell_2 21 rfl rfl)
theorem dX3_isWell_70 : decode cX3_isWell 70 = .ok (.lconst 0, 1) := dk_9 (dk_at dksX3_isWell_2 22 rfl rfl)
theorem dX3_isWell_71 : decode cX3_isWell 71 = .ok (.lcmp, 1) := dk_148 (dk_at dksX3_isWell_2 23 rfl rfl)
theorem dX3_isWell_72 : decode cX3_isWell 72 = .ok (.ifCond .ne 5, 3) := dk_154 0 5 (dk_at dksX3_isWell_3 0 rfl rfl)
theorem dX3_isWell_75 : decode cX3_isWell 75 = .ok (.iconst 0, 1) := dk_3 (dk_at dksX3_isWell_3 3 rfl rfl)
theorem dX3_isWell_76 : decode cX3_isWell 76 = .ok (.ireturn, 1) := dk_172 (dk_at dksX3_isWell_3 4 rfl rfl)
theorem dX3_isWell_77 : decode cX3_isWell 77 = .ok (.iinc 4 1, 3) := dk_132 4 1 (dk_at dksX3_isWell_3 5 rfl rfl)
theorem dX3_isWell_80 : decode cX3_isWell 80 = .ok (.goto (-70), 3) := dk_167 255 186 (dk_at dksX3_isWell_3 8 rfl rfl)
theorem dX3_isWell_83 : decode cX3_isWell 83 = .ok (.iconst 1, 1) := dk_4 (dk_at dksX3_isWell_3 11 rfl rfl)
theorem dX3_isWell_84 : decode cX3_isWell 84 = .ok (.ireturn, 1) := dk_172 (dk_at dksX3_isWell_3 12 rfl rfl)
abbrev cX3_order : ByteArray := prog_22_method_107_code
def yX3_order : MethodName := ⟨RX3, "orde\x72", "(II)I"⟩
def dkwX3_order_5 : List UInt8 := [160, 0, 6, 21, 8, 172, 22, 5, 10, 21, 8, 121, 129, 55, 5, 132, 7, 1, 167, 255, 161, 2, 172]
abbrev dktX3_order_5 : List UInt8 := dkwX3_order_5 ++ []
def dkwX3_order_4 : List UInt8 := [154, 0, 7, 21, 9, 54, 8, 132, 9, 255, 167, 255, 209, 21, 8, 2, 159, 0, 9, 21, 7, 28]
abbrev dktX3_order_4 : List UInt8 := dkwX3_order_4 ++ dktX3_order_5
def dkwX3_order_3 : List UInt8 := [154, 0, 31, 22, 5, 21, 9, 123, 10, 127, 9, 148, 154, 0, 19, 42, 21, 9, 33, 22, 5, 182, 1, 222]
abbrev dktX3_order_3 : List UInt8 := dkwX3_order_3 ++ dktX3_order_4
def dkwX3_order_2 : List UInt8 := [54, 8, 42, 180, 0, 199, 4, 100, 54, 9, 21, 9, 155, 0, 48, 33, 21, 9, 123, 10, 127, 10, 148]
abbrev dktX3_order_2 : List UInt8 := dkwX3_order_2 ++ dktX3_order_3
def dkwX3_order_1 : List UInt8 := [27, 46, 42, 180, 0, 185, 182, 1, 54, 66, 9, 55, 5, 3, 54, 7, 21, 7, 16, 40, 162, 0, 94, 2]
abbrev dktX3_order_1 : List UInt8 := dkwX3_order_1 ++ dktX3_order_2
def dkwX3_order_0 : List UInt8 := [42, 3, 181, 0, 181, 42, 27, 182, 1, 194, 153, 0, 7, 28, 156, 0, 5, 2, 172, 42, 42, 180, 0, 175]
abbrev dktX3_order_0 : List UInt8 := dkwX3_order_0 ++ dktX3_order_1
theorem dksX3_order_0 : cX3_order.data.toList.drop 0 = dktX3_order_0 := by decide +kernel
theorem dksX3_order_1 : cX3_order.data.toList.drop 24 = dktX3_order_1 := dk_seg dksX3_order_0 24 rfl rfl
theorem dksX3_order_2 : cX3_order.data.toList.drop 48 = dktX3_order_2 := dk_seg dksX3_order_1 24 rfl rfl
theorem dksX3_order_3 : cX3_order.data.toList.drop 71 = dktX3_order_3 := dk_seg dksX3_order_2 23 rfl rfl
theorem dksX3_order_4 : cX3_order.data.toList.drop 95 = dktX3_order_4 := dk_seg dksX3_order_3 24 rfl rfl
theorem dksX3_order_5 : cX3_order.data.toList.drop 117 = dktX3_order_5 := dk_seg dksX3_order_4 22 rfl rfl
theorem dX3_order_0 : decode cX3_order 0 = .ok (.aload_n 0, 1) := dk_42 (dk_at dksX3_order_0 0 rfl rfl)
theorem dX3_order_1 : decode cX3_order 1 = .ok (.iconst 0, 1) := dk_3 (dk_at dksX3_order_0 1 rfl rfl)
theorem dX3_order_2 : decode cX3_order 2 = .ok (.putfield 181, 3) := dk_181 0 181 (dk_at dksX3_order_0 2 rfl rfl)
theorem dX3_order_5 : decode cX3_order 5 = .ok (.aload_n 0, 1) := dk_42 (dk_at dksX3_order_0 5 rfl rfl)
theorem dX3_order_6 : decode cX3_order 6 = .ok (.iload_n 1, 1) := dk_27 (dk_at dksX3_order_0 6 rfl rfl)
theorem dX3_order_7 : decode cX3_order 7 = .ok (.invokevirtual 450, 3) := dk_182 1 194 (dk_at dksX3_order_0 7 rfl rfl)
theorem dX3_order_10 : decode cX3_order 10 = .ok (.ifCond .eq 7, 3) := dk_153 0 7 (dk_at dksX3_order_0 10 rfl rfl)
theorem dX3_order_13 : decode cX3_order 13 = .ok (.iload_n 2, 1) := dk_28 (dk_at dksX3_order_0 13 rfl rfl)
theorem dX3_order_14 : decode cX3_order 14 = .ok (.ifCond .ge 5, 3) := dk_156 0 5 (dk_at dksX3_order_0 14 rfl rfl)
theorem dX3_order_17 : decode cX3_order 17 = .ok (.iconst (-1), 1) := dk_2 (dk_at dksX3_order_0 17 rfl rfl)
theorem dX3_order_18 : decode cX3_order 18 = .ok (.ireturn, 1) := dk_172 (dk_at dksX3_order_0 18 rfl rfl)
theorem dX3_order_19 : decode cX3_order 19 = .ok (.aload_n 0, 1) := dk_42 (dk_at dksX3_order_0 19 rfl rfl)
theorem dX3_order_20 : decode cX3_order 20 = .ok (.aload_n 0, 1) := dk_42 (dk_at dksX3_order_0 20 rfl rfl)
theorem dX3_order_21 : decode cX3_order 21 = .ok (.getfield 175, 3) := dk_180 0 175 (dk_at dksX3_order_0 21 rfl rfl)
theorem dX3_order_24 : decode cX3_order 24 = .ok (.iload_n 1, 1) := dk_27 (dk_at dksX3_order_1 0 rfl rfl)
theorem dX3_order_25 : decode cX3_order 25 = .ok (.iaload, 1) := dk_46 (dk_at dksX3_order_1 1 rfl rfl)
theorem dX3_order_26 : decode cX3_order 26 = .ok (.aload_n 0, 1) := dk_42 (dk_at dksX3_order_1 2 rfl rfl)
theorem dX3_order_27 : decode cX3_order 27 = .ok (.getfield 185, 3) := dk_180 0 185 (dk_at dksX3_order_1 3 rfl rfl)
theorem dX3_order_30 : decode cX3_order 30 = .ok (.invokevirtual 310, 3) := dk_182 1 54 (dk_at dksX3_order_1 6 rfl rfl)
theorem dX3_order_33 : decode cX3_order 33 = .ok (.lstore_n 3, 1) := dk_66 (dk_at dksX3_order_1 9 rfl rfl)
theorem dX3_order_34 : decode cX3_order 34 = .ok (.lconst 0, 1) := dk_9 (dk_at dksX3_order_1 10 rfl rfl)
theorem dX3_order_35 : decode cX3_order 35 = .ok (.lstore 5, 2) := dk_55 5 (dk_at dksX3_order_1 11 rfl rfl)
theorem dX3_order_37 : decode cX3_order 37 = .ok (.iconst 0, 1) := dk_3 (dk_at dksX3_order_1 13 rfl rfl)
theorem dX3_order_38 : decode cX3_order 38 = .ok (.istore 7, 2) := dk_54 7 (dk_at dksX3_order_1 14 rfl rfl)
theorem dX3_order_40 : decode cX3_order 40 = .ok (.iload 7, 2) := dk_21 7 (dk_at dksX3_order_1 16 rfl rfl)
theorem dX3_order_42 : decode cX3_order 42 = .ok (.bipush 40, 2) := dk_16 40 (dk_at dksX3_order_1 18 rfl rfl)
theorem dX3_order_44 : decode cX3_order 44 = .ok (.if_icmp .ge 94, 3) := dk_162 0 94 (dk_at dksX3_order_1 20 rfl rfl)
theorem dX3_order_47 : decode cX3_order 47 = .ok (.iconst (-1), 1) := dk_2 (dk_at dksX3_order_1 23 rfl rfl)
theorem dX3_order_48 : decode cX3_order 48 = .ok (.istore 8, 2) := dk_54 8 (dk_at dksX3_order_2 0 rfl rfl)
theorem dX3_order_50 : decode cX3_order 50 = .ok (.aload_n 0, 1) := dk_42 (dk_at dksX3_order_2 2 rfl rfl)
theorem dX3_order_51 : decode cX3_order 51 = .ok (.getfield 199, 3) := dk_180 0 199 (dk_at dksX3_order_2 3 rfl rfl)
theorem dX3_order_54 : decode cX3_order 54 = .ok (.iconst 1, 1) := dk_4 (dk_at dksX3_order_2 6 rfl rfl)
theorem dX3_order_55 : decode cX3_order 55 = .ok (.isub, 1) := dk_100 (dk_at dksX3_order_2 7 rfl rfl)
theorem dX3_order_56 : decode cX3_order 56 = .ok (.istore 9, 2) := dk_54 9 (dk_at dksX3_order_2 8 rfl rfl)
theorem dX3_order_58 : decode cX3_order 58 = .ok (.iload 9, 2) := dk_21 9 (dk_at dksX3_order_2 10 rfl rfl)
theorem dX3_order_60 : decode cX3_order 60 = .ok (.ifCond .lt 48, 3) := dk_155 0 48 (dk_at dksX3_order_2 12 rfl rfl)
theorem dX3_order_63 : decode cX3_order 63 = .ok (.lload_n 3, 1) := dk_33 (dk_at dksX3_order_2 15 rfl rfl)
theorem dX3_order_64 : decode cX3_order 64 = .ok (.iload 9, 2) := dk_21 9 (dk_at dksX3_order_2 16 rfl rfl)
theorem dX3_order_66 : decode cX3_order 66 = .ok (.lshr, 1) := dk_123 (dk_at dksX3_order_2 18 rfl rfl)
theorem dX3_order_67 : decode cX3_order 67 = .ok (.lconst 1, 1) := dk_10 (dk_at dksX3_order_2 19 rfl rfl)
theorem dX3_order_68 : decode cX3_order 68 = .ok (.land, 1) := dk_127 (dk_at dksX3_order_2 20 rfl rfl)
theorem dX3_order_69 : decode cX3_order 69 = .ok (.lconst 1, 1) := dk_10 (dk_at dksX3_order_2 21 rfl rfl)
theorem dX3_order_70 : decode cX3_order 70 = .ok (.lcmp, 1) := dk_148 (dk_at dksX3_order_2 22 rfl rfl)
theorem dX3_order_71 : decode cX3_order 71 = .ok (.ifCond .ne 31, 3) := dk_154 0 31 (dk_at dksX3_order_3 0 rfl rfl)
theorem dX3_order_74 : decode cX3_order 74 = .ok (.lload 5, 2) := dk_22 5 (dk_at dksX3_order_3 3 rfl rfl)
theorem dX3_order_76 : decode cX3_order 76 = .ok (.iload 9, 2) := dk_21 9 (dk_at dksX3_order_3 5 rfl rfl)
theorem dX3_order_78 : decode cX3_order 78 = .ok (.lshr, 1) := dk_123 (dk_at dksX3_order_3 7 rfl rfl)
theorem dX3_order_79 : decode cX3_order 79 = .ok (.lconst 1, 1) := dk_10 (dk_at dksX3_order_3 8 rfl rfl)
theorem dX3_order_80 : decode cX3_order 80 = .ok (.land, 1) := dk_127 (dk_at dksX3_order_3 9 rfl rfl)
theorem dX3_order_81 : decode cX3_order 81 = .ok (.lconst 0, 1) := dk_9 (dk_at dksX3_order_3 10 rfl rfl)
theorem dX3_order_82 : decode cX3_order 82 = .ok (.lcmp, 1) := dk_148 (dk_at dksX3_order_3 11 rfl rfl)
theorem dX3_order_83 : decode cX3_order 83 = .ok (.ifCond .ne 19, 3) := dk_154 0 19 (dk_at dksX3_order_3 12 rfl rfl)
theorem dX3_order_86 : decode cX3_order 86 = .ok (.aload_n 0, 1) := dk_42 (dk_at dksX3_order_3 15 rfl rfl)
theorem dX3_order_87 : decode cX3_order 87 = .ok (.iload 9, 2) := dk_21 9 (dk_at dksX3_order_3 16 rfl rfl)
theorem dX3_order_89 : decode cX3_order 89 = .ok (.lload_n 3, 1) := dk_33 (dk_at dksX3_order_3 18 rfl rfl)
theorem dX3_order_90 : decode cX3_order 90 = .ok (.lload 5, 2) := dk_22 5 (dk_at dksX3_order_3 19 rfl rfl)
theorem dX3_order_92 : decode cX3_order 92 = .ok (.invokevirtual 478, 3) := dk_182 1 222 (dk_at dksX3_order_3 21 rfl rfl)
theorem dX3_order_95 : decode cX3_order 95 = .ok (.ifCond .ne 7, 3) := dk_154 0 7 (dk_at dksX3_order_4 0 rfl rfl)
theorem dX3_order_98 : decode cX3_order 98 = .ok (.iload 9, 2) := dk_21 9 (dk_at dksX3_order_4 3 rfl rfl)
theorem dX3_order_100 : decode cX3_order 100 = .ok (.istore 8, 2) := dk_54 8 (dk_at dksX3_order_4 5 rfl rfl)
theorem dX3_order_102 : decode cX3_order 102 = .ok (.iinc 9 (-1), 3) := dk_132 9 255 (dk_at dksX3_order_4 7 rfl rfl)
theorem dX3_order_105 : decode cX3_order 105 = .ok (.goto (-47), 3) := dk_167 255 209 (dk_at dksX3_order_4 10 rfl rfl)
theorem dX3_order_108 : decode cX3_order 108 = .ok (.iload 8, 2) := dk_21 8 (dk_at dksX3_order_4 13 rfl rfl)
theorem dX3_order_110 : decode cX3_order 110 = .ok (.iconst (-1), 1) := dk_2 (dk_at dksX3_order_4 15 rfl rfl)
theorem dX3_order_111 : decode cX3_order 111 = .ok (.if_icmp .eq 9, 3) := dk_159 0 9 (dk_at dksX3_order_4 16 rfl rfl)
theorem dX3_order_114 : decode cX3_order 114 = .ok (.iload 7, 2) := dk_21 7 (dk_at dksX3_order_4 19 rfl rfl)
theorem dX3_order_116 : decode cX3_order 116 = .ok (.iload_n 2, 1) := dk_28 (dk_at dksX3_order_4 21 rfl rfl)
theorem dX3_order_117 : decode cX3_order 117 = .ok (.if_icmp .ne 6, 3) := dk_160 0 6 (dk_at dksX3_order_5 0 rfl rfl)
theorem dX3_order_120 : decode cX3_order 120 = .ok (.iload 8, 2) := dk_21 8 (dk_at dksX3_order_5 3 rfl rfl)
theorem dX3_order_122 : decode cX3_order 122 = .ok (.ireturn, 1) := dk_172 (dk_at dksX3_order_5 5 rfl rfl)
theorem dX3_order_123 : decode cX3_order 123 = .ok (.lload 5, 2) := dk_22 5 (dk_at dksX3_order_5 6 rfl rfl)
theorem dX3_order_125 : decode cX3_order 125 = .ok (.lconst 1, 1) := dk_10 (dk_at dksX3_order_5 8 rfl rfl)
theorem dX3_order_126 : decode cX3_order 126 = .ok (.iload 8, 2) := dk_21 8 (dk_at dksX3_order_5 9 rfl rfl)
theorem dX3_order_128 : decode cX3_order 128 = .ok (.lshl, 1) := dk_121 (dk_at dksX3_order_5 11 rfl rfl)
theorem dX3_order_129 : decode cX3_order 129 = .ok (.lor, 1) := dk_129 (dk_at dksX3_order_5 12 rfl rfl)
theorem dX3_order_130 : decode cX3_order 130 = .ok (.lstore 5, 2) := dk_55 5 (dk_at dksX3_order_5 13 rfl rfl)
theorem dX3_order_132 : decode cX3_order 132 = .ok (.iinc 7 1, 3) := dk_132 7 1 (dk_at dksX3_order_5 15 rfl rfl)
theorem dX3_order_135 : decode cX3_order 135 = .ok (.goto (-95), 3) := dk_167 255 161 (dk_at dksX3_order_5 18 rfl rfl)
theorem dX3_order_138 : decode cX3_order 138 = .ok (.iconst (-1), 1) := dk_2 (dk_at dksX3_order_5 21 rfl rfl)
theorem dX3_order_139 : decode cX3_order 139 = .ok (.ireturn, 1) := dk_172 (dk_at dksX3_order_5 22 rfl rfl)
abbrev cX3_isBarred : ByteArray := prog_22_method_106_code
def yX3_isBarred : MethodName := ⟨RX3, "isBarred", "(IJJ)Z"⟩
def dkwX3_isBarred_4 : List UInt8 := [132, 8, 1, 167, 255, 201, 3, 172]
abbrev dktX3_isBarred_4 : List UInt8 := dkwX3_isBarred_4 ++ []
def dkwX3_isBarred_3 : List UInt8 := [153, 0, 22, 22, 6, 42, 180, 0, 48, 21, 8, 46, 123, 10, 127, 10, 148, 154, 0, 5, 4, 172]
abbrev dktX3_isBarred_3 : List UInt8 := dkwX3_isBarred_3 ++ dktX3_isBarred_4
def dkwX3_isBarred_2 : List UInt8 := [162, 0, 52, 42, 180, 0, 45, 21, 8, 46, 27, 160, 0, 35, 42, 21, 8, 42, 180, 0, 185, 182, 1, 41]
abbrev dktX3_isBarred_2 : List UInt8 := dkwX3_isBarred_2 ++ dktX3_isBarred_3
def dkwX3_isBarred_1 : List UInt8 := [180, 0, 16, 27, 46, 123, 10, 127, 10, 148, 154, 0, 5, 4, 172, 3, 54, 8, 21, 8, 42, 180, 0, 236]
abbrev dktX3_isBarred_1 : List UInt8 := dkwX3_isBarred_1 ++ dktX3_isBarred_2
def dkwX3_isBarred_0 : List UInt8 := [32, 22, 4, 20, 1, 58, 131, 127, 55, 6, 42, 180, 0, 9, 27, 46, 5, 160, 0, 21, 22, 6, 42]
abbrev dktX3_isBarred_0 : List UInt8 := dkwX3_isBarred_0 ++ dktX3_isBarred_1
theorem dksX3_isBarred_0 : cX3_isBarred.data.toList.drop 0 = dktX3_isBarred_0 := by decide +kernel
theorem dksX3_isBarred_1 : cX3_isBarred.data.toList.drop 23 = dktX3_isBarred_1 := dk_seg dksX3_isBarred_0 23 rfl rfl
theorem dksX3_isBarred_2 : cX3_isBarred.data.toList.drop 47 = dktX3_isBarred_2 := dk_seg dksX3_isBarred_1 24 rfl rfl
theorem dksX3_isBarred_3 : cX3_isBarred.data.toList.drop 71 = dktX3_isBarred_3 := dk_seg dksX3_isBarred_2 24 rfl rfl
theorem dksX3_isBarred_4 : cX3_isBarred.data.toList.drop 93 = dktX3_isBarred_4 := dk_seg dksX3_isBarred_3 22 rfl rfl
theorem dX3_isBarred_0 : decode cX3_isBarred 0 = .ok (.lload_n 2, 1) := dk_32 (dk_at dksX3_isBarred_0 0 rfl rfl)
theorem dX3_isBarred_1 : decode cX3_isBarred 1 = .ok (.lload 4, 2) := dk_22 4 (dk_at dksX3_isBarred_0 1 rfl rfl)
theorem dX3_isBarred_3 : decode cX3_isBarred 3 = .ok (.ldc2_w 314, 3) := dk_20 1 58 (dk_at dksX3_isBarred_0 3 rfl rfl)
theorem dX3_isBarred_6 : decode cX3_isBarred 6 = .ok (.lxor, 1) := dk_131 (dk_at dksX3_isBarred_0 6 rfl rfl)
theorem dX3_isBarred_7 : decode cX3_isBarred 7 = .ok (.land, 1) := dk_127 (dk_at dksX3_isBarred_0 7 rfl rfl)
theorem dX3_isBarred_8 : decode cX3_isBarred 8 = .ok (.lstore 6, 2) := dk_55 6 (dk_at dksX3_isBarred_0 8 rfl rfl)
theorem dX3_isBarred_10 : decode cX3_isBarred 10 = .ok (.aload_n 0, 1) := dk_42 (dk_at dksX3_isBarred_0 10 rfl rfl)
theorem dX3_isBarred_11 : decode cX3_isBarred 11 = .ok (.getfield 9, 3) := dk_180 0 9 (dk_at dksX3_isBarred_0 11 rfl rfl)
theorem dX3_isBarred_14 : decode cX3_isBarred 14 = .ok (.iload_n 1, 1) := dk_27 (dk_at dksX3_isBarred_0 14 rfl rfl)
theorem dX3_isBarred_15 : decode cX3_isBarred 15 = .ok (.iaload, 1) := dk_46 (dk_at dksX3_isBarred_0 15 rfl rfl)
theorem dX3_isBarred_16 : decode cX3_isBarred 16 = .ok (.iconst 2, 1) := dk_5 (dk_at dksX3_isBarred_0 16 rfl rfl)
theorem dX3_isBarred_17 : decode cX3_isBarred 17 = .ok (.if_icmp .ne 21, 3) := dk_160 0 21 (dk_at dksX3_isBarred_0 17 rfl rfl)
theorem dX3_isBarred_20 : decode cX3_isBarred 20 = .ok (.lload 6, 2) := dk_22 6 (dk_at dksX3_isBarred_0 20 rfl rfl)
theorem dX3_isBarred_22 : decode cX3_isBarred 22 = .ok (.aload_n 0, 1) := dk_42 (dk_at dksX3_isBarred_0 22 rfl rfl)
theorem dX3_isBarred_23 : decode cX3_isBarred 23 = .ok (.getfield 16, 3) := dk_180 0 16 (dk_at dksX3_isBarred_1 0 rfl rfl)
theorem dX3_isBarred_26 : decode cX3_isBarred 26 = .ok (.iload_n 1, 1) := dk_27 (dk_at dksX3_isBarred_1 3 rfl rfl)
theorem dX3_isBarred_27 : decode cX3_isBarred 27 = .ok (.iaload, 1) := dk_46 (dk_at dksX3_isBarred_1 4 rfl rfl)
theorem dX3_isBarred_28 : decode cX3_isBarred 28 = .ok (.lshr, 1) := dk_123 (dk_at dksX3_isBarred_1 5 rfl rfl)
theorem dX3_isBarred_29 : decode cX3_isBarred 29 = .ok (.lconst 1, 1) := dk_10 (dk_at dksX3_isBarred_1 6 rfl rfl)
theorem dX3_isBarred_30 : decode cX3_isBarred 30 = .ok (.land, 1) := dk_127 (dk_at dksX3_isBarred_1 7 rfl rfl)
theorem dX3_isBarred_31 : decode cX3_isBarred 31 = .ok (.lconst 1, 1) := dk_10 (dk_at dksX3_isBarred_1 8 rfl rfl)
theorem dX3_isBarred_32 : decode cX3_isBarred 32 = .ok (.lcmp, 1) := dk_148 (dk_at dksX3_isBarred_1 9 rfl rfl)
theorem dX3_isBarred_33 : decode cX3_isBarred 33 = .ok (.ifCond .ne 5, 3) := dk_154 0 5 (dk_at dksX3_isBarred_1 10 rfl rfl)
theorem dX3_isBarred_36 : decode cX3_isBarred 36 = .ok (.iconst 1, 1) := dk_4 (dk_at dksX3_isBarred_1 13 rfl rfl)
theorem dX3_isBarred_37 : decode cX3_isBarred 37 = .ok (.ireturn, 1) := dk_172 (dk_at dksX3_isBarred_1 14 rfl rfl)
theorem dX3_isBarred_38 : decode cX3_isBarred 38 = .ok (.iconst 0, 1) := dk_3 (dk_at dksX3_isBarred_1 15 rfl rfl)
theorem dX3_isBarred_39 : decode cX3_isBarred 39 = .ok (.istore 8, 2) := dk_54 8 (dk_at dksX3_isBarred_1 16 rfl rfl)
theorem dX3_isBarred_41 : decode cX3_isBarred 41 = .ok (.iload 8, 2) := dk_21 8 (dk_at dksX3_isBarred_1 18 rfl rfl)
theorem dX3_isBarred_43 : decode cX3_isBarred 43 = .ok (.aload_n 0, 1) := dk_42 (dk_at dksX3_isBarred_1 20 rfl rfl)
theorem dX3_isBarred_44 : decode cX3_isBarred 44 = .ok (.getfield 236, 3) := dk_180 0 236 (dk_at dksX3_isBarred_1 21 rfl rfl)
theorem dX3_isBarred_47 : decode cX3_isBarred 47 = .ok (.if_icmp .ge 52, 3) := dk_162 0 52 (dk_at dksX3_isBarred_2 0 rfl rfl)
theorem dX3_isBarred_50 : decode cX3_isBarred 50 = .ok (.aload_n 0, 1) := dk_42 (dk_at dksX3_isBarred_2 3 rfl rfl)
theorem dX3_isBarred_51 : decode cX3_isBarred 51 = .ok (.getfield 45, 3) := dk_180 0 45 (dk_at dksX3_isBarred_2 4 rfl rfl)
theorem dX3_isBarred_54 : decode cX3_isBarred 54 = .ok (.iload 8, 2) := dk_21 8 (dk_at dksX3_isBarred_2 7 rfl rfl)
theorem dX3_isBarred_56 : decode cX3_isBarred 56 = .ok (.iaload, 1) := dk_46 (dk_at dksX3_isBarred_2 9 rfl rfl)
theorem dX3_isBarred_57 : decode cX3_isBarred 57 = .ok (.iload_n 1, 1) := dk_27 (dk_at dksX3_isBarred_2 10 rfl rfl)
theorem dX3_isBarred_58 : decode cX3_isBarred 58 = .ok (.if_icmp .ne 35, 3) := dk_160 0 35 (dk_at dksX3_isBarred_2 11 rfl rfl)
theorem dX3_isBarred_61 : decode cX3_isBarred 61 = .ok (.aload_n 0, 1) := dk_42 (dk_at dksX3_isBarred_2 14 rfl rfl)
theorem dX3_isBarred_62 : decode cX3_isBarred 62 = .ok (.iload 8, 2) := dk_21 8 (dk_at dksX3_isBarred_2 15 rfl rfl)
theorem dX3_isBarred_64 : decode cX3_isBarred 64 = .ok (.aload_n 0, 1) := dk_42 (dk_at dksX3_isBarred_2 17 rfl rfl)
theorem dX3_isBarred_65 : decode cX3_isBarred 65 = .ok (.getfield 185, 3) := dk_180 0 185 (dk_at dksX3_isBarred_2 18 rfl rfl)
theorem dX3_isBarred_68 : decode cX3_isBarred 68 = .ok (.invokevirtual 297, 3) := dk_182 1 41 (dk_at dksX3_isBarred_2 21 rfl rfl)
theorem dX3_isBarred_71 : decode cX3_isBarred 71 = .ok (.ifCond .eq 22, 3) := dk_153 0 22 (dk_at dksX3_isBarred_3 0 rfl rfl)
theorem dX3_isBarred_74 : decode cX3_isBarred 74 = .ok (.lload 6, 2) := dk_22 6 (dk_at dksX3_isBarred_3 3 rfl rfl)
theorem dX3_isBarred_76 : decode cX3_isBarred 76 = .ok (.aload_n 0, 1) := dk_42 (dk_at dksX3_isBarred_3 5 rfl rfl)
theorem dX3_isBarred_77 : decode cX3_isBarred 77 = .ok (.getfield 48, 3) := dk_180 0 48 (dk_at dksX3_isBarred_3 6 rfl rfl)
theorem dX3_isBarred_80 : decode cX3_isBarred 80 = .ok (.iload 8, 2) := dk_21 8 (dk_at dksX3_isBarred_3 9 rfl rfl)
theorem dX3_isBarred_82 : decode cX3_isBarred 82 = .ok (.iaload, 1) := dk_46 (dk_at dksX3_isBarred_3 11 rfl rfl)
theorem dX3_isBarred_83 : decode cX3_isBarred 83 = .ok (.lshr, 1) := dk_123 (dk_at dksX3_isBarred_3 12 rfl rfl)
theorem dX3_isBarred_84 : decode cX3_isBarred 84 = .ok (.lconst 1, 1) := dk_10 (dk_at dksX3_isBarred_3 13 rfl rfl)
theorem dX3_isBarred_85 : decode cX3_isBarred 85 = .ok (.land, 1) := dk_127 (dk_at dksX3_isBarred_3 14 rfl rfl)
theorem dX3_isBarred_86 : decode cX3_isBarred 86 = .ok (.lconst 1, 1) := dk_10 (dk_at dksX3_isBarred_3 15 rfl rfl)
theorem dX3_isBarred_87 : decode cX3_isBarred 87 = .ok (.lcmp, 1) := dk_148 (dk_at dksX3_isBarred_3 16 rfl rfl)
theorem dX3_isBarred_88 : decode cX3_isBarred 88 = .ok (.ifCond .ne 5, 3) := dk_154 0 5 (dk_at dksX3_isBarred_3 17 rfl rfl)
theorem dX3_isBarred_91 : decode cX3_isBarred 91 = .ok (.iconst 1, 1) := dk_4 (dk_at dksX3_isBarred_3 20 rfl rfl)
theorem dX3_isBarred_92 : decode cX3_isBarred 92 = .ok (.ireturn, 1) := dk_172 (dk_at dksX3_isBarred_3 21 rfl rfl)
theorem dX3_isBarred_93 : decode cX3_isBarred 93 = .ok (.iinc 8 1, 3) := dk_132 8 1 (dk_at dksX3_isBarred_4 0 rfl rfl)
theorem dX3_isBarred_96 : decode cX3_isBarred 96 = .ok (.goto (-55), 3) := dk_167 255 201 (dk_at dksX3_isBarred_4 3 rfl rfl)
theorem dX3_isBarred_99 : decode cX3_isBarred 99 = .ok (.iconst 0, 1) := dk_3 (dk_at dksX3_isBarred_4 6 rfl rfl)
theorem dX3_isBarred_100 : decode cX3_isBarred 100 = .ok (.ireturn, 1) := dk_172 (dk_at dksX3_isBarred_4 7 rfl rfl)
abbrev cX3_count : ByteArray := prog_22_method_108_code
def yX3_count : MethodName := ⟨RX3, "count", "(I)I"⟩
def dkwX3_count_8 : List UInt8 := [29, 51, 153, 0, 7, 4, 167, 0, 4, 3, 96, 61, 132, 3, 1, 167, 255, 228, 28, 172, 2, 172]
abbrev dktX3_count_8 : List UInt8 := dkwX3_count_8 ++ []
def dkwX3_count_7 : List UInt8 := [180, 0, 205, 172, 42, 180, 1, 21, 172, 3, 62, 29, 42, 180, 1, 150, 162, 0, 26, 28, 42, 180, 0, 121]
abbrev dktX3_count_7 : List UInt8 := dkwX3_count_7 ++ dktX3_count_8
def dkwX3_count_6 : List UInt8 := [153, 0, 7, 3, 167, 0, 4, 4, 96, 61, 132, 3, 1, 167, 255, 228, 28, 172, 42, 180, 1, 191, 172, 42]
abbrev dktX3_count_6 : List UInt8 := dkwX3_count_6 ++ dktX3_count_7
def dkwX3_count_5 : List UInt8 := [172, 42, 180, 1, 172, 172, 3, 62, 29, 42, 180, 1, 188, 162, 0, 26, 28, 42, 180, 0, 172, 29, 51]
abbrev dktX3_count_5 : List UInt8 := dkwX3_count_5 ++ dktX3_count_6
def dkwX3_count_4 : List UInt8 := [96, 61, 132, 3, 1, 167, 255, 225, 28, 172, 42, 180, 1, 144, 172, 42, 180, 1, 150, 172, 42, 180, 1, 119]
abbrev dktX3_count_4 : List UInt8 := dkwX3_count_4 ++ dktX3_count_5
def dkwX3_count_3 : List UInt8 := [180, 0, 236, 162, 0, 29, 28, 42, 180, 0, 54, 29, 46, 17, 39, 15, 160, 0, 7, 4, 167, 0, 4, 3]
abbrev dktX3_count_3 : List UInt8 := dkwX3_count_3 ++ dktX3_count_4
def dkwX3_count_2 : List UInt8 := [42, 180, 0, 185, 172, 42, 180, 0, 196, 172, 42, 180, 0, 199, 172, 42, 180, 0, 243, 172, 3, 62, 29, 42]
abbrev dktX3_count_2 : List UInt8 := dkwX3_count_2 ++ dktX3_count_3
def dkwX3_count_1 : List UInt8 := [170, 0, 0, 0, 0, 0, 0, 235, 0, 0, 0, 0, 0, 0, 0, 13, 0, 0, 0, 72, 0, 0, 0, 77, 0, 0, 0, 82, 0, 0, 0, 87, 0, 0, 0, 92, 0, 0, 0, 130, 0, 0, 0, 135, 0, 0, 0, 140, 0, 0, 0, 145, 0, 0, 0, 150, 0, 0, 0, 185, 0, 0, 0, 190, 0, 0, 0, 195, 0, 0, 0, 200]
abbrev dktX3_count_1 : List UInt8 := dkwX3_count_1 ++ dktX3_count_2
def dkwX3_count_0 : List UInt8 := [42, 3, 181, 0, 181, 3, 61, 27]
abbrev dktX3_count_0 : List UInt8 := dkwX3_count_0 ++ dktX3_count_1
theorem dksX3_count_0 : cX3_count.data.toList.drop 0 = dktX3_count_0 := by decide +kernel
theorem dksX3_count_1 : cX3_count.data.toList.drop 8 = dktX3_count_1 := dk_seg dksX3_count_0 8 rfl rfl
theorem dksX3_count_2 : cX3_count.data.toList.drop 80 = dktX3_count_2 := dk_seg dksX3_count_1 72 rfl rfl
theorem dksX3_count_3 : cX3_count.data.toList.drop 104 = dktX3_count_3 := dk_seg dksX3_count_2 24 rfl rfl
theorem dksX3_count_4 : cX3_count.data.toList.drop 128 = dktX3_count_4 := dk_seg dksX3_count_3 24 rfl rfl
theorem dksX3_count_5 : cX3_count.data.toList.drop 152 = dktX3_count_5 := dk_seg dksX3_count_4 24 rfl rfl
theorem dksX3_count_6 : cX3_count.data.toList.drop 175 = dktX3_count_6 := dk_seg dksX3_count_5 23 rfl rfl
theorem dksX3_count_7 : cX3_count.data.toList.drop 199 = dktX3_count_7 := dk_seg dksX3_count_6 24 rfl rfl
theorem dksX3_count_8 : cX3_count.data.toList.drop 223 = dktX3_count_8 := dk_seg dksX3_count_7 24 rfl rfl
theorem dX3_count_0 : decode cX3_count 0 = .ok (.aload_n 0, 1) := dk_42 (dk_at dksX3_count_0 0 rfl rfl)
theorem dX3_count_1 : decode cX3_count 1 = .ok (.iconst 0, 1) := dk_3 (dk_at dksX3_count_0 1 rfl rfl)
theorem dX3_count_2 : decode cX3_count 2 = .ok (.putfield 181, 3) := dk_181 0 181 (dk_at dksX3_count_0 2 rfl rfl)
theorem dX3_count_5 : decode cX3_count 5 = .ok (.iconst 0, 1) := dk_3 (dk_at dksX3_count_0 5 rfl rfl)
theorem dX3_count_6 : decode cX3_count 6 = .ok (.istore_n 2, 1) := dk_61 (dk_at dksX3_count_0 6 rfl rfl)
theorem dX3_count_7 : decode cX3_count 7 = .ok (.iload_n 1, 1) := dk_27 (dk_at dksX3_count_0 7 rfl rfl)
theorem dX3_count_8 : decode cX3_count 8 = .ok (.tableswitch 235 0 13 #[72, 77, 82, 87, 92, 130, 135, 140, 145, 150, 185, 190, 195, 200], 72) := by decide +kernel
theorem dX3_count_80 : decode cX3_count 80 = .ok (.aload_n 0, 1) := dk_42 (dk_at dksX3_count_2 0 rfl rfl)
theorem dX3_count_81 : decode cX3_count 81 = .ok (.getfield 185, 3) := dk_180 0 185 (dk_at dksX3_count_2 1 rfl rfl)
theorem dX3_count_84 : decode cX3_count 84 = .ok (.ireturn, 1) := dk_172 (dk_at dksX3_count_2 4 rfl rfl)
theorem dX3_count_85 : decode cX3_count 85 = .ok (.aload_n 0, 1) := dk_42 (dk_at dksX3_count_2 5 rfl rfl)
theorem dX3_count_86 : decode cX3_count 86 = .ok (.getfield 196, 3) := dk_180 0 196 (dk_at dksX3_count_2 6 rfl rfl)
theorem dX3_count_89 : decode cX3_count 89 = .ok (.ireturn, 1) := dk_172 (dk_at dksX3_count_2 9 rfl rfl)
theorem dX3_count_90 : decode cX3_count 90 = .ok (.aload_n 0, 1) := dk_42 (dk_at dksX3_count_2 10 rfl rfl)
theorem dX3_count_91 : decode cX3_count 91 = .ok (.getfield 199, 3) := dk_180 0 199 (dk_at dksX3_count_2 11 rfl rfl)
theorem dX3_count_94 : decode cX3_count 94 = .ok (.ireturn, 1) := dk_172 (dk_at dksX3_count_2 14 rfl rfl)
theorem dX3_count_95 : decode cX3_count 95 = .ok (.aload_n 0, 1) := dk_42 (dk_at dksX3_count_2 15 rfl rfl)
theorem dX3_count_96 : decode cX3_count 96 = .ok (.getfield 243, 3) := dk_180 0 243 (dk_at dksX3_count_2 16 rfl rfl)
theorem dX3_count_99 : decode cX3_count 99 = .ok (.ireturn, 1) := dk_172 (dk_at dksX3_count_2 19 rfl rfl)
theorem dX3_count_100 : decode cX3_count 100 = .ok (.iconst 0, 1) := dk_3 (dk_at dksX3_count_2 20 rfl rfl)
theorem dX3_count_101 : decode cX3_count 101 = .ok (.istore_n 3, 1) := dk_62 (dk_at dksX3_count_2 21 rfl rfl)
theorem dX3_count_102 : decode cX3_count 102 = .ok (.iload_n 3, 1) := dk_29 (dk_at dksX3_count_2 22 rfl rfl)
theorem dX3_count_103 : decode cX3_count 103 = .ok (.aload_n 0, 1) := dk_42 (dk_at dksX3_count_2 23 rfl rfl)
theorem dX3_count_104 : decode cX3_count 104 = .ok (.getfield 236, 3) := dk_180 0 236 (dk_at dksX3_count_3 0 rfl rfl)
theorem dX3_count_107 : decode cX3_count 107 = .ok (.if_icmp .ge 29, 3) := dk_162 0 29 (dk_at dksX3_count_3 3 rfl rfl)
theorem dX3_count_110 : decode cX3_count 110 = .ok (.iload_n 2, 1) := dk_28 (dk_at dksX3_count_3 6 rfl rfl)
theorem dX3_count_111 : decode cX3_count 111 = .ok (.aload_n 0, 1) := dk_42 (dk_at dksX3_count_3 7 rfl rfl)
theorem dX3_count_112 : decode cX3_count 112 = .ok (.getfield 54, 3) := dk_180 0 54 (dk_at dksX3_count_3 8 rfl rfl)
theorem dX3_count_115 : decode cX3_count 115 = .ok (.iload_n 3, 1) := dk_29 (dk_at dksX3_count_3 11 rfl rfl)
theorem dX3_count_116 : decode cX3_count 116 = .ok (.iaload, 1) := dk_46 (dk_at dksX3_count_3 12 rfl rfl)
theorem dX3_count_117 : decode cX3_count 117 = .ok (.sipush 9999, 3) := dk_17 39 15 (dk_at dksX3_count_3 13 rfl rfl)
theorem dX3_count_120 : decode cX3_count 120 = .ok (.if_icmp .ne 7, 3) := dk_160 0 7 (dk_at dksX3_count_3 16 rfl rfl)
theorem dX3_count_123 : decode cX3_count 123 = .ok (.iconst 1, 1) := dk_4 (dk_at dksX3_count_3 19 rfl rfl)
theorem dX3_count_124 : decode cX3_count 124 = .ok (.goto 4, 3) := dk_167 0 4 (dk_at dksX3_count_3 20 rfl rfl)
theorem dX3_count_127 : decode cX3_count 127 = .ok (.iconst 0, 1) := dk_3 (dk_at dksX3_count_3 23 rfl rfl)
theorem dX3_count_128 : decode cX3_count 128 = .ok (.iadd, 1) := dk_96 (dk_at dksX3_count_4 0 rfl rfl)
theorem dX3_count_129 : decode cX3_count 129 = .ok (.istore_n 2, 1) := dk_61 (dk_at dksX3_count_4 1 rfl rfl)
theorem dX3_count_130 : decode cX3_count 130 = .ok (.iinc 3 1, 3) := dk_132 3 1 (dk_at dksX3_count_4 2 rfl rfl)
theorem dX3_count_133 : decode cX3_count 133 = .ok (.goto (-31), 3) := dk_167 255 225 (dk_at dksX3_count_4 5 rfl rfl)
theorem dX3_count_136 : decode cX3_count 136 = .ok (.iload_n 2, 1) := dk_28 (dk_at dksX3_count_4 8 rfl rfl)
theorem dX3_count_137 : decode cX3_count 137 = .ok (.ireturn, 1) := dk_172 (dk_at dksX3_count_4 9 rfl rfl)
theorem dX3_count_138 : decode cX3_count 138 = .ok (.aload_n 0, 1) := dk_42 (dk_at dksX3_count_4 10 rfl rfl)
theorem dX3_count_139 : decode cX3_count 139 = .ok (.getfield 400, 3) := dk_180 1 144 (dk_at dksX3_count_4 11 rfl rfl)
theorem dX3_count_142 : decode cX3_count 142 = .ok (.ireturn, 1) := dk_172 (dk_at dksX3_count_4 14 rfl rfl)
theorem dX3_count_143 : decode cX3_count 143 = .ok (.aload_n 0, 1) := dk_42 (dk_at dksX3_count_4 15 rfl rfl)
theorem dX3_count_144 : decode cX3_count 144 = .ok (.getfield 406, 3) := dk_180 1 150 (dk_at dksX3_count_4 16 rfl rfl)
theorem dX3_count_147 : decode cX3_count 147 = .ok (.ireturn, 1) := dk_172 (dk_at dksX3_count_4 19 rfl rfl)
theorem dX3_count_148 : decode cX3_count 148 = .ok (.aload_n 0, 1) := dk_42 (dk_at dksX3_count_4 20 rfl rfl)
theorem dX3_count_149 : decode cX3_count 149 = .ok (.getfield 375, 3) := dk_180 1 119 (dk_at dksX3_count_4 21 rfl rfl)
theorem dX3_count_152 : decode cX3_count 152 = .ok (.ireturn, 1) := dk_172 (dk_at dksX3_count_5 0 rfl rfl)
theorem dX3_count_153 : decode cX3_count 153 = .ok (.aload_n 0, 1) := dk_42 (dk_at dksX3_count_5 1 rfl rfl)
theorem dX3_count_154 : decode cX3_count 154 = .ok (.getfield 428, 3) := dk_180 1 172 (dk_at dksX3_count_5 2 rfl rfl)
theorem dX3_count_157 : decode cX3_count 157 = .ok (.ireturn, 1) := dk_172 (dk_at dksX3_count_5 5 rfl rfl)
theorem dX3_count_158 : decode cX3_count 158 = .ok (.iconst 0, 1) := dk_3 (dk_at dksX3_count_5 6 rfl rfl)
theorem dX3_count_159 : decode cX3_count 159 = .ok (.istore_n 3, 1) := dk_62 (dk_at dksX3_count_5 7 rfl rfl)
theorem dX3_count_160 : decode cX3_count 160 = .ok (.iload_n 3, 1) := dk_29 (dk_at dksX3_count_5 8 rfl rfl)
theorem dX3_count_161 : decode cX3_count 161 = .ok (.aload_n 0, 1) := dk_42 (dk_at dksX3_count_5 9 rfl rfl)
theorem dX3_count_162 : decode cX3_count 162 = .ok (.getfield 444, 3) := dk_180 1 188 (dk_at dksX3_count_5 10 rfl rfl)
theorem dX3_count_165 : decode cX3_count 165 = .ok (.if_icmp .ge 26, 3) := dk_162 0 26 (dk_at dksX3_count_5 13 rfl rfl)
theorem dX3_count_168 : decode cX3_count 168 = .ok (.iload_n 2, 1) := dk_28 (dk_at dksX3_count_5 16 rfl rfl)
theorem dX3_count_169 : decode cX3_count 169 = .ok (.aload_n 0, 1) := dk_42 (dk_at dksX3_count_5 17 rfl rfl)
theorem dX3_count_170 : decode cX3_count 170 = .ok (.getfield 172, 3) := dk_180 0 172 (dk_at dksX3_count_5 18 rfl rfl)
theorem dX3_count_173 : decode cX3_count 173 = .ok (.iload_n 3, 1) := dk_29 (dk_at dksX3_count_5 21 rfl rfl)
theorem dX3_count_174 : decode cX3_count 174 = .ok (.baload, 1) := dk_51 (dk_at dksX3_count_5 22 rfl rfl)
theorem dX3_count_175 : decode cX3_count 175 = .ok (.ifCond .eq 7, 3) := dk_153 0 7 (dk_at dksX3_count_6 0 rfl rfl)
theorem dX3_count_178 : decode cX3_count 178 = .ok (.iconst 0, 1) := dk_3 (dk_at dksX3_count_6 3 rfl rfl)
theorem dX3_count_179 : decode cX3_count 179 = .ok (.goto 4, 3) := dk_167 0 4 (dk_at dksX3_count_6 4 rfl rfl)
theorem dX3_count_182 : decode cX3_count 182 = .ok (.iconst 1, 1) := dk_4 (dk_at dksX3_count_6 7 rfl rfl)
theorem dX3_count_183 : decode cX3_count 183 = .ok (.iadd, 1) := dk_96 (dk_at dksX3_count_6 8 rfl rfl)
theorem dX3_count_184 : decode cX3_count 184 = .ok (.istore_n 2, 1) := dk_61 (dk_at dksX3_count_6 9 rfl rfl)
theorem dX3_count_185 : decode cX3_count 185 = .ok (.iinc 3 1, 3) := dk_132 3 1 (dk_at dksX3_count_6 10 rfl rfl)
theorem dX3_count_188 : decode cX3_count 188 = .ok (.goto (-28), 3) := dk_167 255 228 (dk_at dksX3_count_6 13 rfl rfl)
theorem dX3_count_191 : decode cX3_count 191 = .ok (.iload_n 2, 1) := dk_28 (dk_at dksX3_count_6 16 rfl rfl)
theorem dX3_count_192 : decode cX3_count 192 = .ok (.ireturn, 1) := dk_172 (dk_at dksX3_count_6 17 rfl rfl)
theorem dX3_count_193 : decode cX3_count 193 = .ok (.aload_n 0, 1) := dk_42 (dk_at dksX3_count_6 18 rfl rfl)
theorem dX3_count_194 : decode cX3_count 194 = .ok (.getfield 447, 3) := dk_180 1 191 (dk_at dksX3_count_6 19 rfl rfl)
theorem dX3_count_197 : decode cX3_count 197 = .ok (.ireturn, 1) := dk_172 (dk_at dksX3_count_6 22 rfl rfl)
theorem dX3_count_198 : decode cX3_count 198 = .ok (.aload_n 0, 1) := dk_42 (dk_at dksX3_count_6 23 rfl rfl)
theorem dX3_count_199 : decode cX3_count 199 = .ok (.getfield 205, 3) := dk_180 0 205 (dk_at dksX3_count_7 0 rfl rfl)
theorem dX3_count_202 : decode cX3_count 202 = .ok (.ireturn, 1) := dk_172 (dk_at dksX3_count_7 3 rfl rfl)
theorem dX3_count_203 : decode cX3_count 203 = .ok (.aload_n 0, 1) := dk_42 (dk_at dksX3_count_7 4 rfl rfl)
theorem dX3_count_204 : decode cX3_count 204 = .ok (.getfield 277, 3) := dk_180 1 21 (dk_at dksX3_count_7 5 rfl rfl)
theorem dX3_count_207 : decode cX3_count 207 = .ok (.ireturn, 1) := dk_172 (dk_at dksX3_count_7 8 rfl rfl)
theorem dX3_count_208 : decode cX3_count 208 = .ok (.iconst 0, 1) := dk_3 (dk_at dksX3_count_7 9 rfl rfl)
theorem dX3_count_209 : decode cX3_count 209 = .ok (.istore_n 3, 1) := dk_62 (dk_at dksX3_count_7 10 rfl rfl)
theorem dX3_count_210 : decode cX3_count 210 = .ok (.iload_n 3, 1) := dk_29 (dk_at dksX3_count_7 11 rfl rfl)
theorem dX3_count_211 : decode cX3_count 211 = .ok (.aload_n 0, 1) := dk_42 (dk_at dksX3_count_7 12 rfl rfl)
theorem dX3_count_212 : decode cX3_count 212 = .ok (.getfield 406, 3) := dk_180 1 150 (dk_at dksX3_count_7 13 rfl rfl)
theorem dX3_count_215 : decode cX3_count 215 = .ok (.if_icmp .ge 26, 3) := dk_162 0 26 (dk_at dksX3_count_7 16 rfl rfl)
theorem dX3_count_218 : decode cX3_count 218 = .ok (.iload_n 2, 1) := dk_28 (dk_at dksX3_count_7 19 rfl rfl)
theorem dX3_count_219 : decode cX3_count 219 = .ok (.aload_n 0, 1) := dk_42 (dk_at dksX3_count_7 20 rfl rfl)
theorem dX3_count_220 : decode cX3_count 220 = .ok (.getfield 121, 3) := dk_180 0 121 (dk_at dksX3_count_7 21 rfl rfl)
theorem dX3_count_223 : decode cX3_count 223 = .ok (.iload_n 3, 1) := dk_29 (dk_at dksX3_count_8 0 rfl rfl)
theorem dX3_count_224 : decode cX3_count 224 = .ok (.baload, 1) := dk_51 (dk_at dksX3_count_8 1 rfl rfl)
theorem dX3_count_225 : decode cX3_count 225 = .ok (.ifCond .eq 7, 3) := dk_153 0 7 (dk_at dksX3_count_8 2 rfl rfl)
theorem dX3_count_228 : decode cX3_count 228 = .ok (.iconst 1, 1) := dk_4 (dk_at dksX3_count_8 5 rfl rfl)
theorem dX3_count_229 : decode cX3_count 229 = .ok (.goto 4, 3) := dk_167 0 4 (dk_at dksX3_count_8 6 rfl rfl)
theorem dX3_count_232 : decode cX3_count 232 = .ok (.iconst 0, 1) := dk_3 (dk_at dksX3_count_8 9 rfl rfl)
theorem dX3_count_233 : decode cX3_count 233 = .ok (.iadd, 1) := dk_96 (dk_at dksX3_count_8 10 rfl rfl)
theorem dX3_count_234 : decode cX3_count 234 = .ok (.istore_n 2, 1) := dk_61 (dk_at dksX3_count_8 11 rfl rfl)
theorem dX3_count_235 : decode cX3_count 235 = .ok (.iinc 3 1, 3) := dk_132 3 1 (dk_at dksX3_count_8 12 rfl rfl)
theorem dX3_count_238 : decode cX3_count 238 = .ok (.goto (-28), 3) := dk_167 255 228 (dk_at dksX3_count_8 15 rfl rfl)
theorem dX3_count_241 : decode cX3_count 241 = .ok (.iload_n 2, 1) := dk_28 (dk_at dksX3_count_8 18 rfl rfl)
theorem dX3_count_242 : decode cX3_count 242 = .ok (.ireturn, 1) := dk_172 (dk_at dksX3_count_8 19 rfl rfl)
theorem dX3_count_243 : decode cX3_count 243 = .ok (.iconst (-1), 1) := dk_2 (dk_at dksX3_count_8 20 rfl rfl)
theorem dX3_count_244 : decode cX3_count 244 = .ok (.ireturn, 1) := dk_172 (dk_at dksX3_count_8 21 rfl rfl)
