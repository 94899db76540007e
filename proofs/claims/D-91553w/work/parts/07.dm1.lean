set_option maxRecDepth 100000
abbrev cX3_isAmong : ByteArray := prog_22_method_34_code
def yX3_isAmong : MethodName := ⟨RX3, "isAmong", "(II)Z"⟩
def dkwX3_isAmong_1 : List UInt8 := [4, 126, 4, 160, 0, 7, 4, 167, 0, 4, 3, 172]
abbrev dktX3_isAmong_1 : List UInt8 := dkwX3_isAmong_1 ++ []
def dkwX3_isAmong_0 : List UInt8 := [42, 27, 182, 1, 11, 153, 0, 29, 42, 28, 182, 0, 226, 153, 0, 21, 42, 180, 0, 60, 27, 46, 28, 122]
abbrev dktX3_isAmong_0 : List UInt8 := dkwX3_isAmong_0 ++ dktX3_isAmong_1
theorem dksX3_isAmong_0 : cX3_isAmong.data.toList.drop 0 = dktX3_isAmong_0 := by decide +kernel
theorem dksX3_isAmong_1 : cX3_isAmong.data.toList.drop 24 = dktX3_isAmong_1 := dk_seg dksX3_isAmong_0 24 rfl rfl
theorem dX3_isAmong_0 : decode cX3_isAmong 0 = .ok (.aload_n 0, 1) := dk_42 (dk_at dksX3_isAmong_0 0 rfl rfl)
theorem dX3_isAmong_1 : decode cX3_isAmong 1 = .ok (.iload_n 1, 1) := dk_27 (dk_at dksX3_isAmong_0 1 rfl rfl)
theorem dX3_isAmong_2 : decode cX3_isAmong 2 = .ok (.invokevirtual 267, 3) := dk_182 1 11 (dk_at dksX3_isAmong_0 2 rfl rfl)
theorem dX3_isAmong_5 : decode cX3_isAmong 5 = .ok (.ifCond .eq 29, 3) := dk_153 0 29 (dk_at dksX3_isAmong_0 5 rfl rfl)
theorem dX3_isAmong_8 : decode cX3_isAmong 8 = .ok (.aload_n 0, 1) := dk_42 (dk_at dksX3_isAmong_0 8 rfl rfl)
theorem dX3_isAmong_9 : decode cX3_isAmong 9 = .ok (.iload_n 2, 1) := dk_28 (dk_at dksX3_isAmong_0 9 rfl rfl)
theorem dX3_isAmong_10 : decode cX3_isAmong 10 = .ok (.invokevirtual 226, 3) := dk_182 0 226 (dk_at dksX3_isAmong_0 10 rfl rfl)
theorem dX3_isAmong_13 : decode cX3_isAmong 13 = .ok (.ifCond .eq 21, 3) := dk_153 0 21 (dk_at dksX3_isAmong_0 13 rfl rfl)
theorem dX3_isAmong_16 : decode cX3_isAmong 16 = .ok (.aload_n 0, 1) := dk_42 (dk_at dksX3_isAmong_0 16 rfl rfl)
theorem dX3_isAmong_17 : decode cX3_isAmong 17 = .ok (.getfield 60, 3) := dk_180 0 60 (dk_at dksX3_isAmong_0 17 rfl rfl)
theorem dX3_isAmong_20 : decode cX3_isAmong 20 = .ok (.iload_n 1, 1) := dk_27 (dk_at dksX3_isAmong_0 20 rfl rfl)
theorem dX3_isAmong_21 : decode cX3_isAmong 21 = .ok (.iaload, 1) := dk_46 (dk_at dksX3_isAmong_0 21 rfl rfl)
theorem dX3_isAmong_22 : decode cX3_isAmong 22 = .ok (.iload_n 2, 1) := dk_28 (dk_at dksX3_isAmong_0 22 rfl rfl)
theorem dX3_isAmong_23 : decode cX3_isAmong 23 = .ok (.ishr, 1) := dk_122 (dk_at dksX3_isAmong_0 23 rfl rfl)
theorem dX3_isAmong_24 : decode cX3_isAmong 24 = .ok (.iconst 1, 1) := dk_4 (dk_at dksX3_isAmong_1 0 rfl rfl)
theorem dX3_isAmong_25 : decode cX3_isAmong 25 = .ok (.iand, 1) := dk_126 (dk_at dksX3_isAmong_1 1 rfl rfl)
theorem dX3_isAmong_26 : decode cX3_isAmong 26 = .ok (.iconst 1, 1) := dk_4 (dk_at dksX3_isAmong_1 2 rfl rfl)
theorem dX3_isAmong_27 : decode cX3_isAmong 27 = .ok (.if_icmp .ne 7, 3) := dk_160 0 7 (dk_at dksX3_isAmong_1 3 rfl rfl)
theorem dX3_isAmong_30 : decode cX3_isAmong 30 = .ok (.iconst 1, 1) := dk_4 (dk_at dksX3_isAmong_1 6 rfl rfl)
theorem dX3_isAmong_31 : decode cX3_isAmong 31 = .ok (.goto 4, 3) := dk_167 0 4 (dk_at dksX3_isAmong_1 7 rfl rfl)
theorem dX3_isAmong_34 : decode cX3_isAmong 34 = .ok (.iconst 0, 1) := dk_3 (dk_at dksX3_isAmong_1 10 rfl rfl)
theorem dX3_isAmong_35 : decode cX3_isAmong 35 = .ok (.ireturn, 1) := dk_172 (dk_at dksX3_isAmong_1 11 rfl rfl)
abbrev cX3_pieceOf : ByteArray := prog_22_method_35_code
def yX3_pieceOf : MethodName := ⟨RX3, "pieceOf", "(II)I"⟩
def dkwX3_pieceOf_2 : List UInt8 := [172]
abbrev dktX3_pieceOf_2 : List UInt8 := dkwX3_pieceOf_2 ++ []
def dkwX3_pieceOf_1 : List UInt8 := [180, 0, 72, 16, 12, 27, 104, 21, 4, 96, 46, 96, 17, 3, 251, 112, 62, 132, 4, 255, 167, 255, 225, 29]
abbrev dktX3_pieceOf_1 : List UInt8 := dkwX3_pieceOf_1 ++ dktX3_pieceOf_2
def dkwX3_pieceOf_0 : List UInt8 := [3, 62, 42, 180, 0, 63, 27, 46, 4, 100, 54, 4, 21, 4, 155, 0, 32, 29, 28, 4, 96, 104, 42]
abbrev dktX3_pieceOf_0 : List UInt8 := dkwX3_pieceOf_0 ++ dktX3_pieceOf_1
theorem dksX3_pieceOf_0 : cX3_pieceOf.data.toList.drop 0 = dktX3_pieceOf_0 := by decide +kernel
theorem dksX3_pieceOf_1 : cX3_pieceOf.data.toList.drop 23 = dktX3_pieceOf_1 := dk_seg dksX3_pieceOf_0 23 rfl rfl
theorem dksX3_pieceOf_2 : cX3_pieceOf.data.toList.drop 47 = dktX3_pieceOf_2 := dk_seg dksX3_pieceOf_1 24 rfl rfl
theorem dX3_pieceOf_0 : decode cX3_pieceOf 0 = .ok (.iconst 0, 1) := dk_3 (dk_at dksX3_pieceOf_0 0 rfl rfl)
theorem dX3_pieceOf_1 : decode cX3_pieceOf 1 = .ok (.istore_n 3, 1) := dk_62 (dk_at dksX3_pieceOf_0 1 rfl rfl)
theorem dX3_pieceOf_2 : decode cX3_pieceOf 2 = .ok (.aload_n 0, 1) := dk_42 (dk_at dksX3_pieceOf_0 2 rfl rfl)
theorem dX3_pieceOf_3 : decode cX3_pieceOf 3 = .ok (.getfield 63, 3) := dk_180 0 63 (dk_at dksX3_pieceOf_0 3 rfl rfl)
theorem dX3_pieceOf_6 : decode cX3_pieceOf 6 = .ok (.iload_n 1, 1) := dk_27 (dk_at dksX3_pieceOf_0 6 rfl rfl)
theorem dX3_pieceOf_7 : decode cX3_pieceOf 7 = .ok (.iaload, 1) := dk_46 (dk_at dksX3_pieceOf_0 7 rfl rfl)
theorem dX3_pieceOf_8 : decode cX3_pieceOf 8 = .ok (.iconst 1, 1) := dk_4 (dk_at dksX3_pieceOf_0 8 rfl rfl)
theorem dX3_pieceOf_9 : decode cX3_pieceOf 9 = .ok (.isub, 1) := dk_100 (dk_at dksX3_pieceOf_0 9 rfl rfl)
theorem dX3_pieceOf_10 : decode cX3_pieceOf 10 = .ok (.istore 4, 2) := dk_54 4 (dk_at dksX3_pieceOf_0 10 rfl rfl)
theorem dX3_pieceOf_12 : decode cX3_pieceOf 12 = .ok (.iload 4, 2) := dk_21 4 (dk_at dksX3_pieceOf_0 12 rfl rfl)
theorem dX3_pieceOf_14 : decode cX3_pieceOf 14 = .ok (.ifCond .lt 32, 3) := dk_155 0 32 (dk_at dksX3_pieceOf_0 14 rfl rfl)
theorem dX3_pieceOf_17 : decode cX3_pieceOf 17 = .ok (.iload_n 3, 1) := dk_29 (dk_at dksX3_pieceOf_0 17 rfl rfl)
theorem dX3_pieceOf_18 : decode cX3_pieceOf 18 = .ok (.iload_n 2, 1) := dk_28 (dk_at dksX3_pieceOf_0 18 rfl rfl)
theorem dX3_pieceOf_19 : decode cX3_pieceOf 19 = .ok (.iconst 1, 1) := dk_4 (dk_at dksX3_pieceOf_0 19 rfl rfl)
theorem dX3_pieceOf_20 : decode cX3_pieceOf 20 = .ok (.iadd, 1) := dk_96 (dk_at dksX3_pieceOf_0 20 rfl rfl)
theorem dX3_pieceOf_21 : decode cX3_pieceOf 21 = .ok (.imul, 1) := dk_104 (dk_at dksX3_pieceOf_0 21 rfl rfl)
theorem dX3_pieceOf_22 : decode cX3_pieceOf 22 = .ok (.aload_n 0, 1) := dk_42 (dk_at dksX3_pieceOf_0 22 rfl rfl)
theorem dX3_pieceOf_23 : decode cX3_pieceOf 23 = .ok (.getfield 72, 3) := dk_180 0 72 (dk_at dksX3_pieceOf_1 0 rfl rfl)
theorem dX3_pieceOf_26 : decode cX3_pieceOf 26 = .ok (.bipush 12, 2) := dk_16 12 (dk_at dksX3_pieceOf_1 3 rfl rfl)
theorem dX3_pieceOf_28 : decode cX3_pieceOf 28 = .ok (.iload_n 1, 1) := dk_27 (dk_at dksX3_pieceOf_1 5 rfl rfl)
theorem dX3_pieceOf_29 : decode cX3_pieceOf 29 = .ok (.imul, 1) := dk_104 (dk_at dksX3_pieceOf_1 6 rfl rfl)
theorem dX3_pieceOf_30 : decode cX3_pieceOf 30 = .ok (.iload 4, 2) := dk_21 4 (dk_at dksX3_pieceOf_1 7 rfl rfl)
theorem dX3_pieceOf_32 : decode cX3_pieceOf 32 = .ok (.iadd, 1) := dk_96 (dk_at dksX3_pieceOf_1 9 rfl rfl)
theorem dX3_pieceOf_33 : decode cX3_pieceOf 33 = .ok (.iaload, 1) := dk_46 (dk_at dksX3_pieceOf_1 10 rfl rfl)
theorem dX3_pieceOf_34 : decode cX3_pieceOf 34 = .ok (.iadd, 1) := dk_96 (dk_at dksX3_pieceOf_1 11 rfl rfl)
theorem dX3_pieceOf_35 : decode cX3_pieceOf 35 = .ok (.sipush 1019, 3) := dk_17 3 251 (dk_at dksX3_pieceOf_1 12 rfl rfl)
theorem dX3_pieceOf_38 : decode cX3_pieceOf 38 = .ok (.irem, 1) := dk_112 (dk_at dksX3_pieceOf_1 15 rfl rfl)
theorem dX3_pieceOf_39 : decode cX3_pieceOf 39 = .ok (.istore_n 3, 1) := dk_62 (dk_at dksX3_pieceOf_1 16 rfl rfl)
theorem dX3_pieceOf_40 : decode cX3_pieceOf 40 = .ok (.iinc 4 (-1), 3) := dk_132 4 255 (dk_at dksX3_pieceOf_1 17 rfl rfl)
theorem dX3_pieceOf_43 : decode cX3_pieceOf 43 = .ok (.goto (-31), 3) := dk_167 255 225 (dk_at dksX3_pieceOf_1 20 rfl rfl)
theorem dX3_pieceOf_46 : decode cX3_pieceOf 46 = .ok (.iload_n 3, 1) := dk_29 (dk_at dksX3_pieceOf_1 23 rfl rfl)
theorem dX3_pieceOf_47 : decode cX3_pieceOf 47 = .ok (.ireturn, 1) := dk_172 (dk_at dksX3_pieceOf_2 0 rfl rfl)
abbrev cX3_checks : ByteArray := prog_22_method_37_code
def yX3_checks : MethodName := ⟨RX3, "checks", "(II)I"⟩
def dkwX3_checks_2 : List UInt8 := [172]
abbrev dktX3_checks_2 : List UInt8 := dkwX3_checks_2 ++ []
def dkwX3_checks_1 : List UInt8 := [184, 0, 188, 153, 0, 20, 42, 180, 0, 72, 16, 12, 27, 104, 28, 96, 46, 184, 0, 220, 167, 0, 4, 2]
abbrev dktX3_checks_1 : List UInt8 := dkwX3_checks_1 ++ dktX3_checks_2
def dkwX3_checks_0 : List UInt8 := [42, 3, 181, 0, 181, 42, 27, 182, 1, 11, 153, 0, 36, 28, 3, 42, 180, 0, 63, 27, 46, 4, 100]
abbrev dktX3_checks_0 : List UInt8 := dkwX3_checks_0 ++ dktX3_checks_1
theorem dksX3_checks_0 : cX3_checks.data.toList.drop 0 = dktX3_checks_0 := by decide +kernel
theorem dksX3_checks_1 : cX3_checks.data.toList.drop 23 = dktX3_checks_1 := dk_seg dksX3_checks_0 23 rfl rfl
theorem dksX3_checks_2 : cX3_checks.data.toList.drop 47 = dktX3_checks_2 := dk_seg dksX3_checks_1 24 rfl rfl
theorem dX3_checks_0 : decode cX3_checks 0 = .ok (.aload_n 0, 1) := dk_42 (dk_at dksX3_checks_0 0 rfl rfl)
theorem dX3_checks_1 : decode cX3_checks 1 = .ok (.iconst 0, 1) := dk_3 (dk_at dksX3_checks_0 1 rfl rfl)
theorem dX3_checks_2 : decode cX3_checks 2 = .ok (.putfield 181, 3) := dk_181 0 181 (dk_at dksX3_checks_0 2 rfl rfl)
theorem dX3_checks_5 : decode cX3_checks 5 = .ok (.aload_n 0, 1) := dk_42 (dk_at dksX3_checks_0 5 rfl rfl)
theorem dX3_checks_6 : decode cX3_checks 6 = .ok (.iload_n 1, 1) := dk_27 (dk_at dksX3_checks_0 6 rfl rfl)
theorem dX3_checks_7 : decode cX3_checks 7 = .ok (.invokevirtual 267, 3) := dk_182 1 11 (dk_at dksX3_checks_0 7 rfl rfl)
theorem dX3_checks_10 : decode cX3_checks 10 = .ok (.ifCond .eq 36, 3) := dk_153 0 36 (dk_at dksX3_checks_0 10 rfl rfl)
theorem dX3_checks_13 : decode cX3_checks 13 = .ok (.iload_n 2, 1) := dk_28 (dk_at dksX3_checks_0 13 rfl rfl)
theorem dX3_checks_14 : decode cX3_checks 14 = .ok (.iconst 0, 1) := dk_3 (dk_at dksX3_checks_0 14 rfl rfl)
theorem dX3_checks_15 : decode cX3_checks 15 = .ok (.aload_n 0, 1) := dk_42 (dk_at dksX3_checks_0 15 rfl rfl)
theorem dX3_checks_16 : decode cX3_checks 16 = .ok (.getfield 63, 3) := dk_180 0 63 (dk_at dksX3_checks_0 16 rfl rfl)
theorem dX3_checks_19 : decode cX3_checks 19 = .ok (.iload_n 1, 1) := dk_27 (dk_at dksX3_checks_0 19 rfl rfl)
theorem dX3_checks_20 : decode cX3_checks 20 = .ok (.iaload, 1) := dk_46 (dk_at dksX3_checks_0 20 rfl rfl)
theorem dX3_checks_21 : decode cX3_checks 21 = .ok (.iconst 1, 1) := dk_4 (dk_at dksX3_checks_0 21 rfl rfl)
theorem dX3_checks_22 : decode cX3_checks 22 = .ok (.isub, 1) := dk_100 (dk_at dksX3_checks_0 22 rfl rfl)
theorem dX3_checks_23 : decode cX3_checks 23 = .ok (.invokestatic 188, 3) := dk_184 0 188 (dk_at dksX3_checks_1 0 rfl rfl)
theorem dX3_checks_26 : decode cX3_checks 26 = .ok (.ifCond .eq 20, 3) := dk_153 0 20 (dk_at dksX3_checks_1 3 rfl rfl)
theorem dX3_checks_29 : decode cX3_checks 29 = .ok (.aload_n 0, 1) := dk_42 (dk_at dksX3_checks_1 6 rfl rfl)
theorem dX3_checks_30 : decode cX3_checks 30 = .ok (.getfield 72, 3) := dk_180 0 72 (dk_at dksX3_checks_1 7 rfl rfl)
theorem dX3_checks_33 : decode cX3_checks 33 = .ok (.bipush 12, 2) := dk_16 12 (dk_at dksX3_checks_1 10 rfl rfl)
theorem dX3_checks_35 : decode cX3_checks 35 = .ok (.iload_n 1, 1) := dk_27 (dk_at dksX3_checks_1 12 rfl rfl)
theorem dX3_checks_36 : decode cX3_checks 36 = .ok (.imul, 1) := dk_104 (dk_at dksX3_checks_1 13 rfl rfl)
theorem dX3_checks_37 : decode cX3_checks 37 = .ok (.iload_n 2, 1) := dk_28 (dk_at dksX3_checks_1 14 rfl rfl)
theorem dX3_checks_38 : decode cX3_checks 38 = .ok (.iadd, 1) := dk_96 (dk_at dksX3_checks_1 15 rfl rfl)
theorem dX3_checks_39 : decode cX3_checks 39 = .ok (.iaload, 1) := dk_46 (dk_at dksX3_checks_1 16 rfl rfl)
theorem dX3_checks_40 : decode cX3_checks 40 = .ok (.invokestatic 220, 3) := dk_184 0 220 (dk_at dksX3_checks_1 17 rfl rfl)
theorem dX3_checks_43 : decode cX3_checks 43 = .ok (.goto 4, 3) := dk_167 0 4 (dk_at dksX3_checks_1 20 rfl rfl)
theorem dX3_checks_46 : decode cX3_checks 46 = .ok (.iconst (-1), 1) := dk_2 (dk_at dksX3_checks_1 23 rfl rfl)
theorem dX3_checks_47 : decode cX3_checks 47 = .ok (.ireturn, 1) := dk_172 (dk_at dksX3_checks_2 0 rfl rfl)
abbrev cX3_fits : ByteArray := prog_22_method_38_code
def yX3_fits : MethodName := ⟨RX3, "fits", "(III)I"⟩
def dkwX3_fits_4 : List UInt8 := [184, 0, 220, 21, 4, 160, 0, 7, 4, 167, 0, 4, 3, 172]
abbrev dktX3_fits_4 : List UInt8 := dkwX3_fits_4 ++ []
def dkwX3_fits_3 : List UInt8 := [184, 0, 192, 17, 7, 247, 184, 0, 192, 104, 17, 7, 247, 112, 54, 4, 132, 5, 1, 167, 255, 201, 29]
abbrev dktX3_fits_3 : List UInt8 := dkwX3_fits_3 ++ dktX3_fits_4
def dkwX3_fits_2 : List UInt8 := [42, 180, 0, 72, 16, 12, 27, 104, 21, 5, 96, 46, 184, 0, 220, 28, 4, 96, 21, 5, 17, 3, 251]
abbrev dktX3_fits_2 : List UInt8 := dkwX3_fits_2 ++ dktX3_fits_3
def dkwX3_fits_1 : List UInt8 := [154, 0, 5, 2, 172, 4, 54, 4, 3, 54, 5, 21, 5, 42, 180, 0, 63, 27, 46, 162, 0, 50, 21, 4]
abbrev dktX3_fits_1 : List UInt8 := dkwX3_fits_1 ++ dktX3_fits_2
def dkwX3_fits_0 : List UInt8 := [42, 3, 181, 0, 181, 42, 27, 28, 182, 1, 14, 153, 0, 14, 29, 3, 17, 3, 250, 184, 0, 188]
abbrev dktX3_fits_0 : List UInt8 := dkwX3_fits_0 ++ dktX3_fits_1
theorem dksX3_fits_0 : cX3_fits.data.toList.drop 0 = dktX3_fits_0 := by decide +kernel
theorem dksX3_fits_1 : cX3_fits.data.toList.drop 22 = dktX3_fits_1 := dk_seg dksX3_fits_0 22 rfl rfl
theorem dksX3_fits_2 : cX3_fits.data.toList.drop 46 = dktX3_fits_2 := dk_seg dksX3_fits_1 24 rfl rfl
theorem dksX3_fits_3 : cX3_fits.data.toList.drop 69 = dktX3_fits_3 := dk_seg dksX3_fits_2 23 rfl rfl
theorem dksX3_fits_4 : cX3_fits.data.toList.drop 92 = dktX3_fits_4 := dk_seg dksX3_fits_3 23 rfl rfl
theorem dX3_fits_0 : decode cX3_fits 0 = .ok (.aload_n 0, 1) := dk_42 (dk_at dksX3_fits_0 0 rfl rfl)
theorem dX3_fits_1 : decode cX3_fits 1 = .ok (.iconst 0, 1) := dk_3 (dk_at dksX3_fits_0 1 rfl rfl)
theorem dX3_fits_2 : decode cX3_fits 2 = .ok (.putfield 181, 3) := dk_181 0 181 (dk_at dksX3_fits_0 2 rfl rfl)
theorem dX3_fits_5 : decode cX3_fits 5 = .ok (.aload_n 0, 1) := dk_42 (dk_at dksX3_fits_0 5 rfl rfl)
theorem dX3_fits_6 : decode cX3_fits 6 = .ok (.iload_n 1, 1) := dk_27 (dk_at dksX3_fits_0 6 rfl rfl)
theorem dX3_fits_7 : decode cX3_fits 7 = .ok (.iload_n 2, 1) := dk_28 (dk_at dksX3_fits_0 7 rfl rfl)
theorem dX3_fits_8 : decode cX3_fits 8 = .ok (.invokevirtual 270, 3) := dk_182 1 14 (dk_at dksX3_fits_0 8 rfl rfl)
theorem dX3_fits_11 : decode cX3_fits 11 = .ok (.ifCond .eq 14, 3) := dk_153 0 14 (dk_at dksX3_fits_0 11 rfl rfl)
theorem dX3_fits_14 : decode cX3_fits 14 = .ok (.iload_n 3, 1) := dk_29 (dk_at dksX3_fits_0 14 rfl rfl)
theorem dX3_fits_15 : decode cX3_fits 15 = .ok (.iconst 0, 1) := dk_3 (dk_at dksX3_fits_0 15 rfl rfl)
theorem dX3_fits_16 : decode cX3_fits 16 = .ok (.sipush 1018, 3) := dk_17 3 250 (dk_at dksX3_fits_0 16 rfl rfl)
theorem dX3_fits_19 : decode cX3_fits 19 = .ok (.invokestatic 188, 3) := dk_184 0 188 (dk_at dksX3_fits_0 19 rfl rfl)
theorem dX3_fits_22 : decode cX3_fits 22 = .ok (.ifCond .ne 5, 3) := dk_154 0 5 (dk_at dksX3_fits_1 0 rfl rfl)
theorem dX3_fits_25 : decode cX3_fits 25 = .ok (.iconst (-1), 1) := dk_2 (dk_at dksX3_fits_1 3 rfl rfl)
theorem dX3_fits_26 : decode cX3_fits 26 = .ok (.ireturn, 1) := dk_172 (dk_at dksX3_fits_1 4 rfl rfl)
theorem dX3_fits_27 : decode cX3_fits 27 = .ok (.iconst 1, 1) := dk_4 (dk_at dksX3_fits_1 5 rfl rfl)
theorem dX3_fits_28 : decode cX3_fits 28 = .ok (.istore 4, 2) := dk_54 4 (dk_at dksX3_fits_1 6 rfl rfl)
theorem dX3_fits_30 : decode cX3_fits 30 = .ok (.iconst 0, 1) := dk_3 (dk_at dksX3_fits_1 8 rfl rfl)
theorem dX3_fits_31 : decode cX3_fits 31 = .ok (.istore 5, 2) := dk_54 5 (dk_at dksX3_fits_1 9 rfl rfl)
theorem dX3_fits_33 : decode cX3_fits 33 = .ok (.iload 5, 2) := dk_21 5 (dk_at dksX3_fits_1 11 rfl rfl)
theorem dX3_fits_35 : decode cX3_fits 35 = .ok (.aload_n 0, 1) := dk_42 (dk_at dksX3_fits_1 13 rfl rfl)
theorem dX3_fits_36 : decode cX3_fits 36 = .ok (.getfield 63, 3) := dk_180 0 63 (dk_at dksX3_fits_1 14 rfl rfl)
theorem dX3_fits_39 : decode cX3_fits 39 = .ok (.iload_n 1, 1) := dk_27 (dk_at dksX3_fits_1 17 rfl rfl)
theorem dX3_fits_40 : decode cX3_fits 40 = .ok (.iaload, 1) := dk_46 (dk_at dksX3_fits_1 18 rfl rfl)
theorem dX3_fits_41 : decode cX3_fits 41 = .ok (.if_icmp .ge 50, 3) := dk_162 0 50 (dk_at dksX3_fits_1 19 rfl rfl)
theorem dX3_fits_44 : decode cX3_fits 44 = .ok (.iload 4, 2) := dk_21 4 (dk_at dksX3_fits_1 22 rfl rfl)
theorem dX3_fits_46 : decode cX3_fits 46 = .ok (.aload_n 0, 1) := dk_42 (dk_at dksX3_fits_2 0 rfl rfl)
theorem dX3_fits_47 : decode cX3_fits 47 = .ok (.getfield 72, 3) := dk_180 0 72 (dk_at dksX3_fits_2 1 rfl rfl)
theorem dX3_fits_50 : decode cX3_fits 50 = .ok (.bipush 12, 2) := dk_16 12 (dk_at dksX3_fits_2 4 rfl rfl)
theorem dX3_fits_52 : decode cX3_fits 52 = .ok (.iload_n 1, 1) := dk_27 (dk_at dksX3_fits_2 6 rfl rfl)
theorem dX3_fits_53 : decode cX3_fits 53 = .ok (.imul, 1) := dk_104 (dk_at dksX3_fits_2 7 rfl rfl)
theorem dX3_fits_54 : decode cX3_fits 54 = .ok (.iload 5, 2) := dk_21 5 (dk_at dksX3_fits_2 8 rfl rfl)
theorem dX3_fits_56 : decode cX3_fits 56 = .ok (.iadd, 1) := dk_96 (dk_at dksX3_fits_2 10 rfl rfl)
theorem dX3_fits_57 : decode cX3_fits 57 = .ok (.iaload, 1) := dk_46 (dk_at dksX3_fits_2 11 rfl rfl)
theorem dX3_fits_58 : decode cX3_fits 58 = .ok (.invokestatic 220, 3) := dk_184 0 220 (dk_at dksX3_fits_2 12 rfl rfl)
theorem dX3_fits_61 : decode cX3_fits 61 = .ok (.iload_n 2, 1) := dk_28 (dk_at dksX3_fits_2 15 rfl rfl)
theorem dX3_fits_62 : decode cX3_fits 62 = .ok (.iconst 1, 1) := dk_4 (dk_at dksX3_fits_2 16 rfl rfl)
theorem dX3_fits_63 : decode cX3_fits 63 = .ok (.iadd, 1) := dk_96 (dk_at dksX3_fits_2 17 rfl rfl)
theorem dX3_fits_64 : decode cX3_fits 64 = .ok (.iload 5, 2) := dk_21 5 (dk_at dksX3_fits_2 18 rfl rfl)
theorem dX3_fits_66 : decode cX3_fits 66 = .ok (.sipush 1019, 3) := dk_17 3 251 (dk_at dksX3_fits_2 20 rfl rfl)
theorem dX3_fits_69 : decode cX3_fits 69 = .ok (.invokestatic 192, 3) := dk_184 0 192 (dk_at dksX3_fits_3 0 rfl rfl)
theorem dX3_fits_72 : decode cX3_fits 72 = .ok (.sipush 2039, 3) := dk_17 7 247 (dk_at dksX3_fits_3 3 rfl rfl)
theorem dX3_fits_75 : decode cX3_fits 75 = .ok (.invokestatic 192, 3) := dk_184 0 192 (dk_at dksX3_fits_3 6 rfl rfl)
theorem dX3_fits_78 : decode cX3_fits 78 = .ok (.imul, 1) := dk_104 (dk_at dksX3_fits_3 9 rfl rfl)
theorem dX3_fits_79 : decode cX3_fits 79 = .ok (.sipush 2039, 3) := dk_17 7 247 (dk_at dksX3_fits_3 10 rfl rfl)
theorem dX3_fits_82 : decode cX3_fits 82 = .ok (.irem, 1) := dk_112 (dk_at dksX3_fits_3 13 rfl rfl)
theorem dX3_fits_83 : decode cX3_fits 83 = .ok (.istore 4, 2) := dk_54 4 (dk_at dksX3_fits_3 14 rfl rfl)
theorem dX3_fits_85 : decode cX3_fits 85 = .ok (.iinc 5 1, 3) := dk_132 5 1 (dk_at dksX3_fits_3 16 rfl rfl)
theorem dX3_fits_88 : decode cX3_fits 88 = .ok (.goto (-55), 3) := dk_167 255 201 (dk_at dksX3_fits_3 19 rfl rfl)
theorem dX3_fits_91 : decode cX3_fits 91 = .ok (.iload_n 3, 1) := dk_29 (dk_at dksX3_fits_3 22 rfl rfl)
theorem dX3_fits_92 : decode cX3_fits 92 = .ok (.invokestatic 220, 3) := dk_184 0 220 (dk_at dksX3_fits_4 0 rfl rfl)
theorem dX3_fits_95 : decode cX3_fits 95 = .ok (.iload 4, 2) := dk_21 4 (dk_at dksX3_fits_4 3 rfl rfl)
theorem dX3_fits_97 : decode cX3_fits 97 = .ok (.if_icmp .ne 7, 3) := dk_160 0 7 (dk_at dksX3_fits_4 5 rfl rfl)
theorem dX3_fits_100 : decode cX3_fits 100 = .ok (.iconst 1, 1) := dk_4 (dk_at dksX3_fits_4 8 rfl rfl)
theorem dX3_fits_101 : decode cX3_fits 101 = .ok (.goto 4, 3) := dk_167 0 4 (dk_at dksX3_fits_4 9 rfl rfl)
theorem dX3_fits_104 : decode cX3_fits 104 = .ok (.iconst 0, 1) := dk_3 (dk_at dksX3_fits_4 12 rfl rfl)
theorem dX3_fits_105 : decode cX3_fits 105 = .ok (.ireturn, 1) := dk_172 (dk_at dksX3_fits_4 13 rfl rfl)
abbrev cX3_lay : ByteArray := prog_22_method_39_code
def yX3_lay : MethodName := ⟨RX3, "lay", "(II)I"⟩
def dkwX3_lay_3 : List UInt8 := [28, 79, 42, 89, 180, 1, 21, 4, 96, 181, 1, 21, 42, 180, 1, 21, 172]
abbrev dktX3_lay_3 : List UInt8 := dkwX3_lay_3 ++ []
def dkwX3_lay_2 : List UInt8 := [132, 3, 1, 167, 255, 233, 42, 180, 0, 75, 42, 180, 1, 21, 27, 79, 42, 180, 0, 78, 42, 180, 1, 21]
abbrev dktX3_lay_2 : List UInt8 := dkwX3_lay_2 ++ dktX3_lay_3
def dkwX3_lay_1 : List UInt8 := [2, 172, 3, 62, 29, 42, 180, 1, 21, 162, 0, 21, 42, 180, 0, 75, 29, 46, 27, 160, 0, 5, 2, 172]
abbrev dktX3_lay_1 : List UInt8 := dkwX3_lay_1 ++ dktX3_lay_2
def dkwX3_lay_0 : List UInt8 := [42, 3, 181, 0, 181, 42, 27, 182, 0, 226, 153, 0, 14, 28, 3, 17, 3, 250, 184, 0, 188, 154, 0, 5]
abbrev dktX3_lay_0 : List UInt8 := dkwX3_lay_0 ++ dktX3_lay_1
theorem dksX3_lay_0 : cX3_lay.data.toList.drop 0 = dktX3_lay_0 := by decide +kernel
theorem dksX3_lay_1 : cX3_lay.data.toList.drop 24 = dktX3_lay_1 := dk_seg dksX3_lay_0 24 rfl rfl
theorem dksX3_lay_2 : cX3_lay.data.toList.drop 48 = dktX3_lay_2 := dk_seg dksX3_lay_1 24 rfl rfl
theorem dksX3_lay_3 : cX3_lay.data.toList.drop 72 = dktX3_lay_3 := dk_seg dksX3_lay_2 24 rfl rfl
theorem dX3_lay_0 : decode cX3_lay 0 = .ok (.aload_n 0, 1) := dk_42 (dk_at dksX3_lay_0 0 rfl rfl)
theorem dX3_lay_1 : decode cX3_lay 1 = .ok (.iconst 0, 1) := dk_3 (dk_at dksX3_lay_0 1 rfl rfl)
theorem dX3_lay_2 : decode cX3_lay 2 = .ok (.putfield 181, 3) := dk_181 0 181 (dk_at dksX3_lay_0 2 rfl rfl)
theorem dX3_lay_5 : decode cX3_lay 5 = .ok (.aload_n 0, 1) := dk_42 (dk_at dksX3_lay_0 5 rfl rfl)
theorem dX3_lay_6 : decode cX3_lay 6 = .ok (.iload_n 1, 1) := dk_27 (dk_at dksX3_lay_0 6 rfl rfl)
theorem dX3_lay_7 : decode cX3_lay 7 = .ok (.invokevirtual 226, 3) := dk_182 0 226 (dk_at dksX3_lay_0 7 rfl rfl)
theorem dX3_lay_10 : decode cX3_lay 10 = .ok (.ifCond .eq 14, 3) := dk_153 0 14 (dk_at dksX3_lay_0 10 rfl rfl)
theorem dX3_lay_13 : decode cX3_lay 13 = .ok (.iload_n 2, 1) := dk_28 (dk_at dksX3_lay_0 13 rfl rfl)
theorem dX3_lay_14 : decode cX3_lay 14 = .ok (.iconst 0, 1) := dk_3 (dk_at dksX3_lay_0 14 rfl rfl)
theorem dX3_lay_15 : decode cX3_lay 15 = .ok (.sipush 1018, 3) := dk_17 3 250 (dk_at dksX3_lay_0 15 rfl rfl)
theorem dX3_lay_18 : decode cX3_lay 18 = .ok (.invokestatic 188, 3) := dk_184 0 188 (dk_at dksX3_lay_0 18 rfl rfl)
theorem dX3_lay_21 : decode cX3_lay 21 = .ok (.ifCond .ne 5, 3) := dk_154 0 5 (dk_at dksX3_lay_0 21 rfl rfl)
theorem dX3_lay_24 : decode cX3_lay 24 = .ok (.iconst (-1), 1) := dk_2 (dk_at dksX3_lay_1 0 rfl rfl)
theorem dX3_lay_25 : decode cX3_lay 25 = .ok (.ireturn, 1) := dk_172 (dk_at dksX3_lay_1 1 rfl rfl)
theorem dX3_lay_26 : decode cX3_lay 26 = .ok (.iconst 0, 1) := dk_3 (dk_at dksX3_lay_1 2 rfl rfl)
theorem dX3_lay_27 : decode cX3_lay 27 = .ok (.istore_n 3, 1) := dk_62 (dk_at dksX3_lay_1 3 rfl rfl)
theorem dX3_lay_28 : decode cX3_lay 28 = .ok (.iload_n 3, 1) := dk_29 (dk_at dksX3_lay_1 4 rfl rfl)
theorem dX3_lay_29 : decode cX3_lay 29 = .ok (.aload_n 0, 1) := dk_42 (dk_at dksX3_lay_1 5 rfl rfl)
theorem dX3_lay_30 : decode cX3_lay 30 = .ok (.getfield 277, 3) := dk_180 1 21 (dk_at dksX3_lay_1 6 rfl rfl)
theorem dX3_lay_33 : decode cX3_lay 33 = .ok (.if_icmp .ge 21, 3) := dk_162 0 21 (dk_at dksX3_lay_1 9 rfl rfl)
theorem dX3_lay_36 : decode cX3_lay 36 = .ok (.aload_n 0, 1) := dk_42 (dk_at dksX3_lay_1 12 rfl rfl)
theorem dX3_lay_37 : decode cX3_lay 37 = .ok (.getfield 75, 3) := dk_180 0 75 (dk_at dksX3_lay_1 13 rfl rfl)
theorem dX3_lay_40 : decode cX3_lay 40 = .ok (.iload_n 3, 1) := dk_29 (dk_at dksX3_lay_1 16 rfl rfl)
theorem dX3_lay_41 : decode cX3_lay 41 = .ok (.iaload, 1) := dk_46 (dk_at dksX3_lay_1 17 rfl rfl)
theorem dX3_lay_42 : decode cX3_lay 42 = .ok (.iload_n 1, 1) := dk_27 (dk_at dksX3_lay_1 18 rfl rfl)
theorem dX3_lay_43 : decode cX3_lay 43 = .ok (.if_icmp .ne 5, 3) := dk_160 0 5 (dk_at dksX3_lay_1 19 rfl rfl)
theorem dX3_lay_46 : decode cX3_lay 46 = .ok (.iconst (-1), 1) := dk_2 (dk_at dksX3_lay_1 22 rfl rfl)
theorem dX3_lay_47 : decode cX3_lay 47 = .ok (.ireturn, 1) := dk_172 (dk_at dksX3_lay_1 23 rfl rfl)
theorem dX3_lay_48 : decode cX3_lay 48 = .ok (.iinc 3 1, 3) := dk_132 3 1 (dk_at dksX3_lay_2 0 rfl rfl)
theorem dX3_lay_51 : decode cX3_lay 51 = .ok (.goto (-23), 3) := dk_167 255 233 (dk_at dksX3_lay_2 3 rfl rfl)
theorem dX3_lay_54 : decode cX3_lay 54 = .ok (.aload_n 0, 1) := dk_42 (dk_at dksX3_lay_2 6 rfl rfl)
theorem dX3_lay_55 : decode cX3_lay 55 = .ok (.getfield 75, 3) := dk_180 0 75 (dk_at dksX3_lay_2 7 rfl rfl)
theorem dX3_lay_58 : decode cX3_lay 58 = .ok (.aload_n 0, 1) := dk_42 (dk_at dksX3_lay_2 10 rfl rfl)
theorem dX3_lay_59 : decode cX3_lay 59 = .ok (.getfield 277, 3) := dk_180 1 21 (dk_at dksX3_lay_2 11 rfl rfl)
theorem dX3_lay_62 : decode cX3_lay 62 = .ok (.iload_n 1, 1) := dk_27 (dk_at dksX3_lay_2 14 rfl rfl)
theorem dX3_lay_63 : decode cX3_lay 63 = .ok (.iastore, 1) := dk_79 (dk_at dksX3_lay_2 15 rfl rfl)
theorem dX3_lay_64 : decode cX3_lay 64 = .ok (.aload_n 0, 1) := dk_42 (dk_at dksX3_lay_2 16 rfl rfl)
theorem dX3_lay_65 : decode cX3_lay 65 = .ok (.getfield 78, 3) := dk_180 0 78 (dk_at dksX3_lay_2 17 rfl rfl)
theorem dX3_lay_68 : decode cX3_lay 68 = .ok (.aload_n 0, 1) := dk_42 (dk_at dksX3_lay_2 20 rfl rfl)
theorem dX3_lay_69 : decode cX3_lay 69 = .ok (.getfield 277, 3) := dk_180 1 21 (dk_at dksX3_lay_2 21 rfl rfl)
theorem dX3_lay_72 : decode cX3_lay 72 = .ok (.iload_n 2, 1) := dk_28 (dk_at dksX3_lay_3 0 rfl rfl)
theorem dX3_lay_73 : decode cX3_lay 73 = .ok (.iastore, 1) := dk_79 (dk_at dksX3_lay_3 1 rfl rfl)
theorem dX3_lay_74 : decode cX3_lay 74 = .ok (.aload_n 0, 1) := dk_42 (dk_at dksX3_lay_3 2 rfl rfl)
theorem dX3_lay_75 : decode cX3_lay 75 = .ok (.dup, 1) := dk_89 (dk_at dksX3_lay_3 3 rfl rfl)
theorem dX3_lay_76 : decode cX3_lay 76 = .ok (.getfield 277, 3) := dk_180 1 21 (dk_at dksX3_lay_3 4 rfl rfl)
theorem dX3_lay_79 : decode cX3_lay 79 = .ok (.iconst 1, 1) := dk_4 (dk_at dksX3_lay_3 7 rfl rfl)
theorem dX3_lay_80 : decode cX3_lay 80 = .ok (.iadd, 1) := dk_96 (dk_at dksX3_lay_3 8 rfl rfl)
theorem dX3_lay_81 : decode cX3_lay 81 = .ok (.putfield 277, 3) := dk_181 1 21 (dk_at dksX3_lay_3 9 rfl rfl)
theorem dX3_lay_84 : decode cX3_lay 84 = .ok (.aload_n 0, 1) := dk_42 (dk_at dksX3_lay_3 12 rfl rfl)
theorem dX3_lay_85 : decode cX3_lay 85 = .ok (.getfield 277, 3) := dk_180 1 21 (dk_at dksX3_lay_3 13 rfl rfl)
theorem dX3_lay_88 : decode cX3_lay 88 = .ok (.ireturn, 1) := dk_172 (dk_at dksX3_lay_3 16 rfl rfl)
abbrev cX3_join : ByteArray := prog_22_method_41_code
def yX3_join : MethodName := ⟨RX3, "join", "()I"⟩
def dkwX3_join_3 : List UInt8 := [184, 1, 32, 104, 96, 17, 3, 251, 112, 61, 132, 3, 1, 167, 255, 221, 42, 3, 181, 1, 21, 28, 172]
abbrev dktX3_join_3 : List UInt8 := dkwX3_join_3 ++ []
def dkwX3_join_2 : List UInt8 := [29, 42, 180, 1, 21, 162, 0, 33, 28, 42, 180, 0, 78, 29, 46, 42, 180, 0, 75, 29, 46, 27]
abbrev dktX3_join_2 : List UInt8 := dkwX3_join_2 ++ dktX3_join_3
def dkwX3_join_1 : List UInt8 := [162, 0, 20, 27, 4, 42, 180, 0, 75, 28, 46, 120, 128, 60, 132, 2, 1, 167, 255, 234, 3, 61, 3, 62]
abbrev dktX3_join_1 : List UInt8 := dkwX3_join_1 ++ dktX3_join_2
def dkwX3_join_0 : List UInt8 := [42, 3, 181, 0, 181, 42, 180, 1, 21, 154, 0, 5, 2, 172, 3, 60, 3, 61, 28, 42, 180, 1, 21]
abbrev dktX3_join_0 : List UInt8 := dkwX3_join_0 ++ dktX3_join_1
theorem dksX3_join_0 : cX3_join.data.toList.drop 0 = dktX3_join_0 := by decide +kernel
theorem dksX3_join_1 : cX3_join.data.toList.drop 23 = dktX3_join_1 := dk_seg dksX3_join_0 23 rfl rfl
theorem dksX3_join_2 : cX3_join.data.toList.drop 47 = dktX3_join_2 := dk_seg dksX3_join_1 24 rfl rfl
theorem dksX3_join_3 : cX3_join.data.toList.drop 69 = dktX3_join_3 := dk_seg dksX3_join_2 22 rfl rfl
theorem dX3_join_0 : decode cX3_join 0 = .ok (.aload_n 0, 1) := dk_42 (dk_at dksX3_join_0 0 rfl rfl)
theorem dX3_join_1 : decode cX3_join 1 = .ok (.iconst 0, 1) := dk_3 (dk_at dksX3_join_0 1 rfl rfl)
theorem dX3_join_2 : decode cX3_join 2 = .ok (.putfield 181, 3) := dk_181 0 181 (dk_at dksX3_join_0 2 rfl rfl)
theorem dX3_join_5 : decode cX3_join 5 = .ok (.aload_n 0, 1) := dk_42 (dk_at dksX3_join_0 5 rfl rfl)
theorem dX3_join_6 : decode cX3_join 6 = .ok (.getfield 277, 3) := dk_180 1 21 (dk_at dksX3_join_0 6 rfl rfl)
theorem dX3_join_9 : decode cX3_join 9 = .ok (.ifCond .ne 5, 3) := dk_154 0 5 (dk_at dksX3_join_0 9 rfl rfl)
theorem dX3_join_12 : decode cX3_join 12 = .ok (.iconst (-1), 1) := dk_2 (dk_at dksX3_join_0 12 rfl rfl)
theorem dX3_join_13 : decode cX3_join 13 = .ok (.ireturn, 1) := dk_172 (dk_at dksX3_join_0 13 rfl rfl)
theorem dX3_join_14 : decode cX3_join 14 = .ok (.iconst 0, 1) := dk_3 (dk_at dksX3_join_0 14 rfl rfl)
theorem dX3_join_15 : decode cX3_join 15 = .ok (.istore_n 1, 1) := dk_60 (dk_at dksX3_join_0 15 rfl rfl)
theorem dX3_join_16 : decode cX3_join 16 = .ok (.iconst 0, 1) := dk_3 (dk_at dksX3_join_0 16 rfl rfl)
theorem dX3_join_17 : decode cX3_join 17 = .ok (.istore_n 2, 1) := dk_61 (dk_at dksX3_join_0 17 rfl rfl)
theorem dX3_join_18 : decode cX3_join 18 = .ok (.iload_n 2, 1) := dk_28 (dk_at dksX3_join_0 18 rfl rfl)
theorem dX3_join_19 : decode cX3_join 19 = .ok (.aload_n 0, 1) := dk_42 (dk_at dksX3_join_0 19 rfl rfl)
theorem dX3_join_20 : decode cX3_join 20 = .ok (.getfield 277, 3) := dk_180 1 21 (dk_at dksX3_join_0 20 rfl rfl)
theorem dX3_join_23 : decode cX3_join 23 = .ok (.if_icmp .ge 20, 3) := dk_162 0 20 (dk_at dksX3_join_1 0 rfl rfl)
theorem dX3_join_26 : decode cX3_join 26 = .ok (.iload_n 1, 1) := dk_27 (dk_at dksX3_join_1 3 rfl rfl)
theorem dX3_join_27 : decode cX3_join 27 = .ok (.iconst 1, 1) := dk_4 (dk_at dksX3_join_1 4 rfl rfl)
theorem dX3_join_28 : decode cX3_join 28 = .ok (.aload_n 0, 1) := dk_42 (dk_at dksX3_join_1 5 rfl rfl)
theorem dX3_join_29 : decode cX3_join 29 = .ok (.getfield 75, 3) := dk_180 0 75 (dk_at dksX3_join_1 6 rfl rfl)
theorem dX3_join_32 : decode cX3_join 32 = .ok (.iload_n 2, 1) := dk_28 (dk_at dksX3_join_1 9 rfl rfl)
theorem dX3_join_33 : decode cX3_join 33 = .ok (.iaload, 1) := dk_46 (dk_at dksX3_join_1 10 rfl rfl)
theorem dX3_join_34 : decode cX3_join 34 = .ok (.ishl, 1) := dk_120 (dk_at dksX3_join_1 11 rfl rfl)
theorem dX3_join_35 : decode cX3_join 35 = .ok (.ior, 1) := dk_128 (dk_at dksX3_join_1 12 rfl rfl)
theorem dX3_join_36 : decode cX3_join 36 = .ok (.istore_n 1, 1) := dk_60 (dk_at dksX3_join_1 13 rfl rfl)
theorem dX3_join_37 : decode cX3_join 37 = .ok (.iinc 2 1, 3) := dk_132 2 1 (dk_at dksX3_join_1 14 rfl rfl)
theorem dX3_join_40 : decode cX3_join 40 = .ok (.goto (-22), 3) := dk_167 255 234 (dk_at dksX3_join_1 17 rfl rfl)
theorem dX3_join_43 : decode cX3_join 43 = .ok (.iconst 0, 1) := dk_3 (dk_at dksX3_join_1 20 rfl rfl)
theorem dX3_join_44 : decode cX3_join 44 = .ok (.istore_n 2, 1) := dk_61 (dk_at dksX3_join_1 21 rfl rfl)
theorem dX3_join_45 : decode cX3_join 45 = .ok (.iconst 0, 1) := dk_3 (dk_at dksX3_join_1 22 rfl rfl)
theorem dX3_join_46 : decode cX3_join 46 = .ok (.istore_n 3, 1) := dk_62 (dk_at dksX3_join_1 23 rfl rfl)
theorem dX3_join_47 : decode cX3_join 47 = .ok (.iload_n 3, 1) := dk_29 (dk_at dksX3_join_2 0 rfl rfl)
theorem dX3_join_48 : decode cX3_join 48 = .ok (.aload_n 0, 1) := dk_42 (dk_at dksX3_join_2 1 rfl rfl)
theorem dX3_join_49 : decode cX3_join 49 = .ok (.getfield 277, 3) := dk_180 1 21 (dk_at dksX3_join_2 2 rfl rfl)
theorem dX3_join_52 : decode cX3_join 52 = .ok (.if_icmp .ge 33, 3) := dk_162 0 33 (dk_at dksX3_join_2 5 rfl rfl)
theorem dX3_join_55 : decode cX3_join 55 = .ok (.iload_n 2, 1) := dk_28 (dk_at dksX3_join_2 8 rfl rfl)
theorem dX3_join_56 : decode cX3_join 56 = .ok (.aload_n 0, 1) := dk_42 (dk_at dksX3_join_2 9 rfl rfl)
theorem dX3_join_57 : decode cX3_join 57 = .ok (.getfield 78, 3) := dk_180 0 78 (dk_at dksX3_join_2 10 rfl rfl)
theorem dX3_join_60 : decode cX3_join 60 = .ok (.iload_n 3, 1) := dk_29 (dk_at dksX3_join_2 13 rfl rfl)
theorem dX3_join_61 : decode cX3_join 61 = .ok (.iaload, 1) := dk_46 (dk_at dksX3_join_2 14 rfl rfl)
theorem dX3_join_62 : decode cX3_join 62 = .ok (.aload_n 0, 1) := dk_42 (dk_at dksX3_join_2 15 rfl rfl)
theorem dX3_join_63 : decode cX3_join 63 = .ok (.getfield 75, 3) := dk_180 0 75 (dk_at dksX3_join_2 16 rfl rfl)
theorem dX3_join_66 : decode cX3_join 66 = .ok (.iload_n 3, 1) := dk_29 (dk_at dksX3_join_2 19 rfl rfl)
theorem dX3_join_67 : decode cX3_join 67 = .ok (.iaload, 1) := dk_46 (dk_at dksX3_join_2 20 rfl rfl)
theorem dX3_join_68 : decode cX3_join 68 = .ok (.iload_n 1, 1) := dk_27 (dk_at dksX3_join_2 21 rfl rfl)
theorem dX3_join_69 : decode cX3_join 69 = .ok (.invokestatic 288, 3) := dk_184 1 32 (dk_at dksX3_join_3 0 rfl rfl)
theorem dX3_join_72 : decode cX3_join 72 = .ok (.imul, 1) := dk_104 (dk_at dksX3_join_3 3 rfl rfl)
theorem dX3_join_73 : decode cX3_join 73 = .ok (.iadd, 1) := dk_96 (dk_at dksX3_join_3 4 rfl rfl)
theorem dX3_join_74 : decode cX3_join 74 = .ok (.sipush 1019, 3) := dk_17 3 251 (dk_at dksX3_join_3 5 rfl rfl)
theorem dX3_join_77 : decode cX3_join 77 = .ok (.irem, 1) := dk_112 (dk_at dksX3_join_3 8 rfl rfl)
theorem dX3_join_78 : decode cX3_join 78 = .ok (.istore_n 2, 1) := dk_61 (dk_at dksX3_join_3 9 rfl rfl)
theorem dX3_join_79 : decode cX3_join 79 = .ok (.iinc 3 1, 3) := dk_132 3 1 (dk_at dksX3_join_3 10 rfl rfl)
theorem dX3_join_82 : decode cX3_join 82 = .ok (.goto (-35), 3) := dk_167 255 221 (dk_at dksX3_join_3 13 rfl rfl)
theorem dX3_join_85 : decode cX3_join 85 = .ok (.aload_n 0, 1) := dk_42 (dk_at dksX3_join_3 16 rfl rfl)
theorem dX3_join_86 : decode cX3_join 86 = .ok (.iconst 0, 1) := dk_3 (dk_at dksX3_join_3 17 rfl rfl)
theorem dX3_join_87 : decode cX3_join 87 = .ok (.putfield 277, 3) := dk_181 1 21 (dk_at dksX3_join_3 18 rfl rfl)
theorem dX3_join_90 : decode cX3_join 90 = .ok (.iload_n 2, 1) := dk_28 (dk_at dksX3_join_3 21 rfl rfl)
theorem dX3_join_91 : decode cX3_join 91 = .ok (.ireturn, 1) := dk_172 (dk_at dksX3_join_3 22 rfl rfl)
abbrev cX3_weight : ByteArray := prog_22_method_40_code
def yX3_weight : MethodName := ⟨RX3, "weight", "(II)I"⟩
def dkwX3_weight_2 : List UInt8 := [17, 3, 251, 112, 61, 132, 3, 1, 167, 255, 206, 28, 172]
abbrev dktX3_weight_2 : List UInt8 := dkwX3_weight_2 ++ []
def dkwX3_weight_1 : List UInt8 := [28, 29, 4, 96, 104, 17, 3, 251, 112, 29, 26, 100, 17, 3, 251, 184, 1, 24, 184, 1, 29, 104]
abbrev dktX3_weight_1 : List UInt8 := dkwX3_weight_1 ++ dktX3_weight_2
def dkwX3_weight_0 : List UInt8 := [4, 61, 3, 62, 29, 16, 12, 162, 0, 50, 29, 26, 159, 0, 39, 27, 29, 122, 4, 126, 4, 160, 0, 30]
abbrev dktX3_weight_0 : List UInt8 := dkwX3_weight_0 ++ dktX3_weight_1
theorem dksX3_weight_0 : cX3_weight.data.toList.drop 0 = dktX3_weight_0 := by decide +kernel
theorem dksX3_weight_1 : cX3_weight.data.toList.drop 24 = dktX3_weight_1 := dk_seg dksX3_weight_0 24 rfl rfl
theorem dksX3_weight_2 : cX3_weight.data.toList.drop 46 = dktX3_weight_2 := dk_seg dksX3_weight_1 22 rfl rfl
theorem dX3_weight_0 : decode cX3_weight 0 = .ok (.iconst 1, 1) := dk_4 (dk_at dksX3_weight_0 0 rfl rfl)
theorem dX3_weight_1 : decode cX3_weight 1 = .ok (.istore_n 2, 1) := dk_61 (dk_at dksX3_weight_0 1 rfl rfl)
theorem dX3_weight_2 : decode cX3_weight 2 = .ok (.iconst 0, 1) := dk_3 (dk_at dksX3_weight_0 2 rfl rfl)
theorem dX3_weight_3 : decode cX3_weight 3 = .ok (.istore_n 3, 1) := dk_62 (dk_at dksX3_weight_0 3 rfl rfl)
theorem dX3_weight_4 : decode cX3_weight 4 = .ok (.iload_n 3, 1) := dk_29 (dk_at dksX3_weight_0 4 rfl rfl)
theorem dX3_weight_5 : decode cX3_weight 5 = .ok (.bipush 12, 2) := dk_16 12 (dk_at dksX3_weight_0 5 rfl rfl)
theorem dX3_weight_7 : decode cX3_weight 7 = .ok (.if_icmp .ge 50, 3) := dk_162 0 50 (dk_at dksX3_weight_0 7 rfl rfl)
theorem dX3_weight_10 : decode cX3_weight 10 = .ok (.iload_n 3, 1) := dk_29 (dk_at dksX3_weight_0 10 rfl rfl)
theorem dX3_weight_11 : decode cX3_weight 11 = .ok (.iload_n 0, 1) := dk_26 (dk_at dksX3_weight_0 11 rfl rfl)
theorem dX3_weight_12 : decode cX3_weight 12 = .ok (.if_icmp .eq 39, 3) := dk_159 0 39 (dk_at dksX3_weight_0 12 rfl rfl)
theorem dX3_weight_15 : decode cX3_weight 15 = .ok (.iload_n 1, 1) := dk_27 (dk_at dksX3_weight_0 15 rfl rfl)
theorem dX3_weight_16 : decode cX3_weight 16 = .ok (.iload_n 3, 1) := dk_29 (dk_at dksX3_weight_0 16 rfl rfl)
theorem dX3_weight_17 : decode cX3_weight 17 = .ok (.ishr, 1) := dk_122 (dk_at dksX3_weight_0 17 rfl rfl)
theorem dX3_weight_18 : decode cX3_weight 18 = .ok (.iconst 1, 1) := dk_4 (dk_at dksX3_weight_0 18 rfl rfl)
theorem dX3_weight_19 : decode cX3_weight 19 = .ok (.iand, 1) := dk_126 (dk_at dksX3_weight_0 19 rfl rfl)
theorem dX3_weight_20 : decode cX3_weight 20 = .ok (.iconst 1, 1) := dk_4 (dk_at dksX3_weight_0 20 rfl rfl)
theorem dX3_weight_21 : decode cX3_weight 21 = .ok (.if_icmp .ne 30, 3) := dk_160 0 30 (dk_at dksX3_weight_0 21 rfl rfl)
theorem dX3_weight_24 : decode cX3_weight 24 = .ok (.iload_n 2, 1) := dk_28 (dk_at dksX3_weight_1 0 rfl rfl)
theorem dX3_weight_25 : decode cX3_weight 25 = .ok (.iload_n 3, 1) := dk_29 (dk_at dksX3_weight_1 1 rfl rfl)
theorem dX3_weight_26 : decode cX3_weight 26 = .ok (.iconst 1, 1) := dk_4 (dk_at dksX3_weight_1 2 rfl rfl)
theorem dX3_weight_27 : decode cX3_weight 27 = .ok (.iadd, 1) := dk_96 (dk_at dksX3_weight_1 3 rfl rfl)
theorem dX3_weight_28 : decode cX3_weight 28 = .ok (.imul, 1) := dk_104 (dk_at dksX3_weight_1 4 rfl rfl)
theorem dX3_weight_29 : decode cX3_weight 29 = .ok (.sipush 1019, 3) := dk_17 3 251 (dk_at dksX3_weight_1 5 rfl rfl)
theorem dX3_weight_32 : decode cX3_weight 32 = .ok (.irem, 1) := dk_112 (dk_at dksX3_weight_1 8 rfl rfl)
theorem dX3_weight_33 : decode cX3_weight 33 = .ok (.iload_n 3, 1) := dk_29 (dk_at dksX3_weight_1 9 rfl rfl)
theorem dX3_weight_34 : decode cX3_weight 34 = .ok (.iload_n 0, 1) := dk_26 (dk_at dksX3_weight_1 10 rfl rfl)
theorem dX3_weight_35 : decode cX3_weight 35 = .ok (.isub, 1) := dk_100 (dk_at dksX3_weight_1 11 rfl rfl)
theorem dX3_weight_36 : decode cX3_weight 36 = .ok (.sipush 1019, 3) := dk_17 3 251 (dk_at dksX3_weight_1 12 rfl rfl)
theorem dX3_weight_39 : decode cX3_weight 39 = .ok (.invokestatic 280, 3) := dk_184 1 24 (dk_at dksX3_weight_1 15 rfl rfl)
theorem dX3_weight_42 : decode cX3_weight 42 = .ok (.invokestatic 285, 3) := dk_184 1 29 (dk_at dksX3_weight_1 18 rfl rfl)
theorem dX3_weight_45 : decode cX3_weight 45 = .ok (.imul, 1) := dk_104 (dk_at dksX3_weight_1 21 rfl rfl)
theorem dX3_weight_46 : decode cX3_weight 46 = .ok (.sipush 1019, 3) := dk_17 3 251 (dk_at dksX3_weight_2 0 rfl rfl)
theorem dX3_weight_49 : decode cX3_weight 49 = .ok (.irem, 1) := dk_112 (dk_at dksX3_weight_2 3 rfl rfl)
theorem dX3_weight_50 : decode cX3_weight 50 = .ok (.istore_n 2, 1) := dk_61 (dk_at dksX3_weight_2 4 rfl rfl)
theorem dX3_weight_51 : decode cX3_weight 51 = .ok (.iinc 3 1, 3) := dk_132 3 1 (dk_at dksX3_weight_2 5 rfl rfl)
theorem dX3_weight_54 : decode cX3_weight 54 = .ok (.goto (-50), 3) := dk_167 255 206 (dk_at dksX3_weight_2 8 rfl rfl)
theorem dX3_weight_57 : decode cX3_weight 57 = .ok (.iload_n 2, 1) := dk_28 (dk_at dksX3_weight_2 11 rfl rfl)
theorem dX3_weight_58 : decode cX3_weight 58 = .ok (.ireturn, 1) := dk_172 (dk_at dksX3_weight_2 12 rfl rfl)
abbrev cX3_inverse : ByteArray := prog_22_method_9_code
def yX3_inverse : MethodName := ⟨RX3, "inverse", "(I)I"⟩
def dkwX3_inverse_0 : List UInt8 := [26, 17, 3, 249, 17, 3, 251, 184, 0, 192, 172]
abbrev dktX3_inverse_0 : List UInt8 := dkwX3_inverse_0 ++ []
theorem dksX3_inverse_0 : cX3_inverse.data.toList.drop 0 = dktX3_inverse_0 := by decide +kernel
theorem dX3_inverse_0 : decode cX3_inverse 0 = .ok (.iload_n 0, 1) := dk_26 (dk_at dksX3_inverse_0 0 rfl rfl)
theorem dX3_inverse_1 : decode cX3_inverse 1 = .ok (.sipush 1017, 3) := dk_17 3 249 (dk_at dksX3_inverse_0 1 rfl rfl)
theorem dX3_inverse_4 : decode cX3_inverse 4 = .ok (.sipush 1019, 3) := dk_17 3 251 (dk_at dksX3_inverse_0 4 rfl rfl)
theorem dX3_inverse_7 : decode cX3_inverse 7 = .ok (.invokestatic 192, 3) := dk_184 0 192 (dk_at dksX3_inverse_0 7 rfl rfl)
theorem dX3_inverse_10 : decode cX3_inverse 10 = .ok (.ireturn, 1) := dk_172 (dk_at dksX3_inverse_0 10 rfl rfl)
abbrev cX3_left : ByteArray := prog_22_method_42_code
def yX3_left : MethodName := ⟨RX3, "left", "(II)I"⟩
def dkwX3_left_2 : List UInt8 := [172]
abbrev dktX3_left_2 : List UInt8 := dkwX3_left_2 ++ []
def dkwX3_left_1 : List UInt8 := [180, 0, 63, 27, 46, 28, 42, 180, 0, 60, 27, 46, 126, 184, 1, 2, 100, 184, 1, 35, 167, 0, 4, 2]
abbrev dktX3_left_1 : List UInt8 := dkwX3_left_1 ++ dktX3_left_2
def dkwX3_left_0 : List UInt8 := [42, 3, 181, 0, 181, 42, 27, 182, 1, 11, 153, 0, 37, 42, 28, 4, 182, 0, 254, 153, 0, 28, 3, 42]
abbrev dktX3_left_0 : List UInt8 := dkwX3_left_0 ++ dktX3_left_1
theorem dksX3_left_0 : cX3_left.data.toList.drop 0 = dktX3_left_0 := by decide +kernel
theorem dksX3_left_1 : cX3_left.data.toList.drop 24 = dktX3_left_1 := dk_seg dksX3_left_0 24 rfl rfl
theorem dksX3_left_2 : cX3_left.data.toList.drop 48 = dktX3_left_2 := dk_seg dksX3_left_1 24 rfl rfl
theorem dX3_left_0 : decode cX3_left 0 = .ok (.aload_n 0, 1) := dk_42 (dk_at dksX3_left_0 0 rfl rfl)
theorem dX3_left_1 : decode cX3_left 1 = .ok (.iconst 0, 1) := dk_3 (dk_at dksX3_left_0 1 rfl rfl)
theorem dX3_left_2 : decode cX3_left 2 = .ok (.putfield 181, 3) := dk_181 0 181 (dk_at dksX3_left_0 2 rfl rfl)
theorem dX3_left_5 : decode cX3_left 5 = .ok (.aload_n 0, 1) := dk_42 (dk_at dksX3_left_0 5 rfl rfl)
theorem dX3_left_6 : decode cX3_left 6 = .ok (.iload_n 1, 1) := dk_27 (dk_at dksX3_left_0 6 rfl rfl)
theorem dX3_left_7 : decode cX3_left 7 = .ok (.invokevirtual 267, 3) := dk_182 1 11 (dk_at dksX3_left_0 7 rfl rfl)
theorem dX3_left_10 : decode cX3_left 10 = .ok (.ifCond .eq 37, 3) := dk_153 0 37 (dk_at dksX3_left_0 10 rfl rfl)
theorem dX3_left_13 : decode cX3_left 13 = .ok (.aload_n 0, 1) := dk_42 (dk_at dksX3_left_0 13 rfl rfl)
theorem dX3_left_14 : decode cX3_left 14 = .ok (.iload_n 2, 1) := dk_28 (dk_at dksX3_left_0 14 rfl rfl)
theorem dX3_left_15 : decode cX3_left 15 = .ok (.iconst 1, 1) := dk_4 (dk_at dksX3_left_0 15 rfl rfl)
theorem dX3_left_16 : decode cX3_left 16 = .ok (.invokevirtual 254, 3) := dk_182 0 254 (dk_at dksX3_left_0 16 rfl rfl)
theorem dX3_left_19 : decode cX3_left 19 = .ok (.ifCond .eq 28, 3) := dk_153 0 28 (dk_at dksX3_left_0 19 rfl rfl)
theorem dX3_left_22 : decode cX3_left 22 = .ok (.iconst 0, 1) := dk_3 (dk_at dksX3_left_0 22 rfl rfl)
theorem dX3_left_23 : decode cX3_left 23 = .ok (.aload_n 0, 1) := dk_42 (dk_at dksX3_left_0 23 rfl rfl)
theorem dX3_left_24 : decode cX3_left 24 = .ok (.getfield 63, 3) := dk_180 0 63 (dk_at dksX3_left_1 0 rfl rfl)
theorem dX3_left_27 : decode cX3_left 27 = .ok (.iload_n 1, 1) := dk_27 (dk_at dksX3_left_1 3 rfl rfl)
theorem dX3_left_28 : decode cX3_left 28 = .ok (.iaload, 1) := dk_46 (dk_at dksX3_left_1 4 rfl rfl)
theorem dX3_left_29 : decode cX3_left 29 = .ok (.iload_n 2, 1) := dk_28 (dk_at dksX3_left_1 5 rfl rfl)
theorem dX3_left_30 : decode cX3_left 30 = .ok (.aload_n 0, 1) := dk_42 (dk_at dksX3_left_1 6 rfl rfl)
theorem dX3_left_31 : decode cX3_left 31 = .ok (.getfield 60, 3) := dk_180 0 60 (dk_at dksX3_left_1 7 rfl rfl)
theorem dX3_left_34 : decode cX3_left 34 = .ok (.iload_n 1, 1) := dk_27 (dk_at dksX3_left_1 10 rfl rfl)
theorem dX3_left_35 : decode cX3_left 35 = .ok (.iaload, 1) := dk_46 (dk_at dksX3_left_1 11 rfl rfl)
theorem dX3_left_36 : decode cX3_left 36 = .ok (.iand, 1) := dk_126 (dk_at dksX3_left_1 12 rfl rfl)
theorem dX3_left_37 : decode cX3_left 37 = .ok (.invokestatic 258, 3) := dk_184 1 2 (dk_at dksX3_left_1 13 rfl rfl)
theorem dX3_left_40 : decode cX3_left 40 = .ok (.isub, 1) := dk_100 (dk_at dksX3_left_1 16 rfl rfl)
theorem dX3_left_41 : decode cX3_left 41 = .ok (.invokestatic 291, 3) := dk_184 1 35 (dk_at dksX3_left_1 17 rfl rfl)
theorem dX3_left_44 : decode cX3_left 44 = .ok (.goto 4, 3) := dk_167 0 4 (dk_at dksX3_left_1 20 rfl rfl)
theorem dX3_left_47 : decode cX3_left 47 = .ok (.iconst (-1), 1) := dk_2 (dk_at dksX3_left_1 23 rfl rfl)
theorem dX3_left_48 : decode cX3_left 48 = .ok (.ireturn, 1) := dk_172 (dk_at dksX3_left_2 0 rfl rfl)
abbrev cX3_got : ByteArray := prog_22_method_48_code
def yX3_got : MethodName := ⟨RX3, "got", "(II)J"⟩
def dkwX3_got_1 : List UInt8 := [28, 182, 1, 54, 167, 0, 6, 20, 1, 58, 173]
abbrev dktX3_got_1 : List UInt8 := dkwX3_got_1 ++ []
def dkwX3_got_0 : List UInt8 := [42, 3, 181, 0, 181, 42, 27, 4, 182, 0, 254, 153, 0, 20, 42, 28, 182, 1, 51, 153, 0, 12, 42, 27]
abbrev dktX3_got_0 : List UInt8 := dkwX3_got_0 ++ dktX3_got_1
theorem dksX3_got_0 : cX3_got.data.toList.drop 0 = dktX3_got_0 := by decide +kernel
theorem dksX3_got_1 : cX3_got.data.toList.drop 24 = dktX3_got_1 := dk_seg dksX3_got_0 24 rfl rfl
theorem dX3_got_0 : decode cX3_got 0 = .ok (.aload_n 0, 1) := dk_42 (dk_at dksX3_got_0 0 rfl rfl)
theorem dX3_got_1 : decode cX3_got 1 = .ok (.iconst 0, 1) := dk_3 (dk_at dksX3_got_0 1 rfl rfl)
theorem dX3_got_2 : decode cX3_got 2 = .ok (.putfield 181, 3) := dk_181 0 181 (dk_at dksX3_got_0 2 rfl rfl)
theorem dX3_got_5 : decode cX3_got 5 = .ok (.aload_n 0, 1) := dk_42 (dk_at dksX3_got_0 5 rfl rfl)
theorem dX3_got_6 : decode cX3_got 6 = .ok (.iload_n 1, 1) := dk_27 (dk_at dksX3_got_0 6 rfl rfl)
theorem dX3_got_7 : decode cX3_got 7 = .ok (.iconst 1, 1) := dk_4 (dk_at dksX3_got_0 7 rfl rfl)
theorem dX3_got_8 : decode cX3_got 8 = .ok (.invokevirtual 254, 3) := dk_182 0 254 (dk_at dksX3_got_0 8 rfl rfl)
theorem dX3_got_11 : decode cX3_got 11 = .ok (.ifCond .eq 20, 3) := dk_153 0 20 (dk_at dksX3_got_0 11 rfl rfl)
theorem dX3_got_14 : decode cX3_got 14 = .ok (.aload_n 0, 1) := dk_42 (dk_at dksX3_got_0 14 rfl rfl)
theorem dX3_got_15 : decode cX3_got 15 = .ok (.iload_n 2, 1) := dk_28 (dk_at dksX3_got_0 15 rfl rfl)
theorem dX3_got_16 : decode cX3_got 16 = .ok (.invokevirtual 307, 3) := dk_182 1 51 (dk_at dksX3_got_0 16 rfl rfl)
theorem dX3_got_19 : decode cX3_got 19 = .ok (.ifCond .eq 12, 3) := dk_153 0 12 (dk_at dksX3_got_0 19 rfl rfl)
theorem dX3_got_22 : decode cX3_got 22 = .ok (.aload_n 0, 1) := dk_42 (dk_at dksX3_got_0 22 rfl rfl)
theorem dX3_got_23 : decode cX3_got 23 = .ok (.iload_n 1, 1) := dk_27 (dk_at dksX3_got_0 23 rfl rfl)
theorem dX3_got_24 : decode cX3_got 24 = .ok (.iload_n 2, 1) := dk_28 (dk_at dksX3_got_1 0 rfl rfl)
theorem dX3_got_25 : decode cX3_got 25 = .ok (.invokevirtual 310, 3) := dk_182 1 54 (dk_at dksX3_got_1 1 rfl rfl)
theorem dX3_got_28 : decode cX3_got 28 = .ok (.goto 6, 3) := dk_167 0 6 (dk_at dksX3_got_1 4 rfl rfl)
theorem dX3_got_31 : decode cX3_got 31 = .ok (.ldc2_w 314, 3) := dk_20 1 58 (dk_at dksX3_got_1 7 rfl rfl)
theorem dX3_got_34 : decode cX3_got 34 = .ok (.lreturn, 1) := dk_173 (dk_at dksX3_got_1 10 rfl rfl)
abbrev cX3_isKnown : ByteArray := prog_22_method_4_code
def yX3_isKnown : MethodName := ⟨RX3, "isKnown", "(I)Z"⟩
def dkwX3_isKnown_0 : List UInt8 := [27, 3, 42, 180, 0, 185, 184, 0, 188, 172]
abbrev dktX3_isKnown_0 : List UInt8 := dkwX3_isKnown_0 ++ []
theorem dksX3_isKnown_0 : cX3_isKnown.data.toList.drop 0 = dktX3_isKnown_0 := by decide +kernel
theorem dX3_isKnown_0 : decode cX3_isKnown 0 = .ok (.iload_n 1, 1) := dk_27 (dk_at dksX3_isKnown_0 0 rfl rfl)
theorem dX3_isKnown_1 : decode cX3_isKnown 1 = .ok (.iconst 0, 1) := dk_3 (dk_at dksX3_isKnown_0 1 rfl rfl)
theorem dX3_isKnown_2 : decode cX3_isKnown 2 = .ok (.aload_n 0, 1) := dk_42 (dk_at dksX3_isKnown_0 2 rfl rfl)
theorem dX3_isKnown_3 : decode cX3_isKnown 3 = .ok (.getfield 185, 3) := dk_180 0 185 (dk_at dksX3_isKnown_0 3 rfl rfl)
theorem dX3_isKnown_6 : decode cX3_isKnown 6 = .ok (.invokestatic 188, 3) := dk_184 0 188 (dk_at dksX3_isKnown_0 6 rfl rfl)
theorem dX3_isKnown_9 : decode cX3_isKnown 9 = .ok (.ireturn, 1) := dk_172 (dk_at dksX3_isKnown_0 9 rfl rfl)
abbrev cX3_gets : ByteArray := prog_22_method_47_code
def yX3_gets : MethodName := ⟨RX3, "gets", "(II)J"⟩
def dkwX3_gets_0 : List UInt8 := [42, 28, 182, 1, 44, 42, 27, 28, 2, 3, 182, 1, 47, 173]
abbrev dktX3_gets_0 : List UInt8 := dkwX3_gets_0 ++ []
theorem dksX3_gets_0 : cX3_gets.data.toList.drop 0 = dktX3_gets_0 := by decide +kernel
theorem dX3_gets_0 : decode cX3_gets 0 = .ok (.aload_n 0, 1) := dk_42 (dk_at dksX3_gets_0 0 rfl rfl)
theorem dX3_gets_1 : decode cX3_gets 1 = .ok (.iload_n 2, 1) := dk_28 (dk_at dksX3_gets_0 1 rfl rfl)
theorem dX3_gets_2 : decode cX3_gets 2 = .ok (.invokevirtual 300, 3) := dk_182 1 44 (dk_at dksX3_gets_0 2 rfl rfl)
theorem dX3_gets_5 : decode cX3_gets 5 = .ok (.aload_n 0, 1) := dk_42 (dk_at dksX3_gets_0 5 rfl rfl)
theorem dX3_gets_6 : decode cX3_gets 6 = .ok (.iload_n 1, 1) := dk_27 (dk_at dksX3_gets_0 6 rfl rfl)
theorem dX3_gets_7 : decode cX3_gets 7 = .ok (.iload_n 2, 1) := dk_28 (dk_at dksX3_gets_0 7 rfl rfl)
theorem dX3_gets_8 : decode cX3_gets 8 = .ok (.iconst (-1), 1) := dk_2 (dk_at dksX3_gets_0 8 rfl rfl)
theorem dX3_gets_9 : decode cX3_gets 9 = .ok (.iconst 0, 1) := dk_3 (dk_at dksX3_gets_0 9 rfl rfl)
theorem dX3_gets_10 : decode cX3_gets 10 = .ok (.invokevirtual 303, 3) := dk_182 1 47 (dk_at dksX3_gets_0 10 rfl rfl)
theorem dX3_gets_13 : decode cX3_gets 13 = .ok (.lreturn, 1) := dk_173 (dk_at dksX3_gets_0 13 rfl rfl)
abbrev cX3_layHas : ByteArray := prog_22_method_45_code
def yX3_layHas : MethodName := ⟨RX3, "layHas", "(I)V"⟩
def dkwX3_layHas_2 : List UInt8 := [80, 132, 3, 1, 167, 255, 223, 132, 2, 1, 167, 255, 200, 177]
abbrev dktX3_layHas_2 : List UInt8 := dkwX3_layHas_2 ++ []
def dkwX3_layHas_1 : List UInt8 := [162, 0, 31, 42, 28, 29, 27, 182, 0, 229, 153, 0, 15, 42, 180, 0, 81, 28, 92, 47, 10, 29, 121, 129]
abbrev dktX3_layHas_1 : List UInt8 := dkwX3_layHas_1 ++ dktX3_layHas_2
def dkwX3_layHas_0 : List UInt8 := [3, 61, 28, 42, 180, 0, 196, 162, 0, 54, 42, 180, 0, 81, 28, 9, 80, 3, 62, 29, 42, 180, 0, 199]
abbrev dktX3_layHas_0 : List UInt8 := dkwX3_layHas_0 ++ dktX3_layHas_1
theorem dksX3_layHas_0 : cX3_layHas.data.toList.drop 0 = dktX3_layHas_0 := by decide +kernel
theorem dksX3_layHas_1 : cX3_layHas.data.toList.drop 24 = dktX3_layHas_1 := dk_seg dksX3_layHas_0 24 rfl rfl
theorem dksX3_layHas_2 : cX3_layHas.data.toList.drop 48 = dktX3_layHas_2 := dk_seg dksX3_layHas_1 24 rfl rfl
theorem dX3_layHas_0 : decode cX3_layHas 0 = .ok (.iconst 0, 1) := dk_3 (dk_at dksX3_layHas_0 0 rfl rfl)
theorem dX3_layHas_1 : decode cX3_layHas 1 = .ok (.istore_n 2, 1) := dk_61 (dk_at dksX3_layHas_0 1 rfl rfl)
theorem dX3_layHas_2 : decode cX3_layHas 2 = .ok (.iload_n 2, 1) := dk_28 (dk_at dksX3_layHas_0 2 rfl rfl)
theorem dX3_layHas_3 : decode cX3_layHas 3 = .ok (.aload_n 0, 1) := dk_42 (dk_at dksX3_layHas_0 3 rfl rfl)
theorem dX3_layHas_4 : decode cX3_layHas 4 = .ok (.getfield 196, 3) := dk_180 0 196 (dk_at dksX3_layHas_0 4 rfl rfl)
theorem dX3_layHas_7 : decode cX3_layHas 7 = .ok (.if_icmp .ge 54, 3) := dk_162 0 54 (dk_at dksX3_layHas_0 7 rfl rfl)
theorem dX3_layHas_10 : decode cX3_layHas 10 = .ok (.aload_n 0, 1) := dk_42 (dk_at dksX3_layHas_0 10 rfl rfl)
theorem dX3_layHas_11 : decode cX3_layHas 11 = .ok (.getfield 81, 3) := dk_180 0 81 (dk_at dksX3_layHas_0 11 rfl rfl)
theorem dX3_layHas_14 : decode cX3_layHas 14 = .ok (.iload_n 2, 1) := dk_28 (dk_at dksX3_layHas_0 14 rfl rfl)
theorem dX3_layHas_15 : decode cX3_layHas 15 = .ok (.lconst 0, 1) := dk_9 (dk_at dksX3_layHas_0 15 rfl rfl)
theorem dX3_layHas_16 : decode cX3_layHas 16 = .ok (.lastore, 1) := dk_80 (dk_at dksX3_layHas_0 16 rfl rfl)
theorem dX3_layHas_17 : decode cX3_layHas 17 = .ok (.iconst 0, 1) := dk_3 (dk_at dksX3_layHas_0 17 rfl rfl)
theorem dX3_layHas_18 : decode cX3_layHas 18 = .ok (.istore_n 3, 1) := dk_62 (dk_at dksX3_layHas_0 18 rfl rfl)
theorem dX3_layHas_19 : decode cX3_layHas 19 = .ok (.iload_n 3, 1) := dk_29 (dk_at dksX3_layHas_0 19 rfl rfl)
theorem dX3_layHas_20 : decode cX3_layHas 20 = .ok (.aload_n 0, 1) := dk_42 (dk_at dksX3_layHas_0 20 rfl rfl)
theorem dX3_layHas_21 : decode cX3_layHas 21 = .ok (.getfield 199, 3) := dk_180 0 199 (dk_at dksX3_layHas_0 21 rfl rfl)
theorem dX3_layHas_24 : decode cX3_layHas 24 = .ok (.if_icmp .ge 31, 3) := dk_162 0 31 (dk_at dksX3_layHas_1 0 rfl rfl)
theorem dX3_layHas_27 : decode cX3_layHas 27 = .ok (.aload_n 0, 1) := dk_42 (dk_at dksX3_layHas_1 3 rfl rfl)
theorem dX3_layHas_28 : decode cX3_layHas 28 = .ok (.iload_n 2, 1) := dk_28 (dk_at dksX3_layHas_1 4 rfl rfl)
theorem dX3_layHas_29 : decode cX3_layHas 29 = .ok (.iload_n 3, 1) := dk_29 (dk_at dksX3_layHas_1 5 rfl rfl)
theorem dX3_layHas_30 : decode cX3_layHas 30 = .ok (.iload_n 1, 1) := dk_27 (dk_at dksX3_layHas_1 6 rfl rfl)
theorem dX3_layHas_31 : decode cX3_layHas 31 = .ok (.invokevirtual 229, 3) := dk_182 0 229 (dk_at dksX3_layHas_1 7 rfl rfl)
theorem dX3_layHas_34 : decode cX3_layHas 34 = .ok (.ifCond .eq 15, 3) := dk_153 0 15 (dk_at dksX3_layHas_1 10 rfl rfl)
theorem dX3_layHas_37 : decode cX3_layHas 37 = .ok (.aload_n 0, 1) := dk_42 (dk_at dksX3_layHas_1 13 rfl rfl)
theorem dX3_layHas_38 : decode cX3_layHas 38 = .ok (.getfield 81, 3) := dk_180 0 81 (dk_at dksX3_layHas_1 14 rfl rfl)
theorem dX3_layHas_41 : decode cX3_layHas 41 = .ok (.iload_n 2, 1) := dk_28 (dk_at dksX3_layHas_1 17 rfl rfl)
theorem dX3_layHas_42 : decode cX3_layHas 42 = .ok (.dup2, 1) := dk_92 (dk_at dksX3_layHas_1 18 rfl rfl)
theorem dX3_layHas_43 : decode cX3_layHas 43 = .ok (.laload, 1) := dk_47 (dk_at dksX3_layHas_1 19 rfl rfl)
theorem dX3_layHas_44 : decode cX3_layHas 44 = .ok (.lconst 1, 1) := dk_10 (dk_at dksX3_layHas_1 20 rfl rfl)
theorem dX3_layHas_45 : decode cX3_layHas 45 = .ok (.iload_n 3, 1) := dk_29 (dk_at dksX3_layHas_1 21 rfl rfl)
theorem dX3_layHas_46 : decode cX3_layHas 46 = .ok (.lshl, 1) := dk_121 (dk_at dksX3_layHas_1 22 rfl rfl)
theorem dX3_layHas_47 : decode cX3_layHas 47 = .ok (.lor, 1) := dk_129 (dk_at dksX3_layHas_1 23 rfl rfl)
theorem dX3_layHas_48 : decode cX3_layHas 48 = .ok (.lastore, 1) := dk_80 (dk_at dksX3_layHas_2 0 rfl rfl)
theorem dX3_layHas_49 : decode cX3_layHas 49 = .ok (.iinc 3 1, 3) := dk_132 3 1 (dk_at dksX3_layHas_2 1 rfl rfl)
theorem dX3_layHas_52 : decode cX3_layHas 52 = .ok (.goto (-33), 3) := dk_167 255 223 (dk_at dksX3_layHas_2 4 rfl rfl)
theorem dX3_layHas_55 : decode cX3_layHas 55 = .ok (.iinc 2 1, 3) := dk_132 2 1 (dk_at dksX3_layHas_2 7 rfl rfl)
theorem dX3_layHas_58 : decode cX3_layHas 58 = .ok (.goto (-56), 3) := dk_167 255 200 (dk_at dksX3_layHas_2 10 rfl rfl)
theorem dX3_layHas_61 : decode cX3_layHas 61 = .ok (.return_, 1) := dk_177 (dk_at dksX3_layHas_2 13 rfl rfl)
abbrev cX3_closes : ByteArray := prog_22_method_46_code
def yX3_closes : MethodName := ⟨RX3, "closes", "(IIII)J"⟩
def dkwX3_closes_11 : List UInt8 := [148, 153, 0, 7, 4, 167, 0, 4, 3, 54, 7, 167, 255, 107, 22, 5, 173]
abbrev dktX3_closes_11 : List UInt8 := dkwX3_closes_11 ++ []
def dkwX3_closes_10 : List UInt8 := [22, 5, 10, 42, 180, 0, 45, 21, 10, 46, 121, 129, 55, 5, 132, 10, 1, 167, 255, 203, 22, 5, 22, 8]
abbrev dktX3_closes_10 : List UInt8 := dkwX3_closes_10 ++ dktX3_closes_11
def dkwX3_closes_9 : List UInt8 := [182, 1, 41, 153, 0, 34, 22, 5, 42, 180, 0, 48, 21, 10, 46, 123, 10, 127, 10, 148, 154, 0, 17]
abbrev dktX3_closes_9 : List UInt8 := dkwX3_closes_9 ++ dktX3_closes_10
def dkwX3_closes_8 : List UInt8 := [132, 10, 1, 167, 255, 196, 3, 54, 10, 21, 10, 42, 180, 0, 236, 162, 0, 50, 42, 21, 10, 28]
abbrev dktX3_closes_8 : List UInt8 := dkwX3_closes_8 ++ dktX3_closes_9
def dkwX3_closes_7 : List UInt8 := [42, 180, 0, 16, 21, 10, 46, 123, 10, 127, 10, 148, 154, 0, 12, 22, 5, 10, 21, 10, 121, 129, 55, 5]
abbrev dktX3_closes_7 : List UInt8 := dkwX3_closes_7 ++ dktX3_closes_8
def dkwX3_closes_6 : List UInt8 := [42, 180, 0, 9, 21, 10, 46, 5, 160, 0, 40, 42, 180, 0, 19, 21, 10, 46, 28, 163, 0, 29, 22, 5]
abbrev dktX3_closes_6 : List UInt8 := dkwX3_closes_6 ++ dktX3_closes_7
def dkwX3_closes_5 : List UInt8 := [4, 54, 7, 21, 7, 153, 0, 150, 22, 5, 55, 8, 3, 54, 10, 21, 10, 42, 180, 0, 199, 162, 0, 57]
abbrev dktX3_closes_5 : List UInt8 := dkwX3_closes_5 ++ dktX3_closes_6
def dkwX3_closes_4 : List UInt8 := [46, 161, 0, 17, 22, 5, 10, 42, 180, 0, 57, 21, 7, 46, 121, 129, 55, 5, 132, 7, 1, 167, 255, 187]
abbrev dktX3_closes_4 : List UInt8 := dkwX3_closes_4 ++ dktX3_closes_5
def dkwX3_closes_3 : List UInt8 := [21, 7, 46, 126, 184, 1, 2, 21, 7, 29, 160, 0, 8, 21, 4, 167, 0, 10, 42, 180, 0, 63, 21, 7]
abbrev dktX3_closes_3 : List UInt8 := dkwX3_closes_3 ++ dktX3_closes_4
def dkwX3_closes_2 : List UInt8 := [21, 7, 42, 180, 0, 243, 162, 0, 66, 42, 21, 7, 28, 182, 1, 38, 153, 0, 50, 27, 42, 180, 0, 60]
abbrev dktX3_closes_2 : List UInt8 := dkwX3_closes_2 ++ dktX3_closes_3
def dkwX3_closes_1 : List UInt8 := [160, 0, 15, 22, 5, 42, 180, 0, 81, 21, 7, 47, 129, 55, 5, 132, 7, 1, 167, 255, 222, 3, 54, 7]
abbrev dktX3_closes_1 : List UInt8 := dkwX3_closes_1 ++ dktX3_closes_2
def dkwX3_closes_0 : List UInt8 := [9, 55, 5, 3, 54, 7, 21, 7, 42, 180, 0, 196, 162, 0, 31, 27, 21, 7, 122, 4, 126, 4]
abbrev dktX3_closes_0 : List UInt8 := dkwX3_closes_0 ++ dktX3_closes_1
theorem dksX3_closes_0 : cX3_closes.data.toList.drop 0 = dktX3_closes_0 := by decide +kernel
theorem dksX3_closes_1 : cX3_closes.data.toList.drop 22 = dktX3_closes_1 := dk_seg dksX3_closes_0 22 rfl rfl
theorem dksX3_closes_2 : cX3_closes.data.toList.drop 46 = dktX3_closes_2 := dk_seg dksX3_closes_1 24 rfl rfl
theorem dksX3_closes_3 : cX3_closes.data.toList.drop 70 = dktX3_closes_3 := dk_seg dksX3_closes_2 24 rfl rfl
theorem dksX3_closes_4 : cX3_closes.data.toList.drop 94 = dktX3_closes_4 := dk_seg dksX3_closes_3 24 rfl rfl
theorem dksX3_closes_5 : cX3_closes.data.toList.drop 118 = dktX3_closes_5 := dk_seg dksX3_closes_4 24 rfl rfl
theorem dksX3_closes_6 : cX3_closes.data.toList.drop 142 = dktX3_closes_6 := dk_seg dksX3_closes_5 24 rfl rfl
theorem dksX3_closes_7 : cX3_closes.data.toList.drop 166 = dktX3_closes_7 := dk_seg dksX3_closes_6 24 rfl rfl
theorem dksX3_closes_8 : cX3_closes.data.toList.drop 190 = dktX3_closes_8 := dk_seg dksX3_closes_7 24 rfl rfl
theorem dksX3_closes_9 : cX3_closes.data.toList.drop 212 = dktX3_closes_9 := dk_seg dksX3_closes_8 22 rfl rfl
theorem dksX3_closes_10 : cX3_closes.data.toList.drop 235 = dktX3_closes_10 := dk_seg dksX3_closes_9 23 rfl rfl
theorem dksX3_closes_11 : cX3_closes.data.toList.drop 259 = dktX3_closes_11 := dk_seg dksX3_closes_10 24 rfl rfl
theorem dX3_closes_0 : decode cX3_closes 0 = .ok (.lconst 0, 1) := dk_9 (dk_at dksX3_closes_0 0 rfl rfl)
theorem dX3_closes_1 : decode cX3_closes 1 = .ok (.lstore 5, 2) := dk_55 5 (dk_at dksX3_closes_0 1 rfl rfl)
theorem dX3_closes_3 : decode cX3_closes 3 = .ok (.iconst 0, 1) := dk_3 (dk_at dksX3_closes_0 3 rfl rfl)
theorem dX3_closes_4 : decode cX3_closes 4 = .ok (.istore 7, 2) := dk_54 7 (dk_at dksX3_closes_0 4 rfl rfl)
theorem dX3_closes_6 : decode cX3_closes 6 = .ok (.iload 7, 2) := dk_21 7 (dk_at dksX3_closes_0 6 rfl rfl)
theorem dX3_closes_8 : decode cX3_closes 8 = .ok (.aload_n 0, 1) := dk_42 (dk_at dksX3_closes_0 8 rfl rfl)
theorem dX3_closes_9 : decode cX3_closes 9 = .ok (.getfield 196, 3) := dk_180 0 196 (dk_at dksX3_closes_0 9 rfl rfl)
theorem dX3_closes_12 : decode cX3_closes 12 = .ok (.if_icmp .ge 31, 3) := dk_162 0 31 (dk_at dksX3_closes_0 12 rfl rfl)
theorem dX3_closes_15 : decode cX3_closes 15 = .ok (.iload_n 1, 1) := dk_27 (dk_at dksX3_closes_0 15 rfl rfl)
theorem dX3_closes_16 : decode cX3_closes 16 = .ok (.iload 7, 2) := dk_21 7 (dk_at dksX3_closes_0 16 rfl rfl)
theorem dX3_closes_18 : decode cX3_closes 18 = .ok (.ishr, 1) := dk_122 (dk_at dksX3_closes_0 18 rfl rfl)
theorem dX3_closes_19 : decode cX3_closes 19 = .ok (.iconst 1, 1) := dk_4 (dk_at dksX3_closes_0 19 rfl rfl)
theorem dX3_closes_20 : decode cX3_closes 20 = .ok (.iand, 1) := dk_126 (dk_at dksX3_closes_0 20 rfl rfl)
theorem dX3_closes_21 : decode cX3_closes 21 = .ok (.iconst 1, 1) := dk_4 (dk_at dksX3_closes_0 21 rfl rfl)
theorem dX3_closes_22 : decode cX3_closes 22 = .ok (.if_icmp .ne 15, 3) := dk_160 0 15 (dk_at dksX3_closes_1 0 rfl rfl)
theorem dX3_closes_25 : decode cX3_closes 25 = .ok (.lload 5, 2) := dk_22 5 (dk_at dksX3_closes_1 3 rfl rfl)
theorem dX3_closes_27 : decode cX3_closes 27 = .ok (.aload_n 0, 1) := dk_42 (dk_at dksX3_closes_1 5 rfl rfl)
theorem dX3_closes_28 : decode cX3_closes 28 = .ok (.getfield 81, 3) := dk_180 0 81 (dk_at dksX3_closes_1 6 rfl rfl)
theorem dX3_closes_31 : decode cX3_closes 31 = .ok (.iload 7, 2) := dk_21 7 (dk_at dksX3_closes_1 9 rfl rfl)
theorem dX3_closes_33 : decode cX3_closes 33 = .ok (.laload, 1) := dk_47 (dk_at dksX3_closes_1 11 rfl rfl)
theorem dX3_closes_34 : decode cX3_closes 34 = .ok (.lor, 1) := dk_129 (dk_at dksX3_closes_1 12 rfl rfl)
theorem dX3_closes_35 : decode cX3_closes 35 = .ok (.lstore 5, 2) := dk_55 5 (dk_at dksX3_closes_1 13 rfl rfl)
theorem dX3_closes_37 : decode cX3_closes 37 = .ok (.iinc 7 1, 3) := dk_132 7 1 (dk_at dksX3_closes_1 15 rfl rfl)
theorem dX3_closes_40 : decode cX3_closes 40 = .ok (.goto (-34), 3) := dk_167 255 222 (dk_at dksX3_closes_1 18 rfl rfl)
theorem dX3_closes_43 : decode cX3_closes 43 = .ok (.iconst 0, 1) := dk_3 (dk_at dksX3_closes_1 21 rfl rfl)
theorem dX3_closes_44 : decode cX3_closes 44 = .ok (.istore 7, 2) := dk_54 7 (dk_at dksX3_closes_1 22 rfl rfl)
theorem dX3_closes_46 : decode cX3_closes 46 = .ok (.iload 7, 2) := dk_21 7 (dk_at dksX3_closes_2 0 rfl rfl)
theorem dX3_closes_48 : decode cX3_closes 48 = .ok (.aload_n 0, 1) := dk_42 (dk_at dksX3_closes_2 2 rfl rfl)
theorem dX3_closes_49 : decode cX3_closes 49 = .ok (.getfield 243, 3) := dk_180 0 243 (dk_at dksX3_closes_2 3 rfl rfl)
theorem dX3_closes_52 : decode cX3_closes 52 = .ok (.if_icmp .ge 66, 3) := dk_162 0 66 (dk_at dksX3_closes_2 6 rfl rfl)
theorem dX3_closes_55 : decode cX3_closes 55 = .ok (.aload_n 0, 1) := dk_42 (dk_at dksX3_closes_2 9 rfl rfl)
theorem dX3_closes_56 : decode cX3_closes 56 = .ok (.iload 7, 2) := dk_21 7 (dk_at dksX3_closes_2 10 rfl rfl)
theorem dX3_closes_58 : decode cX3_closes 58 = .ok (.iload_n 2, 1) := dk_28 (dk_at dksX3_closes_2 12 rfl rfl)
theorem dX3_closes_59 : decode cX3_closes 59 = .ok (.invokevirtual 294, 3) := dk_182 1 38 (dk_at dksX3_closes_2 13 rfl rfl)
theorem dX3_closes_62 : decode cX3_closes 62 = .ok (.ifCond .eq 50, 3) := dk_153 0 50 (dk_at dksX3_closes_2 16 rfl rfl)
theorem dX3_closes_65 : decode cX3_closes 65 = .ok (.iload_n 1, 1) := dk_27 (dk_at dksX3_closes_2 19 rfl rfl)
theorem dX3_closes_66 : decode cX3_closes 66 = .ok (.aload_n 0, 1) := dk_42 (dk_at dksX3_closes_2 20 rfl rfl)
theorem dX3_closes_67 : decode cX3_closes 67 = .ok (.getfield 60, 3) := dk_180 0 60 (dk_at dksX3_closes_2 21 rfl rfl)
theorem dX3_closes_70 : decode cX3_closes 70 = .ok (.iload 7, 2) := dk_21 7 (dk_at dksX3_closes_3 0 rfl rfl)
theorem dX3_closes_72 : decode cX3_closes 72 = .ok (.iaload, 1) := dk_46 (dk_at dksX3_closes_3 2 rfl rfl)
theorem dX3_closes_73 : decode cX3_closes 73 = .ok (.iand, 1) := dk_126 (dk_at dksX3_closes_3 3 rfl rfl)
theorem dX3_closes_74 : decode cX3_closes 74 = .ok (.invokestatic 258, 3) := dk_184 1 2 (dk_at dksX3_closes_3 4 rfl rfl)
theorem dX3_closes_77 : decode cX3_closes 77 = .ok (.iload 7, 2) := dk_21 7 (dk_at dksX3_closes_3 7 rfl rfl)
theorem dX3_closes_79 : decode cX3_closes 79 = .ok (.iload_n 3, 1) := dk_29 (dk_at dksX3_closes_3 9 rfl rfl)
theorem dX3_closes_80 : decode cX3_closes 80 = .ok (.if_icmp .ne 8, 3) := dk_160 0 8 (dk_at dksX3_closes_3 10 rfl rfl)
theorem dX3_closes_83 : decode cX3_closes 83 = .ok (.iload 4, 2) := dk_21 4 (dk_at dksX3_closes_3 13 rfl rfl)
theorem dX3_closes_85 : decode cX3_closes 85 = .ok (.goto 10, 3) := dk_167 0 10 (dk_at dksX3_closes_3 15 rfl rfl)
theorem dX3_closes_88 : decode cX3_closes 88 = .ok (.aload_n 0, 1) := dk_42 (dk_at dksX3_closes_3 18 rfl rfl)
theorem dX3_closes_89 : decode cX3_closes 89 = .ok (.getfield 63, 3) := dk_180 0 63 (dk_at dksX3_closes_3 19 rfl rfl)
theorem dX3_closes_92 : decode cX3_closes 92 = .ok (.iload 7, 2) := dk_21 7 (dk_at dksX3_closes_3 22 rfl rfl)
theorem dX3_closes_94 : decode cX3_closes 94 = .ok (.iaload, 1) := dk_46 (dk_at dksX3_closes_4 0 rfl rfl)
theorem dX3_closes_95 : decode cX3_closes 95 = .ok (.if_icmp .lt 17, 3) := dk_161 0 17 (dk_at dksX3_closes_4 1 rfl rfl)
theorem dX3_closes_98 : decode cX3_closes 98 = .ok (.lload 5, 2) := dk_22 5 (dk_at dksX3_closes_4 4 rfl rfl)
theorem dX3_closes_100 : decode cX3_closes 100 = .ok (.lconst 1, 1) := dk_10 (dk_at dksX3_closes_4 6 rfl rfl)
theorem dX3_closes_101 : decode cX3_closes 101 = .ok (.aload_n 0, 1) := dk_42 (dk_at dksX3_closes_4 7 rfl rfl)
theorem dX3_closes_102 : decode cX3_closes 102 = .ok (.getfield 57, 3) := dk_180 0 57 (dk_at dksX3_closes_4 8 rfl rfl)
theorem dX3_closes_105 : decode cX3_closes 105 = .ok (.iload 7, 2) := dk_21 7 (dk_at dksX3_closes_4 11 rfl rfl)
theorem dX3_closes_107 : decode cX3_closes 107 = .ok (.iaload, 1) := dk_46 (dk_at dksX3_closes_4 13 rfl rfl)
theorem dX3_closes_108 : decode cX3_closes 108 = .ok (.lshl, 1) := dk_121 (dk_at dksX3_closes_4 14 rfl rfl)
theorem dX3_closes_109 : decode cX3_closes 109 = .ok (.lor, 1) := dk_129 (dk_at dksX3_closes_4 15 rfl rfl)
theorem dX3_closes_110 : decode cX3_closes 110 = .ok (.lstore 5, 2) := dk_55 5 (dk_at dksX3_closes_4 16 rfl rfl)
theorem dX3_closes_112 : decode cX3_closes 112 = .ok (.iinc 7 1, 3) := dk_132 7 1 (dk_at dksX3_closes_4 18 rfl rfl)
theorem dX3_closes_115 : decode cX3_closes 115 = .ok (.goto (-69), 3) := dk_167 255 187 (dk_at dksX3_closes_4 21 rfl rfl)
theorem dX3_closes_118 : decode cX3_closes 118 = .ok (.iconst 1, 1) := dk_4 (dk_at dksX3_closes_5 0 rfl rfl)
theorem dX3_closes_119 : decode cX3_closes 119 = .ok (.istore 7, 2) := dk_54 7 (dk_at dksX3_closes_5 1 rfl rfl)
theorem dX3_closes_121 : decode cX3_closes 121 = .ok (.iload 7, 2) := dk_21 7 (dk_at dksX3_closes_5 3 rfl rfl)
theorem dX3_closes_123 : decode cX3_closes 123 = .ok (.ifCond .eq 150, 3) := dk_153 0 150 (dk_at dksX3_closes_5 5 rfl rfl)
theorem dX3_closes_126 : decode cX3_closes 126 = .ok (.lload 5, 2) := dk_22 5 (dk_at dksX3_closes_5 8 rfl rfl)
theorem dX3_closes_128 : decode cX3_closes 128 = .ok (.lstore 8, 2) := dk_55 8 (dk_at dksX3_closes_5 10 rfl rfl)
theorem dX3_closes_130 : decode cX3_closes 130 = .ok (.iconst 0, 1) := dk_3 (dk_at dksX3_closes_5 12 rfl rfl)
theorem dX3_closes_131 : decode cX3_closes 131 = .ok (.istore 10, 2) := dk_54 10 (dk_at dksX3_closes_5 13 rfl rfl)
theorem dX3_closes_133 : decode cX3_closes 133 = .ok (.iload 10, 2) := dk_21 10 (dk_at dksX3_closes_5 15 rfl rfl)
theorem dX3_closes_135 : decode cX3_closes 135 = .ok (.aload_n 0, 1) := dk_42 (dk_at dksX3_closes_5 17 rfl rfl)
theorem dX3_closes_136 : decode cX3_closes 136 = .ok (.getfield 199, 3) := dk_180 0 199 (dk_at dksX3_closes_5 18 rfl rfl)
theorem dX3_closes_139 : decode cX3_closes 139 = .ok (.if_icmp .ge 57, 3) := dk_162 0 57 (dk_at dksX3_closes_5 21 rfl rfl)
theorem dX3_closes_142 : decode cX3_closes 142 = .ok (.aload_n 0, 1) := dk_42 (dk_at dksX3_closes_6 0 rfl rfl)
theorem dX3_closes_143 : decode cX3_closes 143 = .ok (.getfield 9, 3) := dk_180 0 9 (dk_at dksX3_closes_6 1 rfl rfl)
theorem dX3_closes_146 : decode cX3_closes 146 = .ok (.iload 10, 2) := dk_21 10 (dk_at dksX3_closes_6 4 rfl rfl)
theorem dX3_closes_148 : decode cX3_closes 148 = .ok (.iaload, 1) := dk_46 (dk_at dksX3_closes_6 6 rfl rfl)
theorem dX3_closes_149 : decode cX3_closes 149 = .ok (.iconst 2, 1) := dk_5 (dk_at dksX3_closes_6 7 rfl rfl)
theorem dX3_closes_150 : decode cX3_closes 150 = .ok (.if_icmp .ne 40, 3) := dk_160 0 40 (dk_at dksX3_closes_6 8 rfl rfl)
theorem dX3_closes_153 : decode cX3_closes 153 = .ok (.aload_n 0, 1) := dk_42 (dk_at dksX3_closes_6 11 rfl rfl)
theorem dX3_closes_154 : decode cX3_closes 154 = .ok (.getfield 19, 3) := dk_180 0 19 (dk_at dksX3_closes_6 12 rfl rfl)
theorem dX3_closes_157 : decode cX3_closes 157 = .ok (.iload 10, 2) := dk_21 10 (dk_at dksX3_closes_6 15 rfl rfl)
theorem dX3_closes_159 : decode cX3_closes 159 = .ok (.iaload, 1) := dk_46 (dk_at dksX3_closes_6 17 rfl rfl)
theorem dX3_closes_160 : decode cX3_closes 160 = .ok (.iload_n 2, 1) := dk_28 (dk_at dksX3_closes_6 18 rfl rfl)
theorem dX3_closes_161 : decode cX3_closes 161 = .ok (.if_icmp .gt 29, 3) := dk_163 0 29 (dk_at dksX3_closes_6 19 rfl rfl)
theorem dX3_closes_164 : decode cX3_closes 164 = .ok (.lload 5, 2) := dk_22 5 (dk_at dksX3_closes_6 22 rfl rfl)
theorem dX3_closes_166 : decode cX3_closes 166 = .ok (.aload_n 0, 1) := dk_42 (dk_at dksX3_closes_7 0 rfl rfl)
theorem dX3_closes_167 : decode cX3_closes 167 = .ok (.getfield 16, 3) := dk_180 0 16 (dk_at dksX3_closes_7 1 rfl rfl)
theorem dX3_closes_170 : decode cX3_closes 170 = .ok (.iload 10, 2) := dk_21 10 (dk_at dksX3_closes_7 4 rfl rfl)
theorem dX3_closes_172 : decode cX3_closes 172 = .ok (.iaload, 1) := dk_46 (dk_at dksX3_closes_7 6 rfl rfl)
theorem dX3_closes_173 : decode cX3_closes 173 = .ok (.lshr, 1) := dk_123 (dk_at dksX3_closes_7 7 rfl rfl)
theorem dX3_closes_174 : decode cX3_closes 174 = .ok (.lconst 1, 1) := dk_10 (dk_at dksX3_closes_7 8 rfl rfl)
theorem dX3_closes_175 : decode cX3_closes 175 = .ok (.land, 1) := dk_127 (dk_at dksX3_closes_7 9 rfl rfl)
theorem dX3_closes_176 : decode cX3_closes 176 = .ok (.lconst 1, 1) := dk_10 (dk_at dksX3_closes_7 10 rfl rfl)
theorem dX3_closes_177 : decode cX3_closes 177 = .ok (.lcmp, 1) := dk_148 (dk_at dksX3_closes_7 11 rfl rfl)
theorem dX3_closes_178 : decode cX3_closes 178 = .ok (.ifCond .ne 12, 3) := dk_154 0 12 (dk_at dksX3_closes_7 12 rfl rfl)
theorem dX3_closes_181 : decode cX3_closes 181 = .ok (.lload 5, 2) := dk_22 5 (dk_at dksX3_closes_7 15 rfl rfl)
theorem dX3_closes_183 : decode cX3_closes 183 = .ok (.lconst 1, 1) := dk_10 (dk_at dksX3_closes_7 17 rfl rfl)
theorem dX3_closes_184 : decode cX3_closes 184 = .ok (.iload 10, 2) := dk_21 10 (dk_at dksX3_closes_7 18 rfl rfl)
theorem dX3_closes_186 : decode cX3_closes 186 = .ok (.lshl, 1) := dk_121 (dk_at dksX3_closes_7 20 rfl rfl)
theorem dX3_closes_187 : decode cX3_closes 187 = .ok (.lor, 1) := dk_129 (dk_at dksX3_closes_7 21 rfl rfl)
theorem dX3_closes_188 : decode cX3_closes 188 = .ok (.lstore 5, 2) := dk_55 5 (dk_at dksX3_closes_7 22 rfl rfl)
theorem dX3_closes_190 : decode cX3_closes 190 = .ok (.iinc 10 1, 3) := dk_132 10 1 (dk_at dksX3_closes_8 0 rfl rfl)
theorem dX3_closes_193 : decode cX3_closes 193 = .ok (.goto (-60), 3) := dk_167 255 196 (dk_at dksX3_closes_8 3 rfl rfl)
theorem dX3_closes_196 : decode cX3_closes 196 = .ok (.iconst 0, 1) := dk_3 (dk_at dksX3_closes_8 6 rfl rfl)
theorem dX3_closes_197 : decode cX3_closes 197 = .ok (.istore 10, 2) := dk_54 10 (dk_at dksX3_closes_8 7 rfl rfl)
theorem dX3_closes_199 : decode cX3_closes 199 = .ok (.iload 10, 2) := dk_21 10 (dk_at dksX3_closes_8 9 rfl rfl)
theorem dX3_closes_201 : decode cX3_closes 201 = .ok (.aload_n 0, 1) := dk_42 (dk_at dksX3_closes_8 11 rfl rfl)
theorem dX3_closes_202 : decode cX3_closes 202 = .ok (.getfield 236, 3) := dk_180 0 236 (dk_at dksX3_closes_8 12 rfl rfl)
theorem dX3_closes_205 : decode cX3_closes 205 = .ok (.if_icmp .ge 50, 3) := dk_162 0 50 (dk_at dksX3_closes_8 15 rfl rfl)
theorem dX3_closes_208 : decode cX3_closes 208 = .ok (.aload_n 0, 1) := dk_42 (dk_at dksX3_closes_8 18 rfl rfl)
theorem dX3_closes_209 : decode cX3_closes 209 = .ok (.iload 10, 2) := dk_21 10 (dk_at dksX3_closes_8 19 rfl rfl)
theorem dX3_closes_211 : decode cX3_closes 211 = .ok (.iload_n 2, 1) := dk_28 (dk_at dksX3_closes_8 21 rfl rfl)
theorem dX3_closes_212 : decode cX3_closes 212 = .ok (.invokevirtual 297, 3) := dk_182 1 41 (dk_at dksX3_closes_9 0 rfl rfl)
theorem dX3_closes_215 : decode cX3_closes 215 = .ok (.ifCond .eq 34, 3) := dk_153 0 34 (dk_at dksX3_closes_9 3 rfl rfl)
theorem dX3_closes_218 : decode cX3_closes 218 = .ok (.lload 5, 2) := dk_22 5 (dk_at dksX3_closes_9 6 rfl rfl)
theorem dX3_closes_220 : decode cX3_closes 220 = .ok (.aload_n 0, 1) := dk_42 (dk_at dksX3_closes_9 8 rfl rfl)
theorem dX3_closes_221 : decode cX3_closes 221 = .ok (.getfield 48, 3) := dk_180 0 48 (dk_at dksX3_closes_9 9 rfl rfl)
theorem dX3_closes_224 : decode cX3_closes 224 = .ok (.iload 10, 2) := dk_21 10 (dk_at dksX3_closes_9 12 rfl rfl)
theorem dX3_closes_226 : decode cX3_closes 226 = .ok (.iaload, 1) := dk_46 (dk_at dksX3_closes_9 14 rfl rfl)
theorem dX3_closes_227 : decode cX3_closes 227 = .ok (.lshr, 1) := dk_123 (dk_at dksX3_closes_9 15 rfl rfl)
theorem dX3_closes_228 : decode cX3_closes 228 = .ok (.lconst 1, 1) := dk_10 (dk_at dksX3_closes_9 16 rfl rfl)
theorem dX3_closes_229 : decode cX3_closes 229 = .ok (.land, 1) := dk_127 (dk_at dksX3_closes_9 17 rfl rfl)
theorem dX3_closes_230 : decode cX3_closes 230 = .ok (.lconst 1, 1) := dk_10 (dk_at dksX3_closes_9 18 rfl rfl)
theorem dX3_closes_231 : decode cX3_closes 231 = .ok (.lcmp, 1) := dk_148 (dk_at dksX3_closes_9 19 rfl rfl)
theorem dX3_closes_232 : decode cX3_closes 232 = .ok (.ifCond .ne 17, 3) := dk_154 0 17 (dk_at dksX3_closes_9 20 rfl rfl)
theorem dX3_closes_235 : decode cX3_closes 235 = .ok (.lload 5, 2) := dk_22 5 (dk_at dksX3_closes_10 0 rfl rfl)
theorem dX3_closes_237 : decode cX3_closes 237 = .ok (.lconst 1, 1) := dk_10 (dk_at dksX3_closes_10 2 rfl rfl)
theorem dX3_closes_238 : decode cX3_closes 238 = .ok (.aload_n 0, 1) := dk_42 (dk_at dksX3_closes_10 3 rfl rfl)
theorem dX3_closes_239 : decode cX3_closes 239 = .ok (.getfield 45, 3) := dk_180 0 45 (dk_at dksX3_closes_10 4 rfl rfl)
theorem dX3_closes_242 : decode cX3_closes 242 = .ok (.iload 10, 2) := dk_21 10 (dk_at dksX3_closes_10 7 rfl rfl)
theorem dX3_closes_244 : decode cX3_closes 244 = .ok (.iaload, 1) := dk_46 (dk_at dksX3_closes_10 9 rfl rfl)
theorem dX3_closes_245 : decode cX3_closes 245 = .ok (.lshl, 1) := dk_121 (dk_at dksX3_closes_10 10 rfl rfl)
theorem dX3_closes_246 : decode cX3_closes 246 = .ok (.lor, 1) := dk_129 (dk_at dksX3_closes_10 11 rfl rfl)
theorem dX3_closes_247 : decode cX3_closes 247 = .ok (.lstore 5, 2) := dk_55 5 (dk_at dksX3_closes_10 12 rfl rfl)
theorem dX3_closes_249 : decode cX3_closes 249 = .ok (.iinc 10 1, 3) := dk_132 10 1 (dk_at dksX3_closes_10 14 rfl rfl)
theorem dX3_closes_252 : decode cX3_closes 252 = .ok (.goto (-53), 3) := dk_167 255 203 (dk_at dksX3_closes_10 17 rfl rfl)
theorem dX3_closes_255 : decode cX3_closes 255 = .ok (.lload 5, 2) := dk_22 5 (dk_at dksX3_closes_10 20 rfl rfl)
theorem dX3_closes_257 : decode cX3_closes 257 = .ok (.lload 8, 2) := dk_22 8 (dk_at dksX3_closes_10 22 rfl rfl)
theorem dX3_closes_259 : decode cX3_closes 259 = .ok (.lcmp, 1) := dk_148 (dk_at dksX3_closes_11 0 rfl rfl)
theorem dX3_closes_260 : decode cX3_closes 260 = .ok (.ifCond .eq 7, 3) := dk_153 0 7 (dk_at dksX3_closes_11 1 rfl rfl)
theorem dX3_closes_263 : decode cX3_closes 263 = .ok (.iconst 1, 1) := dk_4 (dk_at dksX3_closes_11 4 rfl rfl)
theorem dX3_closes_264 : decode cX3_closes 264 = .ok (.goto 4, 3) := dk_167 0 4 (dk_at dksX3_closes_11 5 rfl rfl)
theorem dX3_closes_267 : decode cX3_closes 267 = .ok (.iconst 0, 1) := dk_3 (dk_at dksX3_closes_11 8 rfl rfl)
theorem dX3_closes_268 : decode cX3_closes 268 = .ok (.istore 7, 2) := dk_54 7 (dk_at dksX3_closes_11 9 rfl rfl)
theorem dX3_closes_270 : decode cX3_closes 270 = .ok (.goto (-149), 3) := dk_167 255 107 (dk_at dksX3_closes_11 11 rfl rfl)
theorem dX3_closes_273 : decode cX3_closes 273 = .ok (.lload 5, 2) := dk_22 5 (dk_at dksX3_closes_11 14 rfl rfl)
theorem dX3_closes_275 : decode cX3_closes 275 = .ok (.lreturn, 1) := dk_173 (dk_at dksX3_closes_11 16 rfl rfl)
abbrev cX3_isForce : ByteArray := prog_22_method_43_code
def yX3_isForce : MethodName := ⟨RX3, "isForce", "(II)Z"⟩
def dkwX3_isForce_1 : List UInt8 := [3, 172]
abbrev dktX3_isForce_1 : List UInt8 := dkwX3_isForce_1 ++ []
def dkwX3_isForce_0 : List UInt8 := [42, 180, 0, 66, 27, 46, 28, 163, 0, 17, 42, 180, 0, 69, 27, 46, 28, 164, 0, 7, 4, 167, 0, 4]
abbrev dktX3_isForce_0 : List UInt8 := dkwX3_isForce_0 ++ dktX3_isForce_1
theorem dksX3_isForce_0 : cX3_isForce.data.toList.drop 0 = dktX3_isForce_0 := by decide +kernel
theorem dksX3_isForce_1 : cX3_isForce.data.toList.drop 24 = dktX3_isForce_1 := dk_seg dksX3_isForce_0 24 rfl rfl
theorem dX3_isForce_0 : decode cX3_isForce 0 = .ok (.aload_n 0, 1) := dk_42 (dk_at dksX3_isForce_0 0 rfl rfl)
theorem dX3_isForce_1 : decode cX3_isForce 1 = .ok (.getfield 66, 3) := dk_180 0 66 (dk_at dksX3_isForce_0 1 rfl rfl)
theorem dX3_isForce_4 : decode cX3_isForce 4 = .ok (.iload_n 1, 1) := dk_27 (dk_at dksX3_isForce_0 4 rfl rfl)
theorem dX3_isForce_5 : decode cX3_isForce 5 = .ok (.iaload, 1) := dk_46 (dk_at dksX3_isForce_0 5 rfl rfl)
theorem dX3_isForce_6 : decode cX3_isForce 6 = .ok (.iload_n 2, 1) := dk_28 (dk_at dksX3_isForce_0 6 rfl rfl)
theorem dX3_isForce_7 : decode cX3_isForce 7 = .ok (.if_icmp .gt 17, 3) := dk_163 0 17 (dk_at dksX3_isForce_0 7 rfl rfl)
theorem dX3_isForce_10 : decode cX3_isForce 10 = .ok (.aload_n 0, 1) := dk_42 (dk_at dksX3_isForce_0 10 rfl rfl)
theorem dX3_isForce_11 : decode cX3_isForce 11 = .ok (.getfield 69, 3) := dk_180 0 69 (dk_at dksX3_isForce_0 11 rfl rfl)
theorem dX3_isForce_14 : decode cX3_isForce 14 = .ok (.iload_n 1, 1) := dk_27 (dk_at dksX3_isForce_0 14 rfl rfl)
theorem dX3_isForce_15 : decode cX3_isForce 15 = .ok (.iaload, 1) := dk_46 (dk_at dksX3_isForce_0 15 rfl rfl)
theorem dX3_isForce_16 : decode cX3_isForce 16 = .ok (.iload_n 2, 1) := dk_28 (dk_at dksX3_isForce_0 16 rfl rfl)
theorem dX3_isForce_17 : decode cX3_isForce 17 = .ok (.if_icmp .le 7, 3) := dk_164 0 7 (dk_at dksX3_isForce_0 17 rfl rfl)
theorem dX3_isForce_20 : decode cX3_isForce 20 = .ok (.iconst 1, 1) := dk_4 (dk_at dksX3_isForce_0 20 rfl rfl)
theorem dX3_isForce_21 : decode cX3_isForce 21 = .ok (.goto 4, 3) := dk_167 0 4 (dk_at dksX3_isForce_0 21 rfl rfl)
theorem dX3_isForce_24 : decode cX3_isForce 24 = .ok (.iconst 0, 1) := dk_3 (dk_at dksX3_isForce_1 0 rfl rfl)
theorem dX3_isForce_25 : decode cX3_isForce 25 = .ok (.ireturn, 1) := dk_172 (dk_at dksX3_isForce_1 1 rfl rfl)
abbrev cX3_isWrapped : ByteArray := prog_22_method_44_code
def yX3_isWrapped : MethodName := ⟨RX3, "isWrapped", "(II)Z"⟩
def dkwX3_isWrapped_1 : List UInt8 := [3, 172]
abbrev dktX3_isWrapped_1 : List UInt8 := dkwX3_isWrapped_1 ++ []
def dkwX3_isWrapped_0 : List UInt8 := [42, 180, 0, 51, 27, 46, 28, 163, 0, 17, 42, 180, 0, 54, 27, 46, 28, 164, 0, 7, 4, 167, 0, 4]
abbrev dktX3_isWrapped_0 : List UInt8 := dkwX3_isWrapped_0 ++ dktX3_isWrapped_1
theorem dksX3_isWrapped_0 : cX3_isWrapped.data.toList.drop 0 = dktX3_isWrapped_0 := by decide +kernel
theorem dksX3_isWrapped_1 : cX3_isWrapped.data.toList.drop 24 = dktX3_isWrapped_1 := dk_seg dksX3_isWrapped_0 24 rfl rfl
theorem dX3_isWrapped_0 : decode cX3_isWrapped 0 = .ok (.aload_n 0, 1) := dk_42 (dk_at dksX3_isWrapped_0 0 rfl rfl)
theorem dX3_isWrapped_1 : decode cX3_isWrapped 1 = .ok (.getfield 51, 3) := dk_180 0 51 (dk_at dksX3_isWrapped_0 1 rfl rfl)
theorem dX3_isWrapped_4 : decode cX3_isWrapped 4 = .ok (.iload_n 1, 1) := dk_27 (dk_at dksX3_isWrapped_0 4 rfl rfl)
theorem dX3_isWrapped_5 : decode cX3_isWrapped 5 = .ok (.iaload, 1) := dk_46 (dk_at dksX3_isWrapped_0 5 rfl rfl)
theorem dX3_isWrapped_6 : decode cX3_isWrapped 6 = .ok (.iload_n 2, 1) := dk_28 (dk_at dksX3_isWrapped_0 6 rfl rfl)
theorem dX3_isWrapped_7 : decode cX3_isWrapped 7 = .ok (.if_icmp .gt 17, 3) := dk_163 0 17 (dk_at dksX3_isWrapped_0 7 rfl rfl)
theorem dX3_isWrapped_10 : decode cX3_isWrapped 10 = .ok (.aload_n 0, 1) := dk_42 (dk_at dksX3_isWrapped_0 10 rfl rfl)
theorem dX3_isWrapped_11 : decode cX3_isWrapped 11 = .ok (.getfield 54, 3) := dk_180 0 54 (dk_at dksX3_isWrapped_0 11 rfl rfl)
theorem dX3_isWrapped_14 : decode cX3_isWrapped 14 = .ok (.iload_n 1, 1) := dk_27 (dk_at dksX3_isWrapped_0 14 rfl rfl)
theorem dX3_isWrapped_15 : decode cX3_isWrapped 15 = .ok (.iaload, 1) := dk_46 (dk_at dksX3_isWrapped_0 15 rfl rfl)
theorem dX3_isWrapped_16 : decode cX3_isWrapped 16 = .ok (.iload_n 2, 1) := dk_28 (dk_at dksX3_isWrapped_0 16 rfl rfl)
theorem dX3_isWrapped_17 : decode cX3_isWrapped 17 = .ok (.if_icmp .le 7, 3) := dk_164 0 7 (dk_at dksX3_isWrapped_0 17 rfl rfl)
theorem dX3_isWrapped_20 : decode cX3_isWrapped 20 = .ok (.iconst 1, 1) := dk_4 (dk_at dksX3_isWrapped_0 20 rfl rfl)
theorem dX3_isWrapped_21 : decode cX3_isWrapped 21 = .ok (.goto 4, 3) := dk_167 0 4 (dk_at dksX3_isWrapped_0 21 rfl rfl)
theorem dX3_isWrapped_24 : decode cX3_isWrapped 24 = .ok (.iconst 0, 1) := dk_3 (dk_at dksX3_isWrapped_1 0 rfl rfl)
theorem dX3_isWrapped_25 : decode cX3_isWrapped 25 = .ok (.ireturn, 1) := dk_172 (dk_at dksX3_isWrapped_1 1 rfl rfl)
abbrev cX3_fault : ByteArray := prog_22_method_64_code
def yX3_fault : MethodName := ⟨RX3, "fault", "()I"⟩
def dkwX3_fault_1 : List UInt8 := [42, 180, 1, 69, 172]
abbrev dktX3_fault_1 : List UInt8 := dkwX3_fault_1 ++ []
def dkwX3_fault_0 : List UInt8 := [42, 3, 181, 0, 181, 42, 4, 181, 1, 104, 42, 42, 180, 0, 41, 3, 42, 180, 0, 205, 182, 1, 128, 60]
abbrev dktX3_fault_0 : List UInt8 := dkwX3_fault_0 ++ dktX3_fault_1
theorem dksX3_fault_0 : cX3_fault.data.toList.drop 0 = dktX3_fault_0 := by decide +kernel
theorem dksX3_fault_1 : cX3_fault.data.toList.drop 24 = dktX3_fault_1 := dk_seg dksX3_fault_0 24 rfl rfl
theorem dX3_fault_0 : decode cX3_fault 0 = .ok (.aload_n 0, 1) := dk_42 (dk_at dksX3_fault_0 0 rfl rfl)
theorem dX3_fault_1 : decode cX3_fault 1 = .ok (.iconst 0, 1) := dk_3 (dk_at dksX3_fault_0 1 rfl rfl)
theorem dX3_fault_2 : decode cX3_fault 2 = .ok (.putfield 181, 3) := dk_181 0 181 (dk_at dksX3_fault_0 2 rfl rfl)
theorem dX3_fault_5 : decode cX3_fault 5 = .ok (.aload_n 0, 1) := dk_42 (dk_at dksX3_fault_0 5 rfl rfl)
theorem dX3_fault_6 : decode cX3_fault 6 = .ok (.iconst 1, 1) := dk_4 (dk_at dksX3_fault_0 6 rfl rfl)
theorem dX3_fault_7 : decode cX3_fault 7 = .ok (.putfield 360, 3) := dk_181 1 104 (dk_at dksX3_fault_0 7 rfl rfl)
theorem dX3_fault_10 : decode cX3_fault 10 = .ok (.aload_n 0, 1) := dk_42 (dk_at dksX3_fault_0 10 rfl rfl)
theorem dX3_fault_11 : decode cX3_fault 11 = .ok (.aload_n 0, 1) := dk_42 (dk_at dksX3_fault_0 11 rfl rfl)
theorem dX3_fault_12 : decode cX3_fault 12 = .ok (.getfield 41, 3) := dk_180 0 41 (dk_at dksX3_fault_0 12 rfl rfl)
theorem dX3_fault_15 : decode cX3_fault 15 = .ok (.iconst 0, 1) := dk_3 (dk_at dksX3_fault_0 15 rfl rfl)
theorem dX3_fault_16 : decode cX3_fault 16 = .ok (.aload_n 0, 1) := dk_42 (dk_at dksX3_fault_0 16 rfl rfl)
theorem dX3_fault_17 : decode cX3_fault 17 = .ok (.getfield 205, 3) := dk_180 0 205 (dk_at dksX3_fault_0 17 rfl rfl)
theorem dX3_fault_20 : decode cX3_fault 20 = .ok (.invokevirtual 384, 3) := dk_182 1 128 (dk_at dksX3_fault_0 20 rfl rfl)
theorem dX3_fault_23 : decode cX3_fault 23 = .ok (.istore_n 1, 1) := dk_60 (dk_at dksX3_fault_0 23 rfl rfl)
theorem dX3_fault_24 : decode cX3_fault 24 = .ok (.aload_n 0, 1) := dk_42 (dk_at dksX3_fault_1 0 rfl rfl)
theorem dX3_fault_25 : decode cX3_fault 25 = .ok (.getfield 325, 3) := dk_180 1 69 (dk_at dksX3_fault_1 1 rfl rfl)
theorem dX3_fault_28 : decode cX3_fault 28 = .ok (.ireturn, 1) := dk_172 (dk_at dksX3_fault_1 4 rfl rfl)
abbrev cX3_goThrough : ByteArray := prog_22_method_60_code
def yX3_goThrough : MethodName := ⟨RX3, "goThrough", "([BII)Z"⟩
def dkwX3_goThrough_2 : List UInt8 := [182, 1, 79, 2, 159, 0, 8, 42, 182, 1, 75, 87, 21, 4, 172]
abbrev dktX3_goThrough_2 : List UInt8 := dkwX3_goThrough_2 ++ []
def dkwX3_goThrough_1 : List UInt8 := [181, 1, 69, 42, 3, 181, 1, 72, 42, 182, 1, 95, 54, 4, 42, 180, 1, 69, 2, 160, 0, 16, 42]
abbrev dktX3_goThrough_1 : List UInt8 := dkwX3_goThrough_1 ++ dktX3_goThrough_2
def dkwX3_goThrough_0 : List UInt8 := [42, 43, 181, 0, 130, 42, 28, 181, 1, 66, 42, 29, 181, 1, 63, 42, 3, 181, 1, 60, 42, 2]
abbrev dktX3_goThrough_0 : List UInt8 := dkwX3_goThrough_0 ++ dktX3_goThrough_1
theorem dksX3_goThrough_0 : cX3_goThrough.data.toList.drop 0 = dktX3_goThrough_0 := by decide +kernel
theorem dksX3_goThrough_1 : cX3_goThrough.data.toList.drop 22 = dktX3_goThrough_1 := dk_seg dksX3_goThrough_0 22 rfl rfl
theorem dksX3_goThrough_2 : cX3_goThrough.data.toList.drop 45 = dktX3_goThrough_2 := dk_seg dksX3_goThrough_1 23 rfl rfl
theorem dX3_goThrough_0 : decode cX3_goThrough 0 = .ok (.aload_n 0, 1) := dk_42 (dk_at dksX3_goThrough_0 0 rfl rfl)
theorem dX3_goThrough_1 : decode cX3_goThrough 1 = .ok (.aload_n 1, 1) := dk_43 (dk_at dksX3_goThrough_0 1 rfl rfl)
theorem dX3_goThrough_2 : decode cX3_goThrough 2 = .ok (.putfield 130, 3) := dk_181 0 130 (dk_at dksX3_goThrough_0 2 rfl rfl)
theorem dX3_goThrough_5 : decode cX3_goThrough 5 = .ok (.aload_n 0, 1) := dk_42 (dk_at dksX3_goThrough_0 5 rfl rfl)
theorem dX3_goThrough_6 : decode cX3_goThrough 6 = .ok (.iload_n 2, 1) := dk_28 (dk_at dksX3_goThrough_0 6 rfl rfl)
theorem dX3_goThrough_7 : decode cX3_goThrough 7 = .ok (.putfield 322, 3) := dk_181 1 66 (dk_at dksX3_goThrough_0 7 rfl rfl)
theorem dX3_goThrough_10 : decode cX3_goThrough 10 = .ok (.aload_n 0, 1) := dk_42 (dk_at dksX3_goThrough_0 10 rfl rfl)
theorem dX3_goThrough_11 : decode cX3_goThrough 11 = .ok (.iload_n 3, 1) := dk_29 (dk_at dksX3_goThrough_0 11 rfl rfl)
theorem dX3_goThrough_12 : decode cX3_goThrough 12 = .ok (.putfield 319, 3) := dk_181 1 63 (dk_at dksX3_goThrough_0 12 rfl rfl)
theorem dX3_goThrough_15 : decode cX3_goThrough 15 = .ok (.aload_n 0, 1) := dk_42 (dk_at dksX3_goThrough_0 15 rfl rfl)
theorem dX3_goThrough_16 : decode cX3_goThrough 16 = .ok (.iconst 0, 1) := dk_3 (dk_at dksX3_goThrough_0 16 rfl rfl)
theorem dX3_goThrough_17 : decode cX3_goThrough 17 = .ok (.putfield 316, 3) := dk_181 1 60 (dk_at dksX3_goThrough_0 17 rfl rfl)
theorem dX3_goThrough_20 : decode cX3_goThrough 20 = .ok (.aload_n 0, 1) := dk_42 (dk_at dksX3_goThrough_0 20 rfl rfl)
theorem dX3_goThrough_21 : decode cX3_goThrough 21 = .ok (.iconst (-1), 1) := dk_2 (dk_at dksX3_goThrough_0 21 rfl rfl)
theorem dX3_goThrough_22 : decode cX3_goThrough 22 = .ok (.putfield 325, 3) := dk_181 1 69 (dk_at dksX3_goThrough_1 0 rfl rfl)
theorem dX3_goThrough_25 : decode cX3_goThrough 25 = .ok (.aload_n 0, 1) := dk_42 (dk_at dksX3_goThrough_1 3 rfl rfl)
theorem dX3_goThrough_26 : decode cX3_goThrough 26 = .ok (.iconst 0, 1) := dk_3 (dk_at dksX3_goThrough_1 4 rfl rfl)
theorem dX3_goThrough_27 : decode cX3_goThrough 27 = .ok (.putfield 328, 3) := dk_181 1 72 (dk_at dksX3_goThrough_1 5 rfl rfl)
theorem dX3_goThrough_30 : decode cX3_goThrough 30 = .ok (.aload_n 0, 1) := dk_42 (dk_at dksX3_goThrough_1 8 rfl rfl)
theorem dX3_goThrough_31 : decode cX3_goThrough 31 = .ok (.invokevirtual 351, 3) := dk_182 1 95 (dk_at dksX3_goThrough_1 9 rfl rfl)
theorem dX3_goThrough_34 : decode cX3_goThrough 34 = .ok (.istore 4, 2) := dk_54 4 (dk_at dksX3_goThrough_1 12 rfl rfl)
theorem dX3_goThrough_36 : decode cX3_goThrough 36 = .ok (.aload_n 0, 1) := dk_42 (dk_at dksX3_goThrough_1 14 rfl rfl)
theorem dX3_goThrough_37 : decode cX3_goThrough 37 = .ok (.getfield 325, 3) := dk_180 1 69 (dk_at dksX3_goThrough_1 15 rfl rfl)
theorem dX3_goThrough_40 : decode cX3_goThrough 40 = .ok (.iconst (-1), 1) := dk_2 (dk_at dksX3_goThrough_1 18 rfl rfl)
theorem dX3_goThrough_41 : decode cX3_goThrough 41 = .ok (.if_icmp .ne 16, 3) := dk_160 0 16 (dk_at dksX3_goThrough_1 19 rfl rfl)
theorem dX3_goThrough_44 : decode cX3_goThrough 44 = .ok (.aload_n 0, 1) := dk_42 (dk_at dksX3_goThrough_1 22 rfl rfl)
theorem dX3_goThrough_45 : decode cX3_goThrough 45 = .ok (.invokevirtual 335, 3) := dk_182 1 79 (dk_at dksX3_goThrough_2 0 rfl rfl)
theorem dX3_goThrough_48 : decode cX3_goThrough 48 = .ok (.iconst (-1), 1) := dk_2 (dk_at dksX3_goThrough_2 3 rfl rfl)
theorem dX3_goThrough_49 : decode cX3_goThrough 49 = .ok (.if_icmp .eq 8, 3) := dk_159 0 8 (dk_at dksX3_goThrough_2 4 rfl rfl)
theorem dX3_goThrough_52 : decode cX3_goThrough 52 = .ok (.aload_n 0, 1) := dk_42 (dk_at dksX3_goThrough_2 7 rfl rfl)
theorem dX3_goThrough_53 : decode cX3_goThrough 53 = .ok (.invokevirtual 331, 3) := dk_182 1 75 (dk_at dksX3_goThrough_2 8 rfl rfl)
theorem dX3_goThrough_56 : decode cX3_goThrough 56 = .ok (.pop, 1) := dk_87 (dk_at dksX3_goThrough_2 11 rfl rfl)
theorem dX3_goThrough_57 : decode cX3_goThrough 57 = .ok (.iload 4, 2) := dk_21 4 (dk_at dksX3_goThrough_2 12 rfl rfl)
theorem dX3_goThrough_59 : decode cX3_goThrough 59 = .ok (.ireturn, 1) := dk_172 (dk_at dksX3_goThrough_2 14 rfl rfl)
abbrev cX3_any : ByteArray := prog_22_method_55_code
def yX3_any : MethodName := ⟨RX3, "any", "()Z"⟩
def dkwX3_any_2 : List UInt8 := [167, 0, 4, 3, 60, 167, 255, 210, 27, 172]
abbrev dktX3_any_2 : List UInt8 := dkwX3_any_2 ++ []
def dkwX3_any_1 : List UInt8 := [180, 1, 60, 4, 96, 181, 1, 60, 42, 182, 1, 86, 61, 27, 154, 0, 7, 28, 153, 0, 7, 4]
abbrev dktX3_any_1 : List UInt8 := dkwX3_any_1 ++ dktX3_any_2
def dkwX3_any_0 : List UInt8 := [42, 182, 1, 86, 60, 42, 180, 1, 69, 2, 160, 0, 44, 42, 182, 1, 79, 16, 124, 160, 0, 35, 42, 89]
abbrev dktX3_any_0 : List UInt8 := dkwX3_any_0 ++ dktX3_any_1
theorem dksX3_any_0 : cX3_any.data.toList.drop 0 = dktX3_any_0 := by decide +kernel
theorem dksX3_any_1 : cX3_any.data.toList.drop 24 = dktX3_any_1 := dk_seg dksX3_any_0 24 rfl rfl
theorem dksX3_any_2 : cX3_any.data.toList.drop 46 = dktX3_any_2 := dk_seg dksX3_any_1 22 rfl rfl
theorem dX3_any_0 : decode cX3_any 0 = .ok (.aload_n 0, 1) := dk_42 (dk_at dksX3_any_0 0 rfl rfl)
theorem dX3_any_1 : decode cX3_any 1 = .ok (.invokevirtual 342, 3) := dk_182 1 86 (dk_at dksX3_any_0 1 rfl rfl)
theorem dX3_any_4 : decode cX3_any 4 = .ok (.istore_n 1, 1) := dk_60 (dk_at dksX3_any_0 4 rfl rfl)
theorem dX3_any_5 : decode cX3_any 5 = .ok (.aload_n 0, 1) := dk_42 (dk_at dksX3_any_0 5 rfl rfl)
theorem dX3_any_6 : decode cX3_any 6 = .ok (.getfield 325, 3) := dk_180 1 69 (dk_at dksX3_any_0 6 rfl rfl)
theorem dX3_any_9 : decode cX3_any 9 = .ok (.iconst (-1), 1) := dk_2 (dk_at dksX3_any_0 9 rfl rfl)
theorem dX3_any_10 : decode cX3_any 10 = .ok (.if_icmp .ne 44, 3) := dk_160 0 44 (dk_at dksX3_any_0 10 rfl rfl)
theorem dX3_any_13 : decode cX3_any 13 = .ok (.aload_n 0, 1) := dk_42 (dk_at dksX3_any_0 13 rfl rfl)
theorem dX3_any_14 : decode cX3_any 14 = .ok (.invokevirtual 335, 3) := dk_182 1 79 (dk_at dksX3_any_0 14 rfl rfl)
theorem dX3_any_17 : decode cX3_any 17 = .ok (.bipush 124, 2) := dk_16 124 (dk_at dksX3_any_0 17 rfl rfl)
theorem dX3_any_19 : decode cX3_any 19 = .ok (.if_icmp .ne 35, 3) := dk_160 0 35 (dk_at dksX3_any_0 19 rfl rfl)
theorem dX3_any_22 : decode cX3_any 22 = .ok (.aload_n 0, 1) := dk_42 (dk_at dksX3_any_0 22 rfl rfl)
theorem dX3_any_23 : decode cX3_any 23 = .ok (.dup, 1) := dk_89 (dk_at dksX3_any_0 23 rfl rfl)
theorem dX3_any_24 : decode cX3_any 24 = .ok (.getfield 316, 3) := dk_180 1 60 (dk_at dksX3_any_1 0 rfl rfl)
theorem dX3_any_27 : decode cX3_any 27 = .ok (.iconst 1, 1) := dk_4 (dk_at dksX3_any_1 3 rfl rfl)
theorem dX3_any_28 : decode cX3_any 28 = .ok (.iadd, 1) := dk_96 (dk_at dksX3_any_1 4 rfl rfl)
theorem dX3_any_29 : decode cX3_any 29 = .ok (.putfield 316, 3) := dk_181 1 60 (dk_at dksX3_any_1 5 rfl rfl)
theorem dX3_any_32 : decode cX3_any 32 = .ok (.aload_n 0, 1) := dk_42 (dk_at dksX3_any_1 8 rfl rfl)
theorem dX3_any_33 : decode cX3_any 33 = .ok (.invokevirtual 342, 3) := dk_182 1 86 (dk_at dksX3_any_1 9 rfl rfl)
theorem dX3_any_36 : decode cX3_any 36 = .ok (.istore_n 2, 1) := dk_61 (dk_at dksX3_any_1 12 rfl rfl)
theorem dX3_any_37 : decode cX3_any 37 = .ok (.iload_n 1, 1) := dk_27 (dk_at dksX3_any_1 13 rfl rfl)
theorem dX3_any_38 : decode cX3_any 38 = .ok (.ifCond .ne 7, 3) := dk_154 0 7 (dk_at dksX3_any_1 14 rfl rfl)
theorem dX3_any_41 : decode cX3_any 41 = .ok (.iload_n 2, 1) := dk_28 (dk_at dksX3_any_1 17 rfl rfl)
theorem dX3_any_42 : decode cX3_any 42 = .ok (.ifCond .eq 7, 3) := dk_153 0 7 (dk_at dksX3_any_1 18 rfl rfl)
theorem dX3_any_45 : decode cX3_any 45 = .ok (.iconst 1, 1) := dk_4 (dk_at dksX3_any_1 21 rfl rfl)
theorem dX3_any_46 : decode cX3_any 46 = .ok (.goto 4, 3) := dk_167 0 4 (dk_at dksX3_any_2 0 rfl rfl)
theorem dX3_any_49 : decode cX3_any 49 = .ok (.iconst 0, 1) := dk_3 (dk_at dksX3_any_2 3 rfl rfl)
theorem dX3_any_50 : decode cX3_any 50 = .ok (.istore_n 1, 1) := dk_60 (dk_at dksX3_any_2 4 rfl rfl)
theorem dX3_any_51 : decode cX3_any 51 = .ok (.goto (-46), 3) := dk_167 255 210 (dk_at dksX3_any_2 5 rfl rfl)
theorem dX3_any_54 : decode cX3_any 54 = .ok (.iload_n 1, 1) := dk_27 (dk_at dksX3_any_2 8 rfl rfl)
theorem dX3_any_55 : decode cX3_any 55 = .ok (.ireturn, 1) := dk_172 (dk_at dksX3_any_2 9 rfl rfl)
abbrev cX3_all : ByteArray := prog_22_method_56_code
def yX3_all : MethodName := ⟨RX3, "all", "()Z"⟩
def dkwX3_all_2 : List UInt8 := [167, 0, 4, 3, 60, 167, 255, 210, 27, 172]
abbrev dktX3_all_2 : List UInt8 := dkwX3_all_2 ++ []
def dkwX3_all_1 : List UInt8 := [180, 1, 60, 4, 96, 181, 1, 60, 42, 182, 1, 89, 61, 27, 153, 0, 11, 28, 153, 0, 7, 4]
abbrev dktX3_all_1 : List UInt8 := dkwX3_all_1 ++ dktX3_all_2
def dkwX3_all_0 : List UInt8 := [42, 182, 1, 89, 60, 42, 180, 1, 69, 2, 160, 0, 44, 42, 182, 1, 79, 16, 38, 160, 0, 35, 42, 89]
abbrev dktX3_all_0 : List UInt8 := dkwX3_all_0 ++ dktX3_all_1
theorem dksX3_all_0 : cX3_all.data.toList.drop 0 = dktX3_all_0 := by decide +kernel
theorem dksX3_all_1 : cX3_all.data.toList.drop 24 = dktX3_all_1 := dk_seg dksX3_all_0 24 rfl rfl
theorem dksX3_all_2 : cX3_all.data.toList.drop 46 = dktX3_all_2 := dk_seg dksX3_all_1 22 rfl rfl
theorem dX3_all_0 : decode cX3_all 0 = .ok (.aload_n 0, 1) := dk_42 (dk_at dksX3_all_0 0 rfl rfl)
theorem dX3_all_1 : decode cX3_all 1 = .ok (.invokevirtual 345, 3) := dk_182 1 89 (dk_at dksX3_all_0 1 rfl rfl)
theorem dX3_all_4 : decode cX3_all 4 = .ok (.istore_n 1, 1) := dk_60 (dk_at dksX3_all_0 4 rfl rfl)
theorem dX3_all_5 : decode cX3_all 5 = .ok (.aload_n 0, 1) := dk_42 (dk_at dksX3_all_0 5 rfl rfl)
theorem dX3_all_6 : decode cX3_all 6 = .ok (.getfield 325, 3) := dk_180 1 69 (dk_at dksX3_all_0 6 rfl rfl)
theorem dX3_all_9 : decode cX3_all 9 = .ok (.iconst (-1), 1) := dk_2 (dk_at dksX3_all_0 9 rfl rfl)
theorem dX3_all_10 : decode cX3_all 10 = .ok (.if_icmp .ne 44, 3) := dk_160 0 44 (dk_at dksX3_all_0 10 rfl rfl)
theorem dX3_all_13 : decode cX3_all 13 = .ok (.aload_n 0, 1) := dk_42 (dk_at dksX3_all_0 13 rfl rfl)
theorem dX3_all_14 : decode cX3_all 14 = .ok (.invokevirtual 335, 3) := dk_182 1 79 (dk_at dksX3_all_0 14 rfl rfl)
theorem dX3_all_17 : decode cX3_all 17 = .ok (.bipush 38, 2) := dk_16 38 (dk_at dksX3_all_0 17 rfl rfl)
theorem dX3_all_19 : decode cX3_all 19 = .ok (.if_icmp .ne 35, 3) := dk_160 0 35 (dk_at dksX3_all_0 19 rfl rfl)
theorem dX3_all_22 : decode cX3_all 22 = .ok (.aload_n 0, 1) := dk_42 (dk_at dksX3_all_0 22 rfl rfl)
theorem dX3_all_23 : decode cX3_all 23 = .ok (.dup, 1) := dk_89 (dk_at dksX3_all_0 23 rfl rfl)
theorem dX3_all_24 : decode cX3_all 24 = .ok (.getfield 316, 3) := dk_180 1 60 (dk_at dksX3_all_1 0 rfl rfl)
theorem dX3_all_27 : decode cX3_all 27 = .ok (.iconst 1, 1) := dk_4 (dk_at dksX3_all_1 3 rfl rfl)
theorem dX3_all_28 : decode cX3_all 28 = .ok (.iadd, 1) := dk_96 (dk_at dksX3_all_1 4 rfl rfl)
theorem dX3_all_29 : decode cX3_all 29 = .ok (.putfield 316, 3) := dk_181 1 60 (dk_at dksX3_all_1 5 rfl rfl)
theorem dX3_all_32 : decode cX3_all 32 = .ok (.aload_n 0, 1) := dk_42 (dk_at dksX3_all_1 8 rfl rfl)
theorem dX3_all_33 : decode cX3_all 33 = .ok (.invokevirtual 345, 3) := dk_182 1 89 (dk_at dksX3_all_1 9 rfl rfl)
theorem dX3_all_36 : decode cX3_all 36 = .ok (.istore_n 2, 1) := dk_61 (dk_at dksX3_all_1 12 rfl rfl)
theorem dX3_all_37 : decode cX3_all 37 = .ok (.iload_n 1, 1) := dk_27 (dk_at dksX3_all_1 13 rfl rfl)
theorem dX3_all_38 : decode cX3_all 38 = .ok (.ifCond .eq 11, 3) := dk_153 0 11 (dk_at dksX3_all_1 14 rfl rfl)
theorem dX3_all_41 : decode cX3_all 41 = .ok (.iload_n 2, 1) := dk_28 (dk_at dksX3_all_1 17 rfl rfl)
theorem dX3_all_42 : decode cX3_all 42 = .ok (.ifCond .eq 7, 3) := dk_153 0 7 (dk_at dksX3_all_1 18 rfl rfl)
theorem dX3_all_45 : decode cX3_all 45 = .ok (.iconst 1, 1) := dk_4 (dk_at dksX3_all_1 21 rfl rfl)
theorem dX3_all_46 : decode cX3_all 46 = .ok (.goto 4, 3) := dk_167 0 4 (dk_at dksX3_all_2 0 rfl rfl)
theorem dX3_all_49 : decode cX3_all 49 = .ok (.iconst 0, 1) := dk_3 (dk_at dksX3_all_2 3 rfl rfl)
theorem dX3_all_50 : decode cX3_all 50 = .ok (.istore_n 1, 1) := dk_60 (dk_at dksX3_all_2 4 rfl rfl)
theorem dX3_all_51 : decode cX3_all 51 = .ok (.goto (-46), 3) := dk_167 255 210 (dk_at dksX3_all_2 5 rfl rfl)
theorem dX3_all_54 : decode cX3_all 54 = .ok (.iload_n 1, 1) := dk_27 (dk_at dksX3_all_2 8 rfl rfl)
theorem dX3_all_55 : decode cX3_all 55 = .ok (.ireturn, 1) := dk_172 (dk_at dksX3_all_2 9 rfl rfl)
abbrev cX3_unit : ByteArray := prog_22_method_57_code
def yX3_unit : MethodName := ⟨RX3, "unit", "()Z"⟩
def dkwX3_unit_15 : List UInt8 := [180, 1, 72, 4, 100, 181, 1, 72, 29, 28, 161, 0, 7, 4, 167, 0, 4, 3, 172]
abbrev dktX3_unit_15 : List UInt8 := dkwX3_unit_15 ++ []
def dkwX3_unit_14 : List UInt8 := [167, 0, 4, 3, 96, 62, 167, 255, 214, 42, 16, 125, 182, 1, 98, 154, 0, 5, 3, 172, 42, 89]
abbrev dktX3_unit_14 : List UInt8 := dkwX3_unit_14 ++ dktX3_unit_15
def dkwX3_unit_13 : List UInt8 := [16, 44, 160, 0, 31, 42, 89, 180, 1, 60, 4, 96, 181, 1, 60, 29, 42, 182, 1, 95, 153, 0, 7, 4]
abbrev dktX3_unit_13 : List UInt8 := dkwX3_unit_13 ++ dktX3_unit_14
def dkwX3_unit_12 : List UInt8 := [182, 1, 95, 153, 0, 7, 4, 167, 0, 4, 3, 62, 42, 180, 1, 69, 2, 160, 0, 40, 42, 182, 1, 79]
abbrev dktX3_unit_12 : List UInt8 := dkwX3_unit_12 ++ dktX3_unit_13
def dkwX3_unit_11 : List UInt8 := [182, 1, 79, 16, 123, 159, 0, 8, 42, 182, 1, 75, 172, 42, 182, 1, 92, 154, 0, 5, 3, 172, 42]
abbrev dktX3_unit_11 : List UInt8 := dkwX3_unit_11 ++ dktX3_unit_12
def dkwX3_unit_10 : List UInt8 := [4, 167, 0, 4, 3, 172, 42, 17, 3, 231, 182, 1, 101, 61, 42, 180, 1, 69, 2, 160, 0, 12, 42]
abbrev dktX3_unit_10 : List UInt8 := dkwX3_unit_10 ++ dktX3_unit_11
def dkwX3_unit_9 : List UInt8 := [160, 0, 28, 42, 180, 1, 113, 2, 159, 0, 20, 42, 180, 1, 116, 42, 180, 1, 113, 100, 28, 161, 0, 7]
abbrev dktX3_unit_9 : List UInt8 := dkwX3_unit_9 ++ dktX3_unit_10
def dkwX3_unit_8 : List UInt8 := [89, 180, 1, 60, 4, 96, 181, 1, 60, 42, 17, 3, 231, 182, 1, 101, 61, 42, 180, 1, 69, 2]
abbrev dktX3_unit_8 : List UInt8 := dkwX3_unit_8 ++ dktX3_unit_9
def dkwX3_unit_7 : List UInt8 := [160, 0, 7, 4, 167, 0, 4, 3, 160, 0, 7, 4, 167, 0, 4, 3, 172, 27, 16, 119, 160, 0, 56, 42]
abbrev dktX3_unit_7 : List UInt8 := dkwX3_unit_7 ++ dktX3_unit_8
def dkwX3_unit_6 : List UInt8 := [154, 0, 37, 42, 28, 182, 1, 108, 153, 0, 29, 167, 0, 22, 42, 28, 182, 1, 110, 27, 16, 104]
abbrev dktX3_unit_6 : List UInt8 := dkwX3_unit_6 ++ dktX3_unit_7
def dkwX3_unit_5 : List UInt8 := [182, 1, 101, 61, 42, 180, 1, 69, 2, 160, 0, 50, 27, 16, 100, 160, 0, 21, 42, 180, 1, 104]
abbrev dktX3_unit_5 : List UInt8 := dkwX3_unit_5 ++ dktX3_unit_6
def dkwX3_unit_4 : List UInt8 := [16, 110, 159, 0, 9, 27, 16, 100, 160, 0, 77, 42, 89, 180, 1, 60, 4, 96, 181, 1, 60, 42, 16, 11]
abbrev dktX3_unit_4 : List UInt8 := dkwX3_unit_4 ++ dktX3_unit_5
def dkwX3_unit_3 : List UInt8 := [154, 0, 5, 3, 172, 42, 89, 180, 1, 72, 4, 100, 181, 1, 72, 28, 172, 27, 16, 104, 159, 0, 15, 27]
abbrev dktX3_unit_3 : List UInt8 := dkwX3_unit_3 ++ dktX3_unit_4
def dkwX3_unit_2 : List UInt8 := [160, 0, 40, 42, 182, 1, 92, 154, 0, 5, 3, 172, 42, 182, 1, 95, 61, 42, 16, 41, 182, 1, 98]
abbrev dktX3_unit_2 : List UInt8 := dkwX3_unit_2 ++ dktX3_unit_3
def dkwX3_unit_1 : List UInt8 := [61, 42, 89, 180, 1, 72, 4, 100, 181, 1, 72, 28, 154, 0, 7, 4, 167, 0, 4, 3, 172, 27, 16, 40]
abbrev dktX3_unit_1 : List UInt8 := dkwX3_unit_1 ++ dktX3_unit_2
def dkwX3_unit_0 : List UInt8 := [42, 182, 1, 79, 60, 27, 16, 33, 160, 0, 37, 42, 182, 1, 92, 154, 0, 5, 3, 172, 42, 182, 1, 89]
abbrev dktX3_unit_0 : List UInt8 := dkwX3_unit_0 ++ dktX3_unit_1
theorem dksX3_unit_0 : cX3_unit.data.toList.drop 0 = dktX3_unit_0 := by decide +kernel
theorem dksX3_unit_1 : cX3_unit.data.toList.drop 24 = dktX3_unit_1 := dk_seg dksX3_unit_0 24 rfl rfl
theorem dksX3_unit_2 : cX3_unit.data.toList.drop 48 = dktX3_unit_2 := dk_seg dksX3_unit_1 24 rfl rfl
theorem dksX3_unit_3 : cX3_unit.data.toList.drop 71 = dktX3_unit_3 := dk_seg dksX3_unit_2 23 rfl rfl
theorem dksX3_unit_4 : cX3_unit.data.toList.drop 95 = dktX3_unit_4 := dk_seg dksX3_unit_3 24 rfl rfl
theorem dksX3_unit_5 : cX3_unit.data.toList.drop 119 = dktX3_unit_5 := dk_seg dksX3_unit_4 24 rfl rfl
theorem dksX3_unit_6 : cX3_unit.data.toList.drop 141 = dktX3_unit_6 := dk_seg dksX3_unit_5 22 rfl rfl
theorem dksX3_unit_7 : cX3_unit.data.toList.drop 163 = dktX3_unit_7 := dk_seg dksX3_unit_6 22 rfl rfl
theorem dksX3_unit_8 : cX3_unit.data.toList.drop 187 = dktX3_unit_8 := dk_seg dksX3_unit_7 24 rfl rfl
theorem dksX3_unit_9 : cX3_unit.data.toList.drop 209 = dktX3_unit_9 := dk_seg dksX3_unit_8 22 rfl rfl
theorem dksX3_unit_10 : cX3_unit.data.toList.drop 233 = dktX3_unit_10 := dk_seg dksX3_unit_9 24 rfl rfl
theorem dksX3_unit_11 : cX3_unit.data.toList.drop 256 = dktX3_unit_11 := dk_seg dksX3_unit_10 23 rfl rfl
theorem dksX3_unit_12 : cX3_unit.data.toList.drop 279 = dktX3_unit_12 := dk_seg dksX3_unit_11 23 rfl rfl
theorem dksX3_unit_13 : cX3_unit.data.toList.drop 303 = dktX3_unit_13 := dk_seg dksX3_unit_12 24 rfl rfl
theorem dksX3_unit_14 : cX3_unit.data.toList.drop 327 = dktX3_unit_14 := dk_seg dksX3_unit_13 24 rfl rfl
theorem dksX3_unit_15 : cX3_unit.data.toList.drop 349 = dktX3_unit_15 := dk_seg dksX3_unit_14 22 rfl rfl
theorem dX3_unit_0 : decode cX3_unit 0 = .ok (.aload_n 0, 1) := dk_42 (dk_at dksX3_unit_0 0 rfl rfl)
theorem dX3_unit_1 : decode cX3_unit 1 = .ok (.invokevirtual 335, 3) := dk_182 1 79 (dk_at dksX3_unit_0 1 rfl rfl)
theorem dX3_unit_4 : decode cX3_unit 4 = .ok (.istore_n 1, 1) := dk_60 (dk_at dksX3_unit_0 4 rfl rfl)
theorem dX3_unit_5 : decode cX3_unit 5 = .ok (.iload_n 1, 1) := dk_27 (dk_at dksX3_unit_0 5 rfl rfl)
theorem dX3_unit_6 : decode cX3_unit 6 = .ok (.bipush 33, 2) := dk_16 33 (dk_at dksX3_unit_0 6 rfl rfl)
theorem dX3_unit_8 : decode cX3_unit 8 = .ok (.if_icmp .ne 37, 3) := dk_160 0 37 (dk_at dksX3_unit_0 8 rfl rfl)
theorem dX3_unit_11 : decode cX3_unit 11 = .ok (.aload_n 0, 1) := dk_42 (dk_at dksX3_unit_0 11 rfl rfl)
theorem dX3_unit_12 : decode cX3_unit 12 = .ok (.invokevirtual 348, 3) := dk_182 1 92 (dk_at dksX3_unit_0 12 rfl rfl)
theorem dX3_unit_15 : decode cX3_unit 15 = .ok (.ifCond .ne 5, 3) := dk_154 0 5 (dk_at dksX3_unit_0 15 rfl rfl)
theorem dX3_unit_18 : decode cX3_unit 18 = .ok (.iconst 0, 1) := dk_3 (dk_at dksX3_unit_0 18 rfl rfl)
theorem dX3_unit_19 : decode cX3_unit 19 = .ok (.ireturn, 1) := dk_172 (dk_at dksX3_unit_0 19 rfl rfl)
theorem dX3_unit_20 : decode cX3_unit 20 = .ok (.aload_n 0, 1) := dk_42 (dk_at dksX3_unit_0 20 rfl rfl)
theorem dX3_unit_21 : decode cX3_unit 21 = .ok (.invokevirtual 345, 3) := dk_182 1 89 (dk_at dksX3_unit_0 21 rfl rfl)
theorem dX3_unit_24 : decode cX3_unit 24 = .ok (.istore_n 2, 1) := dk_61 (dk_at dksX3_unit_1 0 rfl rfl)
theorem dX3_unit_25 : decode cX3_unit 25 = .ok (.aload_n 0, 1) := dk_42 (dk_at dksX3_unit_1 1 rfl rfl)
theorem dX3_unit_26 : decode cX3_unit 26 = .ok (.dup, 1) := dk_89 (dk_at dksX3_unit_1 2 rfl rfl)
theorem dX3_unit_27 : decode cX3_unit 27 = .ok (.getfield 328, 3) := dk_180 1 72 (dk_at dksX3_unit_1 3 rfl rfl)
theorem dX3_unit_30 : decode cX3_unit 30 = .ok (.iconst 1, 1) := dk_4 (dk_at dksX3_unit_1 6 rfl rfl)
theorem dX3_unit_31 : decode cX3_unit 31 = .ok (.isub, 1) := dk_100 (dk_at dksX3_unit_1 7 rfl rfl)
theorem dX3_unit_32 : decode cX3_unit 32 = .ok (.putfield 328, 3) := dk_181 1 72 (dk_at dksX3_unit_1 8 rfl rfl)
theorem dX3_unit_35 : decode cX3_unit 35 = .ok (.iload_n 2, 1) := dk_28 (dk_at dksX3_unit_1 11 rfl rfl)
theorem dX3_unit_36 : decode cX3_unit 36 = .ok (.ifCond .ne 7, 3) := dk_154 0 7 (dk_at dksX3_unit_1 12 rfl rfl)
theorem dX3_unit_39 : decode cX3_unit 39 = .ok (.iconst 1, 1) := dk_4 (dk_at dksX3_unit_1 15 rfl rfl)
theorem dX3_unit_40 : decode cX3_unit 40 = .ok (.goto 4, 3) := dk_167 0 4 (dk_at dksX3_unit_1 16 rfl rfl)
theorem dX3_unit_43 : decode cX3_unit 43 = .ok (.iconst 0, 1) := dk_3 (dk_at dksX3_unit_1 19 rfl rfl)
theorem dX3_unit_44 : decode cX3_unit 44 = .ok (.ireturn, 1) := dk_172 (dk_at dksX3_unit_1 20 rfl rfl)
theorem dX3_unit_45 : decode cX3_unit 45 = .ok (.iload_n 1, 1) := dk_27 (dk_at dksX3_unit_1 21 rfl rfl)
theorem dX3_unit_46 : decode cX3_unit 46 = .ok (.bipush 40, 2) := dk_16 40 (dk_at dksX3_unit_1 22 rfl rfl)
theorem dX3_unit_48 : decode cX3_unit 48 = .ok (.if_icmp .ne 40, 3) := dk_160 0 40 (dk_at dksX3_unit_2 0 rfl rfl)
theorem dX3_unit_51 : decode cX3_unit 51 = .ok (.aload_n 0, 1) := dk_42 (dk_at dksX3_unit_2 3 rfl rfl)
theorem dX3_unit_52 : decode cX3_unit 52 = .ok (.invokevirtual 348, 3) := dk_182 1 92 (dk_at dksX3_unit_2 4 rfl rfl)
theorem dX3_unit_55 : decode cX3_unit 55 = .ok (.ifCond .ne 5, 3) := dk_154 0 5 (dk_at dksX3_unit_2 7 rfl rfl)
theorem dX3_unit_58 : decode cX3_unit 58 = .ok (.iconst 0, 1) := dk_3 (dk_at dksX3_unit_2 10 rfl rfl)
theorem dX3_unit_59 : decode cX3_unit 59 = .ok (.ireturn, 1) := dk_172 (dk_at dksX3_unit_2 11 rfl rfl)
theorem dX3_unit_60 : decode cX3_unit 60 = .ok (.aload_n 0, 1) := dk_42 (dk_at dksX3_unit_2 12 rfl rfl)
theorem dX3_unit_61 : decode cX3_unit 61 = .ok (.invokevirtual 351, 3) := dk_182 1 95 (dk_at dksX3_unit_2 13 rfl rfl)
theorem dX3_unit_64 : decode cX3_unit 64 = .ok (.istore_n 2, 1) := dk_61 (dk_at dksX3_unit_2 16 rfl rfl)
theorem dX3_unit_65 : decode cX3_unit 65 = .ok (.aload_n 0, 1) := dk_42 (dk_at dksX3_unit_2 17 rfl rfl)
theorem dX3_unit_66 : decode cX3_unit 66 = .ok (.bipush 41, 2) := dk_16 41 (dk_at dksX3_unit_2 18 rfl rfl)
theorem dX3_unit_68 : decode cX3_unit 68 = .ok (.invokevirtual 354, 3) := dk_182 1 98 (dk_at dksX3_unit_2 20 rfl rfl)
theorem dX3_unit_71 : decode cX3_unit 71 = .ok (.ifCond .ne 5, 3) := dk_154 0 5 (dk_at dksX3_unit_3 0 rfl rfl)
theorem dX3_unit_74 : decode cX3_unit 74 = .ok (.iconst 0, 1) := dk_3 (dk_at dksX3_unit_3 3 rfl rfl)
theorem dX3_unit_75 : decode cX3_unit 75 = .ok (.ireturn, 1) := dk_172 (dk_at dksX3_unit_3 4 rfl rfl)
theorem dX3_unit_76 : decode cX3_unit 76 = .ok (.aload_n 0, 1) := dk_42 (dk_at dksX3_unit_3 5 rfl rfl)
theorem dX3_unit_77 : decode cX3_unit 77 = .ok (.dup, 1) := dk_89 (dk_at dksX3_unit_3 6 rfl rfl)
theorem dX3_unit_78 : decode cX3_unit 78 = .ok (.getfield 328, 3) := dk_180 1 72 (dk_at dksX3_unit_3 7 rfl rfl)
theorem dX3_unit_81 : decode cX3_unit 81 = .ok (.iconst 1, 1) := dk_4 (dk_at dksX3_unit_3 10 rfl rfl)
theorem dX3_unit_82 : decode cX3_unit 82 = .ok (.isub, 1) := dk_100 (dk_at dksX3_unit_3 11 rfl rfl)
theorem dX3_unit_83 : decode cX3_unit 83 = .ok (.putfield 328, 3) := dk_181 1 72 (dk_at dksX3_unit_3 12 rfl rfl)
theorem dX3_unit_86 : decode cX3_unit 86 = .ok (.iload_n 2, 1) := dk_28 (dk_at dksX3_unit_3 15 rfl rfl)
theorem dX3_unit_87 : decode cX3_unit 87 = .ok (.ireturn, 1) := dk_172 (dk_at dksX3_unit_3 16 rfl rfl)
theorem dX3_unit_88 : decode cX3_unit 88 = .ok (.iload_n 1, 1) := dk_27 (dk_at dksX3_unit_3 17 rfl rfl)
theorem dX3_unit_89 : decode cX3_unit 89 = .ok (.bipush 104, 2) := dk_16 104 (dk_at dksX3_unit_3 18 rfl rfl)
theorem dX3_unit_91 : decode cX3_unit 91 = .ok (.if_icmp .eq 15, 3) := dk_159 0 15 (dk_at dksX3_unit_3 20 rfl rfl)
theorem dX3_unit_94 : decode cX3_unit 94 = .ok (.iload_n 1, 1) := dk_27 (dk_at dksX3_unit_3 23 rfl rfl)
theorem dX3_unit_95 : decode cX3_unit 95 = .ok (.bipush 110, 2) := dk_16 110 (dk_at dksX3_unit_4 0 rfl rfl)
theorem dX3_unit_97 : decode cX3_unit 97 = .ok (.if_icmp .eq 9, 3) := dk_159 0 9 (dk_at dksX3_unit_4 2 rfl rfl)
theorem dX3_unit_100 : decode cX3_unit 100 = .ok (.iload_n 1, 1) := dk_27 (dk_at dksX3_unit_4 5 rfl rfl)
theorem dX3_unit_101 : decode cX3_unit 101 = .ok (.bipush 100, 2) := dk_16 100 (dk_at dksX3_unit_4 6 rfl rfl)
theorem dX3_unit_103 : decode cX3_unit 103 = .ok (.if_icmp .ne 77, 3) := dk_160 0 77 (dk_at dksX3_unit_4 8 rfl rfl)
theorem dX3_unit_106 : decode cX3_unit 106 = .ok (.aload_n 0, 1) := dk_42 (dk_at dksX3_unit_4 11 rfl rfl)
theorem dX3_unit_107 : decode cX3_unit 107 = .ok (.dup, 1) := dk_89 (dk_at dksX3_unit_4 12 rfl rfl)
theorem dX3_unit_108 : decode cX3_unit 108 = .ok (.getfield 316, 3) := dk_180 1 60 (dk_at dksX3_unit_4 13 rfl rfl)
theorem dX3_unit_111 : decode cX3_unit 111 = .ok (.iconst 1, 1) := dk_4 (dk_at dksX3_unit_4 16 rfl rfl)
theorem dX3_unit_112 : decode cX3_unit 112 = .ok (.iadd, 1) := dk_96 (dk_at dksX3_unit_4 17 rfl rfl)
theorem dX3_unit_113 : decode cX3_unit 113 = .ok (.putfield 316, 3) := dk_181 1 60 (dk_at dksX3_unit_4 18 rfl rfl)
theorem dX3_unit_116 : decode cX3_unit 116 = .ok (.aload_n 0, 1) := dk_42 (dk_at dksX3_unit_4 21 rfl rfl)
theorem dX3_unit_117 : decode cX3_unit 117 = .ok (.bipush 11, 2) := dk_16 11 (dk_at dksX3_unit_4 22 rfl rfl)
theorem dX3_unit_119 : decode cX3_unit 119 = .ok (.invokevirtual 357, 3) := dk_182 1 101 (dk_at dksX3_unit_5 0 rfl rfl)
theorem dX3_unit_122 : decode cX3_unit 122 = .ok (.istore_n 2, 1) := dk_61 (dk_at dksX3_unit_5 3 rfl rfl)
theorem dX3_unit_123 : decode cX3_unit 123 = .ok (.aload_n 0, 1) := dk_42 (dk_at dksX3_unit_5 4 rfl rfl)
theorem dX3_unit_124 : decode cX3_unit 124 = .ok (.getfield 325, 3) := dk_180 1 69 (dk_at dksX3_unit_5 5 rfl rfl)
theorem dX3_unit_127 : decode cX3_unit 127 = .ok (.iconst (-1), 1) := dk_2 (dk_at dksX3_unit_5 8 rfl rfl)
theorem dX3_unit_128 : decode cX3_unit 128 = .ok (.if_icmp .ne 50, 3) := dk_160 0 50 (dk_at dksX3_unit_5 9 rfl rfl)
theorem dX3_unit_131 : decode cX3_unit 131 = .ok (.iload_n 1, 1) := dk_27 (dk_at dksX3_unit_5 12 rfl rfl)
theorem dX3_unit_132 : decode cX3_unit 132 = .ok (.bipush 100, 2) := dk_16 100 (dk_at dksX3_unit_5 13 rfl rfl)
theorem dX3_unit_134 : decode cX3_unit 134 = .ok (.if_icmp .ne 21, 3) := dk_160 0 21 (dk_at dksX3_unit_5 15 rfl rfl)
theorem dX3_unit_137 : decode cX3_unit 137 = .ok (.aload_n 0, 1) := dk_42 (dk_at dksX3_unit_5 18 rfl rfl)
theorem dX3_unit_138 : decode cX3_unit 138 = .ok (.getfield 360, 3) := dk_180 1 104 (dk_at dksX3_unit_5 19 rfl rfl)
theorem dX3_unit_141 : decode cX3_unit 141 = .ok (.ifCond .ne 37, 3) := dk_154 0 37 (dk_at dksX3_unit_6 0 rfl rfl)
theorem dX3_unit_144 : decode cX3_unit 144 = .ok (.aload_n 0, 1) := dk_42 (dk_at dksX3_unit_6 3 rfl rfl)
theorem dX3_unit_145 : decode cX3_unit 145 = .ok (.iload_n 2, 1) := dk_28 (dk_at dksX3_unit_6 4 rfl rfl)
theorem dX3_unit_146 : decode cX3_unit 146 = .ok (.invokevirtual 364, 3) := dk_182 1 108 (dk_at dksX3_unit_6 5 rfl rfl)
theorem dX3_unit_149 : decode cX3_unit 149 = .ok (.ifCond .eq 29, 3) := dk_153 0 29 (dk_at dksX3_unit_6 8 rfl rfl)
theorem dX3_unit_152 : decode cX3_unit 152 = .ok (.goto 22, 3) := dk_167 0 22 (dk_at dksX3_unit_6 11 rfl rfl)
theorem dX3_unit_155 : decode cX3_unit 155 = .ok (.aload_n 0, 1) := dk_42 (dk_at dksX3_unit_6 14 rfl rfl)
theorem dX3_unit_156 : decode cX3_unit 156 = .ok (.iload_n 2, 1) := dk_28 (dk_at dksX3_unit_6 15 rfl rfl)
theorem dX3_unit_157 : decode cX3_unit 157 = .ok (.invokevirtual 366, 3) := dk_182 1 110 (dk_at dksX3_unit_6 16 rfl rfl)
theorem dX3_unit_160 : decode cX3_unit 160 = .ok (.iload_n 1, 1) := dk_27 (dk_at dksX3_unit_6 19 rfl rfl)
theorem dX3_unit_161 : decode cX3_unit 161 = .ok (.bipush 104, 2) := dk_16 104 (dk_at dksX3_unit_6 20 rfl rfl)
theorem dX3_unit_163 : decode cX3_unit 163 = .ok (.if_icmp .ne 7, 3) := dk_160 0 7 (dk_at dksX3_unit_7 0 rfl rfl)
theorem dX3_unit_166 : decode cX3_unit 166 = .ok (.iconst 1, 1) := dk_4 (dk_at dksX3_unit_7 3 rfl rfl)
theorem dX3_unit_167 : decode cX3_unit 167 = .ok (.goto 4, 3) := dk_167 0 4 (dk_at dksX3_unit_7 4 rfl rfl)
theorem dX3_unit_170 : decode cX3_unit 170 = .ok (.iconst 0, 1) := dk_3 (dk_at dksX3_unit_7 7 rfl rfl)
theorem dX3_unit_171 : decode cX3_unit 171 = .ok (.if_icmp .ne 7, 3) := dk_160 0 7 (dk_at dksX3_unit_7 8 rfl rfl)
theorem dX3_unit_174 : decode cX3_unit 174 = .ok (.iconst 1, 1) := dk_4 (dk_at dksX3_unit_7 11 rfl rfl)
theorem dX3_unit_175 : decode cX3_unit 175 = .ok (.goto 4, 3) := dk_167 0 4 (dk_at dksX3_unit_7 12 rfl rfl)
theorem dX3_unit_178 : decode cX3_unit 178 = .ok (.iconst 0, 1) := dk_3 (dk_at dksX3_unit_7 15 rfl rfl)
theorem dX3_unit_179 : decode cX3_unit 179 = .ok (.ireturn, 1) := dk_172 (dk_at dksX3_unit_7 16 rfl rfl)
theorem dX3_unit_180 : decode cX3_unit 180 = .ok (.iload_n 1, 1) := dk_27 (dk_at dksX3_unit_7 17 rfl rfl)
theorem dX3_unit_181 : decode cX3_unit 181 = .ok (.bipush 119, 2) := dk_16 119 (dk_at dksX3_unit_7 18 rfl rfl)
theorem dX3_unit_183 : decode cX3_unit 183 = .ok (.if_icmp .ne 56, 3) := dk_160 0 56 (dk_at dksX3_unit_7 20 rfl rfl)
theorem dX3_unit_186 : decode cX3_unit 186 = .ok (.aload_n 0, 1) := dk_42 (dk_at dksX3_unit_7 23 rfl rfl)
theorem dX3_unit_187 : decode cX3_unit 187 = .ok (.dup, 1) := dk_89 (dk_at dksX3_unit_8 0 rfl rfl)
theorem dX3_unit_188 : decode cX3_unit 188 = .ok (.getfield 316, 3) := dk_180 1 60 (dk_at dksX3_unit_8 1 rfl rfl)
theorem dX3_unit_191 : decode cX3_unit 191 = .ok (.iconst 1, 1) := dk_4 (dk_at dksX3_unit_8 4 rfl rfl)
theorem dX3_unit_192 : decode cX3_unit 192 = .ok (.iadd, 1) := dk_96 (dk_at dksX3_unit_8 5 rfl rfl)
theorem dX3_unit_193 : decode cX3_unit 193 = .ok (.putfield 316, 3) := dk_181 1 60 (dk_at dksX3_unit_8 6 rfl rfl)
theorem dX3_unit_196 : decode cX3_unit 196 = .ok (.aload_n 0, 1) := dk_42 (dk_at dksX3_unit_8 9 rfl rfl)
theorem dX3_unit_197 : decode cX3_unit 197 = .ok (.sipush 999, 3) := dk_17 3 231 (dk_at dksX3_unit_8 10 rfl rfl)
theorem dX3_unit_200 : decode cX3_unit 200 = .ok (.invokevirtual 357, 3) := dk_182 1 101 (dk_at dksX3_unit_8 13 rfl rfl)
theorem dX3_unit_203 : decode cX3_unit 203 = .ok (.istore_n 2, 1) := dk_61 (dk_at dksX3_unit_8 16 rfl rfl)
theorem dX3_unit_204 : decode cX3_unit 204 = .ok (.aload_n 0, 1) := dk_42 (dk_at dksX3_unit_8 17 rfl rfl)
theorem dX3_unit_205 : decode cX3_unit 205 = .ok (.getfield 325, 3) := dk_180 1 69 (dk_at dksX3_unit_8 18 rfl rfl)
theorem dX3_unit_208 : decode cX3_unit 208 = .ok (.iconst (-1), 1) := dk_2 (dk_at dksX3_unit_8 21 rfl rfl)
theorem dX3_unit_209 : decode cX3_unit 209 = .ok (.if_icmp .ne 28, 3) := dk_160 0 28 (dk_at dksX3_unit_9 0 rfl rfl)
theorem dX3_unit_212 : decode cX3_unit 212 = .ok (.aload_n 0, 1) := dk_42 (dk_at dksX3_unit_9 3 rfl rfl)
theorem dX3_unit_213 : decode cX3_unit 213 = .ok (.getfield 369, 3) := dk_180 1 113 (dk_at dksX3_unit_9 4 rfl rfl)
theorem dX3_unit_216 : decode cX3_unit 216 = .ok (.iconst (-1), 1) := dk_2 (dk_at dksX3_unit_9 7 rfl rfl)
theorem dX3_unit_217 : decode cX3_unit 217 = .ok (.if_icmp .eq 20, 3) := dk_159 0 20 (dk_at dksX3_unit_9 8 rfl rfl)
theorem dX3_unit_220 : decode cX3_unit 220 = .ok (.aload_n 0, 1) := dk_42 (dk_at dksX3_unit_9 11 rfl rfl)
theorem dX3_unit_221 : decode cX3_unit 221 = .ok (.getfield 372, 3) := dk_180 1 116 (dk_at dksX3_unit_9 12 rfl rfl)
theorem dX3_unit_224 : decode cX3_unit 224 = .ok (.aload_n 0, 1) := dk_42 (dk_at dksX3_unit_9 15 rfl rfl)
theorem dX3_unit_225 : decode cX3_unit 225 = .ok (.getfield 369, 3) := dk_180 1 113 (dk_at dksX3_unit_9 16 rfl rfl)
theorem dX3_unit_228 : decode cX3_unit 228 = .ok (.isub, 1) := dk_100 (dk_at dksX3_unit_9 19 rfl rfl)
theorem dX3_unit_229 : decode cX3_unit 229 = .ok (.iload_n 2, 1) := dk_28 (dk_at dksX3_unit_9 20 rfl rfl)
theorem dX3_unit_230 : decode cX3_unit 230 = .ok (.if_icmp .lt 7, 3) := dk_161 0 7 (dk_at dksX3_unit_9 21 rfl rfl)
theorem dX3_unit_233 : decode cX3_unit 233 = .ok (.iconst 1, 1) := dk_4 (dk_at dksX3_unit_10 0 rfl rfl)
theorem dX3_unit_234 : decode cX3_unit 234 = .ok (.goto 4, 3) := dk_167 0 4 (dk_at dksX3_unit_10 1 rfl rfl)
theorem dX3_unit_237 : decode cX3_unit 237 = .ok (.iconst 0, 1) := dk_3 (dk_at dksX3_unit_10 4 rfl rfl)
theorem dX3_unit_238 : decode cX3_unit 238 = .ok (.ireturn, 1) := dk_172 (dk_at dksX3_unit_10 5 rfl rfl)
theorem dX3_unit_239 : decode cX3_unit 239 = .ok (.aload_n 0, 1) := dk_42 (dk_at dksX3_unit_10 6 rfl rfl)
theorem dX3_unit_240 : decode cX3_unit 240 = .ok (.sipush 999, 3) := dk_17 3 231 (dk_at dksX3_unit_10 7 rfl rfl)
theorem dX3_unit_243 : decode cX3_unit 243 = .ok (.invokevirtual 357, 3) := dk_182 1 101 (dk_at dksX3_unit_10 10 rfl rfl)
theorem dX3_unit_246 : decode cX3_unit 246 = .ok (.istore_n 2, 1) := dk_61 (dk_at dksX3_unit_10 13 rfl rfl)
theorem dX3_unit_247 : decode cX3_unit 247 = .ok (.aload_n 0, 1) := dk_42 (dk_at dksX3_unit_10 14 rfl rfl)
theorem dX3_unit_248 : decode cX3_unit 248 = .ok (.getfield 325, 3) := dk_180 1 69 (dk_at dksX3_unit_10 15 rfl rfl)
theorem dX3_unit_251 : decode cX3_unit 251 = .ok (.iconst (-1), 1) := dk_2 (dk_at dksX3_unit_10 18 rfl rfl)
theorem dX3_unit_252 : decode cX3_unit 252 = .ok (.if_icmp .ne 12, 3) := dk_160 0 12 (dk_at dksX3_unit_10 19 rfl rfl)
theorem dX3_unit_255 : decode cX3_unit 255 = .ok (.aload_n 0, 1) := dk_42 (dk_at dksX3_unit_10 22 rfl rfl)
theorem dX3_unit_256 : decode cX3_unit 256 = .ok (.invokevirtual 335, 3) := dk_182 1 79 (dk_at dksX3_unit_11 0 rfl rfl)
theorem dX3_unit_259 : decode cX3_unit 259 = .ok (.bipush 123, 2) := dk_16 123 (dk_at dksX3_unit_11 3 rfl rfl)
theorem dX3_unit_261 : decode cX3_unit 261 = .ok (.if_icmp .eq 8, 3) := dk_159 0 8 (dk_at dksX3_unit_11 5 rfl rfl)
theorem dX3_unit_264 : decode cX3_unit 264 = .ok (.aload_n 0, 1) := dk_42 (dk_at dksX3_unit_11 8 rfl rfl)
theorem dX3_unit_265 : decode cX3_unit 265 = .ok (.invokevirtual 331, 3) := dk_182 1 75 (dk_at dksX3_unit_11 9 rfl rfl)
theorem dX3_unit_268 : decode cX3_unit 268 = .ok (.ireturn, 1) := dk_172 (dk_at dksX3_unit_11 12 rfl rfl)
theorem dX3_unit_269 : decode cX3_unit 269 = .ok (.aload_n 0, 1) := dk_42 (dk_at dksX3_unit_11 13 rfl rfl)
theorem dX3_unit_270 : decode cX3_unit 270 = .ok (.invokevirtual 348, 3) := dk_182 1 92 (dk_at dksX3_unit_11 14 rfl rfl)
theorem dX3_unit_273 : decode cX3_unit 273 = .ok (.ifCond .ne 5, 3) := dk_154 0 5 (dk_at dksX3_unit_11 17 rfl rfl)
theorem dX3_unit_276 : decode cX3_unit 276 = .ok (.iconst 0, 1) := dk_3 (dk_at dksX3_unit_11 20 rfl rfl)
theorem dX3_unit_277 : decode cX3_unit 277 = .ok (.ireturn, 1) := dk_172 (dk_at dksX3_unit_11 21 rfl rfl)
theorem dX3_unit_278 : decode cX3_unit 278 = .ok (.aload_n 0, 1) := dk_42 (dk_at dksX3_unit_11 22 rfl rfl)
theorem dX3_unit_279 : decode cX3_unit 279 = .ok (.invokevirtual 351, 3) := dk_182 1 95 (dk_at dksX3_unit_12 0 rfl rfl)
theorem dX3_unit_282 : decode cX3_unit 282 = .ok (.ifCond .eq 7, 3) := dk_153 0 7 (dk_at dksX3_unit_12 3 rfl rfl)
theorem dX3_unit_285 : decode cX3_unit 285 = .ok (.iconst 1, 1) := dk_4 (dk_at dksX3_unit_12 6 rfl rfl)
theorem dX3_unit_286 : decode cX3_unit 286 = .ok (.goto 4, 3) := dk_167 0 4 (dk_at dksX3_unit_12 7 rfl rfl)
theorem dX3_unit_289 : decode cX3_unit 289 = .ok (.iconst 0, 1) := dk_3 (dk_at dksX3_unit_12 10 rfl rfl)
theorem dX3_unit_290 : decode cX3_unit 290 = .ok (.istore_n 3, 1) := dk_62 (dk_at dksX3_unit_12 11 rfl rfl)
theorem dX3_unit_291 : decode cX3_unit 291 = .ok (.aload_n 0, 1) := dk_42 (dk_at dksX3_unit_12 12 rfl rfl)
theorem dX3_unit_292 : decode cX3_unit 292 = .ok (.getfield 325, 3) := dk_180 1 69 (dk_at dksX3_unit_12 13 rfl rfl)
theorem dX3_unit_295 : decode cX3_unit 295 = .ok (.iconst (-1), 1) := dk_2 (dk_at dksX3_unit_12 16 rfl rfl)
theorem dX3_unit_296 : decode cX3_unit 296 = .ok (.if_icmp .ne 40, 3) := dk_160 0 40 (dk_at dksX3_unit_12 17 rfl rfl)
theorem dX3_unit_299 : decode cX3_unit 299 = .ok (.aload_n 0, 1) := dk_42 (dk_at dksX3_unit_12 20 rfl rfl)
theorem dX3_unit_300 : decode cX3_unit 300 = .ok (.invokevirtual 335, 3) := dk_182 1 79 (dk_at dksX3_unit_12 21 rfl rfl)
theorem dX3_unit_303 : decode cX3_unit 303 = .ok (.bipush 44, 2) := dk_16 44 (dk_at dksX3_unit_13 0 rfl rfl)
theorem dX3_unit_305 : decode cX3_unit 305 = .ok (.if_icmp .ne 31, 3) := dk_160 0 31 (dk_at dksX3_unit_13 2 rfl rfl)
theorem dX3_unit_308 : decode cX3_unit 308 = .ok (.aload_n 0, 1) := dk_42 (dk_at dksX3_unit_13 5 rfl rfl)
theorem dX3_unit_309 : decode cX3_unit 309 = .ok (.dup, 1) := dk_89 (dk_at dksX3_unit_13 6 rfl rfl)
theorem dX3_unit_310 : decode cX3_unit 310 = .ok (.getfield 316, 3) := dk_180 1 60 (dk_at dksX3_unit_13 7 rfl rfl)
theorem dX3_unit_313 : decode cX3_unit 313 = .ok (.iconst 1, 1) := dk_4 (dk_at dksX3_unit_13 10 rfl rfl)
theorem dX3_unit_314 : decode cX3_unit 314 = .ok (.iadd, 1) := dk_96 (dk_at dksX3_unit_13 11 rfl rfl)
theorem dX3_unit_315 : decode cX3_unit 315 = .ok (.putfield 316, 3) := dk_181 1 60 (dk_at dksX3_unit_13 12 rfl rfl)
theorem dX3_unit_318 : decode cX3_unit 318 = .ok (.iload_n 3, 1) := dk_29 (dk_at dksX3_unit_13 15 rfl rfl)
theorem dX3_unit_319 : decode cX3_unit 319 = .ok (.aload_n 0, 1) := dk_42 (dk_at dksX3_unit_13 16 rfl rfl)
theorem dX3_unit_320 : decode cX3_unit 320 = .ok (.invokevirtual 351, 3) := dk_182 1 95 (dk_at dksX3_unit_13 17 rfl rfl)
theorem dX3_unit_323 : decode cX3_unit 323 = .ok (.ifCond .eq 7, 3) := dk_153 0 7 (dk_at dksX3_unit_13 20 rfl rfl)
theorem dX3_unit_326 : decode cX3_unit 326 = .ok (.iconst 1, 1) := dk_4 (dk_at dksX3_unit_13 23 rfl rfl)
theorem dX3_unit_327 : decode cX3_unit 327 = .ok (.goto 4, 3) := dk_167 0 4 (dk_at dksX3_unit_14 0 rfl rfl)
theorem dX3_unit_330 : decode cX3_unit 330 = .ok (.iconst 0, 1) := dk_3 (dk_at dksX3_unit_14 3 rfl rfl)
theorem dX3_unit_331 : decode cX3_unit 331 = .ok (.iadd, 1) := dk_96 (dk_at dksX3_unit_14 4 rfl rfl)
theorem dX3_unit_332 : decode cX3_unit 332 = .ok (.istore_n 3, 1) := dk_62 (dk_at dksX3_unit_14 5 rfl rfl)
theorem dX3_unit_333 : decode cX3_unit 333 = .ok (.goto (-42), 3) := dk_167 255 214 (dk_at dksX3_unit_14 6 rfl rfl)
theorem dX3_unit_336 : decode cX3_unit 336 = .ok (.aload_n 0, 1) := dk_42 (dk_at dksX3_unit_14 9 rfl rfl)
theorem dX3_unit_337 : decode cX3_unit 337 = .ok (.bipush 125, 2) := dk_16 125 (dk_at dksX3_unit_14 10 rfl rfl)
theorem dX3_unit_339 : decode cX3_unit 339 = .ok (.invokevirtual 354, 3) := dk_182 1 98 (dk_at dksX3_unit_14 12 rfl rfl)
theorem dX3_unit_342 : decode cX3_unit 342 = .ok (.ifCond .ne 5, 3) := dk_154 0 5 (dk_at dksX3_unit_14 15 rfl rfl)
theorem dX3_unit_345 : decode cX3_unit 345 = .ok (.iconst 0, 1) := dk_3 (dk_at dksX3_unit_14 18 rfl rfl)
theorem dX3_unit_346 : decode cX3_unit 346 = .ok (.ireturn, 1) := dk_172 (dk_at dksX3_unit_14 19 rfl rfl)
theorem dX3_unit_347 : decode cX3_unit 347 = .ok (.aload_n 0, 1) := dk_42 (dk_at dksX3_unit_14 20 rfl rfl)
theorem dX3_unit_348 : decode cX3_unit 348 = .ok (.dup, 1) := dk_89 (dk_at dksX3_unit_14 21 rfl rfl)
theorem dX3_unit_349 : decode cX3_unit 349 = .ok (.getfield 328, 3) := dk_180 1 72 (dk_at dksX3_unit_15 0 rfl rfl)
theorem dX3_unit_352 : decode cX3_unit 352 = .ok (.iconst 1, 1) := dk_4 (dk_at dksX3_unit_15 3 rfl rfl)
theorem dX3_unit_353 : decode cX3_unit 353 = .ok (.isub, 1) := dk_100 (dk_at dksX3_unit_15 4 rfl rfl)
theorem dX3_unit_354 : decode cX3_unit 354 = .ok (.putfield 328, 3) := dk_181 1 72 (dk_at dksX3_unit_15 5 rfl rfl)
theorem dX3_unit_357 : decode cX3_unit 357 = .ok (.iload_n 3, 1) := dk_29 (dk_at dksX3_unit_15 8 rfl rfl)
theorem dX3_unit_358 : decode cX3_unit 358 = .ok (.iload_n 2, 1) := dk_28 (dk_at dksX3_unit_15 9 rfl rfl)
theorem dX3_unit_359 : decode cX3_unit 359 = .ok (.if_icmp .lt 7, 3) := dk_161 0 7 (dk_at dksX3_unit_15 10 rfl rfl)
theorem dX3_unit_362 : decode cX3_unit 362 = .ok (.iconst 1, 1) := dk_4 (dk_at dksX3_unit_15 13 rfl rfl)
theorem dX3_unit_363 : decode cX3_unit 363 = .ok (.goto 4, 3) := dk_167 0 4 (dk_at dksX3_unit_15 14 rfl rfl)
theorem dX3_unit_366 : decode cX3_unit 366 = .ok (.iconst 0, 1) := dk_3 (dk_at dksX3_unit_15 17 rfl rfl)
theorem dX3_unit_367 : decode cX3_unit 367 = .ok (.ireturn, 1) := dk_172 (dk_at dksX3_unit_15 18 rfl rfl)
abbrev cX3_look : ByteArray := prog_22_method_49_code
def yX3_look : MethodName := ⟨RX3, "look", "()I"⟩
def dkwX3_look_3 : List UInt8 := [167, 0, 4, 2, 172]
abbrev dktX3_look_3 : List UInt8 := dkwX3_look_3 ++ []
def dkwX3_look_2 : List UInt8 := [180, 1, 63, 162, 0, 24, 42, 180, 0, 130, 42, 180, 1, 66, 42, 180, 1, 60, 96, 51, 17, 0, 255, 126]
abbrev dktX3_look_2 : List UInt8 := dkwX3_look_2 ++ dktX3_look_3
def dkwX3_look_1 : List UInt8 := [51, 16, 32, 160, 0, 16, 42, 89, 180, 1, 60, 4, 96, 181, 1, 60, 167, 255, 216, 42, 180, 1, 60, 42]
abbrev dktX3_look_1 : List UInt8 := dkwX3_look_1 ++ dktX3_look_2
def dkwX3_look_0 : List UInt8 := [42, 180, 1, 60, 42, 180, 1, 63, 162, 0, 35, 42, 180, 0, 130, 42, 180, 1, 66, 42, 180, 1, 60, 96]
abbrev dktX3_look_0 : List UInt8 := dkwX3_look_0 ++ dktX3_look_1
theorem dksX3_look_0 : cX3_look.data.toList.drop 0 = dktX3_look_0 := by decide +kernel
theorem dksX3_look_1 : cX3_look.data.toList.drop 24 = dktX3_look_1 := dk_seg dksX3_look_0 24 rfl rfl
theorem dksX3_look_2 : cX3_look.data.toList.drop 48 = dktX3_look_2 := dk_seg dksX3_look_1 24 rfl rfl
theorem dksX3_look_3 : cX3_look.data.toList.drop 72 = dktX3_look_3 := dk_seg dksX3_look_2 24 rfl rfl
theorem dX3_look_0 : decode cX3_look 0 = .ok (.aload_n 0, 1) := dk_42 (dk_at dksX3_look_0 0 rfl rfl)
theorem dX3_look_1 : decode cX3_look 1 = .ok (.getfield 316, 3) := dk_180 1 60 (dk_at dksX3_look_0 1 rfl rfl)
theorem dX3_look_4 : decode cX3_look 4 = .ok (.aload_n 0, 1) := dk_42 (dk_at dksX3_look_0 4 rfl rfl)
theorem dX3_look_5 : decode cX3_look 5 = .ok (.getfield 319, 3) := dk_180 1 63 (dk_at dksX3_look_0 5 rfl rfl)
theorem dX3_look_8 : decode cX3_look 8 = .ok (.if_icmp .ge 35, 3) := dk_162 0 35 (dk_at dksX3_look_0 8 rfl rfl)
theorem dX3_look_11 : decode cX3_look 11 = .ok (.aload_n 0, 1) := dk_42 (dk_at dksX3_look_0 11 rfl rfl)
theorem dX3_look_12 : decode cX3_look 12 = .ok (.getfield 130, 3) := dk_180 0 130 (dk_at dksX3_look_0 12 rfl rfl)
theorem dX3_look_15 : decode cX3_look 15 = .ok (.aload_n 0, 1) := dk_42 (dk_at dksX3_look_0 15 rfl rfl)
theorem dX3_look_16 : decode cX3_look 16 = .ok (.getfield 322, 3) := dk_180 1 66 (dk_at dksX3_look_0 16 rfl rfl)
theorem dX3_look_19 : decode cX3_look 19 = .ok (.aload_n 0, 1) := dk_42 (dk_at dksX3_look_0 19 rfl rfl)
theorem dX3_look_20 : decode cX3_look 20 = .ok (.getfield 316, 3) := dk_180 1 60 (dk_at dksX3_look_0 20 rfl rfl)
theorem dX3_look_23 : decode cX3_look 23 = .ok (.iadd, 1) := dk_96 (dk_at dksX3_look_0 23 rfl rfl)
theorem dX3_look_24 : decode cX3_look 24 = .ok (.baload, 1) := dk_51 (dk_at dksX3_look_1 0 rfl rfl)
theorem dX3_look_25 : decode cX3_look 25 = .ok (.bipush 32, 2) := dk_16 32 (dk_at dksX3_look_1 1 rfl rfl)
theorem dX3_look_27 : decode cX3_look 27 = .ok (.if_icmp .ne 16, 3) := dk_160 0 16 (dk_at dksX3_look_1 3 rfl rfl)
theorem dX3_look_30 : decode cX3_look 30 = .ok (.aload_n 0, 1) := dk_42 (dk_at dksX3_look_1 6 rfl rfl)
theorem dX3_look_31 : decode cX3_look 31 = .ok (.dup, 1) := dk_89 (dk_at dksX3_look_1 7 rfl rfl)
theorem dX3_look_32 : decode cX3_look 32 = .ok (.getfield 316, 3) := dk_180 1 60 (dk_at dksX3_look_1 8 rfl rfl)
theorem dX3_look_35 : decode cX3_look 35 = .ok (.iconst 1, 1) := dk_4 (dk_at dksX3_look_1 11 rfl rfl)
theorem dX3_look_36 : decode cX3_look 36 = .ok (.iadd, 1) := dk_96 (dk_at dksX3_look_1 12 rfl rfl)
theorem dX3_look_37 : decode cX3_look 37 = .ok (.putfield 316, 3) := dk_181 1 60 (dk_at dksX3_look_1 13 rfl rfl)
theorem dX3_look_40 : decode cX3_look 40 = .ok (.goto (-40), 3) := dk_167 255 216 (dk_at dksX3_look_1 16 rfl rfl)
theorem dX3_look_43 : decode cX3_look 43 = .ok (.aload_n 0, 1) := dk_42 (dk_at dksX3_look_1 19 rfl rfl)
theorem dX3_look_44 : decode cX3_look 44 = .ok (.getfield 316, 3) := dk_180 1 60 (dk_at dksX3_look_1 20 rfl rfl)
theorem dX3_look_47 : decode cX3_look 47 = .ok (.aload_n 0, 1) := dk_42 (dk_at dksX3_look_1 23 rfl rfl)
theorem dX3_look_48 : decode cX3_look 48 = .ok (.getfield 319, 3) := dk_180 1 63 (dk_at dksX3_look_2 0 rfl rfl)
theorem dX3_look_51 : decode cX3_look 51 = .ok (.if_icmp .ge 24, 3) := dk_162 0 24 (dk_at dksX3_look_2 3 rfl rfl)
theorem dX3_look_54 : decode cX3_look 54 = .ok (.aload_n 0, 1) := dk_42 (dk_at dksX3_look_2 6 rfl rfl)
theorem dX3_look_55 : decode cX3_look 55 = .ok (.getfield 130, 3) := dk_180 0 130 (dk_at dksX3_look_2 7 rfl rfl)
theorem dX3_look_58 : decode cX3_look 58 = .ok (.aload_n 0, 1) := dk_42 (dk_at dksX3_look_2 10 rfl rfl)
theorem dX3_look_59 : decode cX3_look 59 = .ok (.getfield 322, 3) := dk_180 1 66 (dk_at dksX3_look_2 11 rfl rfl)
theorem dX3_look_62 : decode cX3_look 62 = .ok (.aload_n 0, 1) := dk_42 (dk_at dksX3_look_2 14 rfl rfl)
theorem dX3_look_63 : decode cX3_look 63 = .ok (.getfield 316, 3) := dk_180 1 60 (dk_at dksX3_look_2 15 rfl rfl)
theorem dX3_look_66 : decode cX3_look 66 = .ok (.iadd, 1) := dk_96 (dk_at dksX3_look_2 18 rfl rfl)
theorem dX3_look_67 : decode cX3_look 67 = .ok (.baload, 1) := dk_51 (dk_at dksX3_look_2 19 rfl rfl)
theorem dX3_look_68 : decode cX3_look 68 = .ok (.sipush 255, 3) := dk_17 0 255 (dk_at dksX3_look_2 20 rfl rfl)
theorem dX3_look_71 : decode cX3_look 71 = .ok (.iand, 1) := dk_126 (dk_at dksX3_look_2 23 rfl rfl)
theorem dX3_look_72 : decode cX3_look 72 = .ok (.goto 4, 3) := dk_167 0 4 (dk_at dksX3_look_3 0 rfl rfl)
theorem dX3_look_75 : decode cX3_look 75 = .ok (.iconst (-1), 1) := dk_2 (dk_at dksX3_look_3 3 rfl rfl)
theorem dX3_look_76 : decode cX3_look 76 = .ok (.ireturn, 1) := dk_172 (dk_at dksX3_look_3 4 rfl rfl)
abbrev cX3_goesIn : ByteArray := prog_22_method_51_code
def yX3_goesIn : MethodName := ⟨RX3, "goesIn", "()Z"⟩
def dkwX3_goesIn_1 : List UInt8 := [42, 89, 180, 1, 60, 4, 96, 181, 1, 60, 4, 172]
abbrev dktX3_goesIn_1 : List UInt8 := dkwX3_goesIn_1 ++ []
def dkwX3_goesIn_0 : List UInt8 := [42, 180, 1, 72, 16, 8, 160, 0, 8, 42, 182, 1, 75, 172, 42, 89, 180, 1, 72, 4, 96, 181, 1, 72]
abbrev dktX3_goesIn_0 : List UInt8 := dkwX3_goesIn_0 ++ dktX3_goesIn_1
theorem dksX3_goesIn_0 : cX3_goesIn.data.toList.drop 0 = dktX3_goesIn_0 := by decide +kernel
theorem dksX3_goesIn_1 : cX3_goesIn.data.toList.drop 24 = dktX3_goesIn_1 := dk_seg dksX3_goesIn_0 24 rfl rfl
theorem dX3_goesIn_0 : decode cX3_goesIn 0 = .ok (.aload_n 0, 1) := dk_42 (dk_at dksX3_goesIn_0 0 rfl rfl)
theorem dX3_goesIn_1 : decode cX3_goesIn 1 = .ok (.getfield 328, 3) := dk_180 1 72 (dk_at dksX3_goesIn_0 1 rfl rfl)
theorem dX3_goesIn_4 : decode cX3_goesIn 4 = .ok (.bipush 8, 2) := dk_16 8 (dk_at dksX3_goesIn_0 4 rfl rfl)
theorem dX3_goesIn_6 : decode cX3_goesIn 6 = .ok (.if_icmp .ne 8, 3) := dk_160 0 8 (dk_at dksX3_goesIn_0 6 rfl rfl)
theorem dX3_goesIn_9 : decode cX3_goesIn 9 = .ok (.aload_n 0, 1) := dk_42 (dk_at dksX3_goesIn_0 9 rfl rfl)
theorem dX3_goesIn_10 : decode cX3_goesIn 10 = .ok (.invokevirtual 331, 3) := dk_182 1 75 (dk_at dksX3_goesIn_0 10 rfl rfl)
theorem dX3_goesIn_13 : decode cX3_goesIn 13 = .ok (.ireturn, 1) := dk_172 (dk_at dksX3_goesIn_0 13 rfl rfl)
theorem dX3_goesIn_14 : decode cX3_goesIn 14 = .ok (.aload_n 0, 1) := dk_42 (dk_at dksX3_goesIn_0 14 rfl rfl)
theorem dX3_goesIn_15 : decode cX3_goesIn 15 = .ok (.dup, 1) := dk_89 (dk_at dksX3_goesIn_0 15 rfl rfl)
theorem dX3_goesIn_16 : decode cX3_goesIn 16 = .ok (.getfield 328, 3) := dk_180 1 72 (dk_at dksX3_goesIn_0 16 rfl rfl)
theorem dX3_goesIn_19 : decode cX3_goesIn 19 = .ok (.iconst 1, 1) := dk_4 (dk_at dksX3_goesIn_0 19 rfl rfl)
theorem dX3_goesIn_20 : decode cX3_goesIn 20 = .ok (.iadd, 1) := dk_96 (dk_at dksX3_goesIn_0 20 rfl rfl)
theorem dX3_goesIn_21 : decode cX3_goesIn 21 = .ok (.putfield 328, 3) := dk_181 1 72 (dk_at dksX3_goesIn_0 21 rfl rfl)
theorem dX3_goesIn_24 : decode cX3_goesIn 24 = .ok (.aload_n 0, 1) := dk_42 (dk_at dksX3_goesIn_1 0 rfl rfl)
theorem dX3_goesIn_25 : decode cX3_goesIn 25 = .ok (.dup, 1) := dk_89 (dk_at dksX3_goesIn_1 1 rfl rfl)
theorem dX3_goesIn_26 : decode cX3_goesIn 26 = .ok (.getfield 316, 3) := dk_180 1 60 (dk_at dksX3_goesIn_1 2 rfl rfl)
theorem dX3_goesIn_29 : decode cX3_goesIn 29 = .ok (.iconst 1, 1) := dk_4 (dk_at dksX3_goesIn_1 5 rfl rfl)
theorem dX3_goesIn_30 : decode cX3_goesIn 30 = .ok (.iadd, 1) := dk_96 (dk_at dksX3_goesIn_1 6 rfl rfl)
theorem dX3_goesIn_31 : decode cX3_goesIn 31 = .ok (.putfield 316, 3) := dk_181 1 60 (dk_at dksX3_goesIn_1 7 rfl rfl)
theorem dX3_goesIn_34 : decode cX3_goesIn 34 = .ok (.iconst 1, 1) := dk_4 (dk_at dksX3_goesIn_1 10 rfl rfl)
theorem dX3_goesIn_35 : decode cX3_goesIn 35 = .ok (.ireturn, 1) := dk_172 (dk_at dksX3_goesIn_1 11 rfl rfl)
abbrev cX3_stop : ByteArray := prog_22_method_50_code
def yX3_stop : MethodName := ⟨RX3, "stop", "()Z"⟩
def dkwX3_stop_0 : List UInt8 := [42, 180, 1, 69, 2, 160, 0, 11, 42, 42, 180, 1, 60, 181, 1, 69, 3, 172]
abbrev dktX3_stop_0 : List UInt8 := dkwX3_stop_0 ++ []
theorem dksX3_stop_0 : cX3_stop.data.toList.drop 0 = dktX3_stop_0 := by decide +kernel
theorem dX3_stop_0 : decode cX3_stop 0 = .ok (.aload_n 0, 1) := dk_42 (dk_at dksX3_stop_0 0 rfl rfl)
theorem dX3_stop_1 : decode cX3_stop 1 = .ok (.getfield 325, 3) := dk_180 1 69 (dk_at dksX3_stop_0 1 rfl rfl)
theorem dX3_stop_4 : decode cX3_stop 4 = .ok (.iconst (-1), 1) := dk_2 (dk_at dksX3_stop_0 4 rfl rfl)
theorem dX3_stop_5 : decode cX3_stop 5 = .ok (.if_icmp .ne 11, 3) := dk_160 0 11 (dk_at dksX3_stop_0 5 rfl rfl)
theorem dX3_stop_8 : decode cX3_stop 8 = .ok (.aload_n 0, 1) := dk_42 (dk_at dksX3_stop_0 8 rfl rfl)
theorem dX3_stop_9 : decode cX3_stop 9 = .ok (.aload_n 0, 1) := dk_42 (dk_at dksX3_stop_0 9 rfl rfl)
theorem dX3_stop_10 : decode cX3_stop 10 = .ok (.getfield 316, 3) := dk_180 1 60 (dk_at dksX3_stop_0 10 rfl rfl)
theorem dX3_stop_13 : decode cX3_stop 13 = .ok (.putfield 325, 3) := dk_181 1 69 (dk_at dksX3_stop_0 13 rfl rfl)
theorem dX3_stop_16 : decode cX3_stop 16 = .ok (.iconst 0, 1) := dk_3 (dk_at dksX3_stop_0 16 rfl rfl)
theorem dX3_stop_17 : decode cX3_stop 17 = .ok (.ireturn, 1) := dk_172 (dk_at dksX3_stop_0 17 rfl rfl)
abbrev cX3_takes : ByteArray := prog_22_method_52_code
def yX3_takes : MethodName := ⟨RX3, "takes", "(I)Z"⟩
def dkwX3_takes_1 : List UInt8 := [180, 1, 60, 4, 96, 181, 1, 60, 4, 172]
abbrev dktX3_takes_1 : List UInt8 := dkwX3_takes_1 ++ []
def dkwX3_takes_0 : List UInt8 := [42, 180, 1, 69, 2, 160, 0, 11, 42, 182, 1, 79, 27, 159, 0, 8, 42, 182, 1, 75, 172, 42, 89]
abbrev dktX3_takes_0 : List UInt8 := dkwX3_takes_0 ++ dktX3_takes_1
theorem dksX3_takes_0 : cX3_takes.data.toList.drop 0 = dktX3_takes_0 := by decide +kernel
theorem dksX3_takes_1 : cX3_takes.data.toList.drop 23 = dktX3_takes_1 := dk_seg dksX3_takes_0 23 rfl rfl
theorem dX3_takes_0 : decode cX3_takes 0 = .ok (.aload_n 0, 1) := dk_42 (dk_at dksX3_takes_0 0 rfl rfl)
theorem dX3_takes_1 : decode cX3_takes 1 = .ok (.getfield 325, 3) := dk_180 1 69 (dk_at dksX3_takes_0 1 rfl rfl)
theorem dX3_takes_4 : decode cX3_takes 4 = .ok (.iconst (-1), 1) := dk_2 (dk_at dksX3_takes_0 4 rfl rfl)
theorem dX3_takes_5 : decode cX3_takes 5 = .ok (.if_icmp .ne 11, 3) := dk_160 0 11 (dk_at dksX3_takes_0 5 rfl rfl)
theorem dX3_takes_8 : decode cX3_takes 8 = .ok (.aload_n 0, 1) := dk_42 (dk_at dksX3_takes_0 8 rfl rfl)
theorem dX3_takes_9 : decode cX3_takes 9 = .ok (.invokevirtual 335, 3) := dk_182 1 79 (dk_at dksX3_takes_0 9 rfl rfl)
theorem dX3_takes_12 : decode cX3_takes 12 = .ok (.iload_n 1, 1) := dk_27 (dk_at dksX3_takes_0 12 rfl rfl)
theorem dX3_takes_13 : decode cX3_takes 13 = .ok (.if_icmp .eq 8, 3) := dk_159 0 8 (dk_at dksX3_takes_0 13 rfl rfl)
theorem dX3_takes_16 : decode cX3_takes 16 = .ok (.aload_n 0, 1) := dk_42 (dk_at dksX3_takes_0 16 rfl rfl)
theorem dX3_takes_17 : decode cX3_takes 17 = .ok (.invokevirtual 331, 3) := dk_182 1 75 (dk_at dksX3_takes_0 17 rfl rfl)
theorem dX3_takes_20 : decode cX3_takes 20 = .ok (.ireturn, 1) := dk_172 (dk_at dksX3_takes_0 20 rfl rfl)
theorem dX3_takes_21 : decode cX3_takes 21 = .ok (.aload_n 0, 1) := dk_42 (dk_at dksX3_takes_0 21 rfl rfl)
theorem dX3_takes_22 : decode cX3_takes 22 = .ok (.dup, 1) := dk_89 (dk_at dksX3_takes_0 22 rfl rfl)
theorem dX3_takes_23 : decode cX3_takes 23 = .ok (.getfield 316, 3) := dk_180 1 60 (dk_at dksX3_takes_1 0 rfl rfl)
theorem dX3_takes_26 : decode cX3_takes 26 = .ok (.iconst 1, 1) := dk_4 (dk_at dksX3_takes_1 3 rfl rfl)
theorem dX3_takes_27 : decode cX3_takes 27 = .ok (.iadd, 1) := dk_96 (dk_at dksX3_takes_1 4 rfl rfl)
theorem dX3_takes_28 : decode cX3_takes 28 = .ok (.putfield 316, 3) := dk_181 1 60 (dk_at dksX3_takes_1 5 rfl rfl)
theorem dX3_takes_31 : decode cX3_takes 31 = .ok (.iconst 1, 1) := dk_4 (dk_at dksX3_takes_1 8 rfl rfl)
theorem dX3_takes_32 : decode cX3_takes 32 = .ok (.ireturn, 1) := dk_172 (dk_at dksX3_takes_1 9 rfl rfl)
