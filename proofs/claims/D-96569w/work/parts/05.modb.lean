set_option maxRecDepth 100000
def dkwX8_either3_0 : List UInt8 := [42, 182, 1, 10, 60, 42, 16, 111, 16, 114, 3, 3, 3, 3, 3, 3, 182, 0, 181, 153, 0, 29, 42]
abbrev dktX8_either3_0 : List UInt8 := dkwX8_either3_0 ++ dktX8_either3_1
theorem dksX8_either3_0 : cX8_either3.data.toList.drop 0 = dktX8_either3_0 := by decide +kernel
theorem dksX8_either3_1 : cX8_either3.data.toList.drop 23 = dktX8_either3_1 := dk_seg dksX8_either3_0 23 rfl rfl
theorem dksX8_either3_2 : cX8_either3.data.toList.drop 45 = dktX8_either3_2 := dk_seg dksX8_either3_1 22 rfl rfl
theorem dX8_either3_0 : decode cX8_either3 0 = .ok (.aload_n 0, 1) := dk_42 (dk_at dksX8_either3_0 0 rfl rfl)
theorem dX8_either3_1 : decode cX8_either3 1 = .ok (.invokevirtual 266, 3) := dk_182 1 10 (dk_at dksX8_either3_0 1 rfl rfl)
theorem dX8_either3_4 : decode cX8_either3 4 = .ok (.istore_n 1, 1) := dk_60 (dk_at dksX8_either3_0 4 rfl rfl)
theorem dX8_either3_5 : decode cX8_either3 5 = .ok (.aload_n 0, 1) := dk_42 (dk_at dksX8_either3_0 5 rfl rfl)
theorem dX8_either3_6 : decode cX8_either3 6 = .ok (.bipush 111, 2) := dk_16 111 (dk_at dksX8_either3_0 6 rfl rfl)
theorem dX8_either3_8 : decode cX8_either3 8 = .ok (.bipush 114, 2) := dk_16 114 (dk_at dksX8_either3_0 8 rfl rfl)
theorem dX8_either3_10 : decode cX8_either3 10 = .ok (.iconst 0, 1) := dk_3 (dk_at dksX8_either3_0 10 rfl rfl)
theorem dX8_either3_11 : decode cX8_either3 11 = .ok (.iconst 0, 1) := dk_3 (dk_at dksX8_either3_0 11 rfl rfl)
theorem dX8_either3_12 : decode cX8_either3 12 = .ok (.iconst 0, 1) := dk_3 (dk_at dksX8_either3_0 12 rfl rfl)
theorem dX8_either3_13 : decode cX8_either3 13 = .ok (.iconst 0, 1) := dk_3 (dk_at dksX8_either3_0 13 rfl rfl)
theorem dX8_either3_14 : decode cX8_either3 14 = .ok (.iconst 0, 1) := dk_3 (dk_at dksX8_either3_0 14 rfl rfl)
theorem dX8_either3_15 : decode cX8_either3 15 = .ok (.iconst 0, 1) := dk_3 (dk_at dksX8_either3_0 15 rfl rfl)
theorem dX8_either3_16 : decode cX8_either3 16 = .ok (.invokevirtual 181, 3) := dk_182 0 181 (dk_at dksX8_either3_0 16 rfl rfl)
theorem dX8_either3_19 : decode cX8_either3 19 = .ok (.ifCond .eq 29, 3) := dk_153 0 29 (dk_at dksX8_either3_0 19 rfl rfl)
theorem dX8_either3_22 : decode cX8_either3 22 = .ok (.aload_n 0, 1) := dk_42 (dk_at dksX8_either3_0 22 rfl rfl)
theorem dX8_either3_23 : decode cX8_either3 23 = .ok (.invokevirtual 178, 3) := dk_182 0 178 (dk_at dksX8_either3_1 0 rfl rfl)
theorem dX8_either3_26 : decode cX8_either3 26 = .ok (.aload_n 0, 1) := dk_42 (dk_at dksX8_either3_1 3 rfl rfl)
theorem dX8_either3_27 : decode cX8_either3 27 = .ok (.invokevirtual 266, 3) := dk_182 1 10 (dk_at dksX8_either3_1 4 rfl rfl)
theorem dX8_either3_30 : decode cX8_either3 30 = .ok (.istore_n 2, 1) := dk_61 (dk_at dksX8_either3_1 7 rfl rfl)
theorem dX8_either3_31 : decode cX8_either3 31 = .ok (.iload_n 1, 1) := dk_27 (dk_at dksX8_either3_1 8 rfl rfl)
theorem dX8_either3_32 : decode cX8_either3 32 = .ok (.ifCond .ne 7, 3) := dk_154 0 7 (dk_at dksX8_either3_1 9 rfl rfl)
theorem dX8_either3_35 : decode cX8_either3 35 = .ok (.iload_n 2, 1) := dk_28 (dk_at dksX8_either3_1 12 rfl rfl)
theorem dX8_either3_36 : decode cX8_either3 36 = .ok (.ifCond .eq 7, 3) := dk_153 0 7 (dk_at dksX8_either3_1 13 rfl rfl)
theorem dX8_either3_39 : decode cX8_either3 39 = .ok (.iconst 1, 1) := dk_4 (dk_at dksX8_either3_1 16 rfl rfl)
theorem dX8_either3_40 : decode cX8_either3 40 = .ok (.goto 4, 3) := dk_167 0 4 (dk_at dksX8_either3_1 17 rfl rfl)
theorem dX8_either3_43 : decode cX8_either3 43 = .ok (.iconst 0, 1) := dk_3 (dk_at dksX8_either3_1 20 rfl rfl)
theorem dX8_either3_44 : decode cX8_either3 44 = .ok (.istore_n 1, 1) := dk_60 (dk_at dksX8_either3_1 21 rfl rfl)
theorem dX8_either3_45 : decode cX8_either3 45 = .ok (.goto (-40), 3) := dk_167 255 216 (dk_at dksX8_either3_2 0 rfl rfl)
theorem dX8_either3_48 : decode cX8_either3 48 = .ok (.iload_n 1, 1) := dk_27 (dk_at dksX8_either3_2 3 rfl rfl)
theorem dX8_either3_49 : decode cX8_either3 49 = .ok (.ireturn, 1) := dk_172 (dk_at dksX8_either3_2 4 rfl rfl)
def dkwX8_both3_2 : List UInt8 := [167, 255, 215, 27, 172]
abbrev dktX8_both3_2 : List UInt8 := dkwX8_both3_2 ++ []
def dkwX8_both3_1 : List UInt8 := [182, 0, 178, 42, 182, 1, 7, 61, 27, 153, 0, 11, 28, 153, 0, 7, 4, 167, 0, 4, 3, 60]
abbrev dktX8_both3_1 : List UInt8 := dkwX8_both3_1 ++ dktX8_both3_2
def dkwX8_both3_0 : List UInt8 := [42, 182, 1, 7, 60, 42, 16, 97, 16, 110, 16, 100, 3, 3, 3, 3, 3, 182, 0, 181, 153, 0, 29, 42]
abbrev dktX8_both3_0 : List UInt8 := dkwX8_both3_0 ++ dktX8_both3_1
theorem dksX8_both3_0 : cX8_both3.data.toList.drop 0 = dktX8_both3_0 := by decide +kernel
theorem dksX8_both3_1 : cX8_both3.data.toList.drop 24 = dktX8_both3_1 := dk_seg dksX8_both3_0 24 rfl rfl
theorem dksX8_both3_2 : cX8_both3.data.toList.drop 46 = dktX8_both3_2 := dk_seg dksX8_both3_1 22 rfl rfl
theorem dX8_both3_0 : decode cX8_both3 0 = .ok (.aload_n 0, 1) := dk_42 (dk_at dksX8_both3_0 0 rfl rfl)
theorem dX8_both3_1 : decode cX8_both3 1 = .ok (.invokevirtual 263, 3) := dk_182 1 7 (dk_at dksX8_both3_0 1 rfl rfl)
theorem dX8_both3_4 : decode cX8_both3 4 = .ok (.istore_n 1, 1) := dk_60 (dk_at dksX8_both3_0 4 rfl rfl)
theorem dX8_both3_5 : decode cX8_both3 5 = .ok (.aload_n 0, 1) := dk_42 (dk_at dksX8_both3_0 5 rfl rfl)
theorem dX8_both3_6 : decode cX8_both3 6 = .ok (.bipush 97, 2) := dk_16 97 (dk_at dksX8_both3_0 6 rfl rfl)
theorem dX8_both3_8 : decode cX8_both3 8 = .ok (.bipush 110, 2) := dk_16 110 (dk_at dksX8_both3_0 8 rfl rfl)
theorem dX8_both3_10 : decode cX8_both3 10 = .ok (.bipush 100, 2) := dk_16 100 (dk_at dksX8_both3_0 10 rfl rfl)
theorem dX8_both3_12 : decode cX8_both3 12 = .ok (.iconst 0, 1) := dk_3 (dk_at dksX8_both3_0 12 rfl rfl)
theorem dX8_both3_13 : decode cX8_both3 13 = .ok (.iconst 0, 1) := dk_3 (dk_at dksX8_both3_0 13 rfl rfl)
theorem dX8_both3_14 : decode cX8_both3 14 = .ok (.iconst 0, 1) := dk_3 (dk_at dksX8_both3_0 14 rfl rfl)
theorem dX8_both3_15 : decode cX8_both3 15 = .ok (.iconst 0, 1) := dk_3 (dk_at dksX8_both3_0 15 rfl rfl)
theorem dX8_both3_16 : decode cX8_both3 16 = .ok (.iconst 0, 1) := dk_3 (dk_at dksX8_both3_0 16 rfl rfl)
theorem dX8_both3_17 : decode cX8_both3 17 = .ok (.invokevirtual 181, 3) := dk_182 0 181 (dk_at dksX8_both3_0 17 rfl rfl)
theorem dX8_both3_20 : decode cX8_both3 20 = .ok (.ifCond .eq 29, 3) := dk_153 0 29 (dk_at dksX8_both3_0 20 rfl rfl)
theorem dX8_both3_23 : decode cX8_both3 23 = .ok (.aload_n 0, 1) := dk_42 (dk_at dksX8_both3_0 23 rfl rfl)
theorem dX8_both3_24 : decode cX8_both3 24 = .ok (.invokevirtual 178, 3) := dk_182 0 178 (dk_at dksX8_both3_1 0 rfl rfl)
theorem dX8_both3_27 : decode cX8_both3 27 = .ok (.aload_n 0, 1) := dk_42 (dk_at dksX8_both3_1 3 rfl rfl)
theorem dX8_both3_28 : decode cX8_both3 28 = .ok (.invokevirtual 263, 3) := dk_182 1 7 (dk_at dksX8_both3_1 4 rfl rfl)
theorem dX8_both3_31 : decode cX8_both3 31 = .ok (.istore_n 2, 1) := dk_61 (dk_at dksX8_both3_1 7 rfl rfl)
theorem dX8_both3_32 : decode cX8_both3 32 = .ok (.iload_n 1, 1) := dk_27 (dk_at dksX8_both3_1 8 rfl rfl)
theorem dX8_both3_33 : decode cX8_both3 33 = .ok (.ifCond .eq 11, 3) := dk_153 0 11 (dk_at dksX8_both3_1 9 rfl rfl)
theorem dX8_both3_36 : decode cX8_both3 36 = .ok (.iload_n 2, 1) := dk_28 (dk_at dksX8_both3_1 12 rfl rfl)
theorem dX8_both3_37 : decode cX8_both3 37 = .ok (.ifCond .eq 7, 3) := dk_153 0 7 (dk_at dksX8_both3_1 13 rfl rfl)
theorem dX8_both3_40 : decode cX8_both3 40 = .ok (.iconst 1, 1) := dk_4 (dk_at dksX8_both3_1 16 rfl rfl)
theorem dX8_both3_41 : decode cX8_both3 41 = .ok (.goto 4, 3) := dk_167 0 4 (dk_at dksX8_both3_1 17 rfl rfl)
theorem dX8_both3_44 : decode cX8_both3 44 = .ok (.iconst 0, 1) := dk_3 (dk_at dksX8_both3_1 20 rfl rfl)
theorem dX8_both3_45 : decode cX8_both3 45 = .ok (.istore_n 1, 1) := dk_60 (dk_at dksX8_both3_1 21 rfl rfl)
theorem dX8_both3_46 : decode cX8_both3 46 = .ok (.goto (-41), 3) := dk_167 255 215 (dk_at dksX8_both3_2 0 rfl rfl)
theorem dX8_both3_49 : decode cX8_both3 49 = .ok (.iload_n 1, 1) := dk_27 (dk_at dksX8_both3_2 3 rfl rfl)
theorem dX8_both3_50 : decode cX8_both3 50 = .ok (.ireturn, 1) := dk_172 (dk_at dksX8_both3_2 4 rfl rfl)
def dkwX8_added1_2 : List UInt8 := [62, 28, 153, 0, 9, 27, 29, 96, 167, 0, 6, 27, 29, 100, 60, 167, 255, 198, 27, 172]
abbrev dktX8_added1_2 : List UInt8 := dkwX8_added1_2 ++ []
def dkwX8_added1_1 : List UInt8 := [180, 0, 158, 20, 0, 220, 148, 154, 0, 7, 4, 167, 0, 4, 3, 61, 42, 182, 0, 178, 42, 182, 1, 37]
abbrev dktX8_added1_1 : List UInt8 := dkwX8_added1_1 ++ dktX8_added1_2
def dkwX8_added1_0 : List UInt8 := [42, 182, 1, 37, 60, 42, 16, 43, 182, 0, 203, 154, 0, 12, 42, 16, 45, 182, 0, 203, 153, 0, 46, 42]
abbrev dktX8_added1_0 : List UInt8 := dkwX8_added1_0 ++ dktX8_added1_1
theorem dksX8_added1_0 : cX8_added1.data.toList.drop 0 = dktX8_added1_0 := by decide +kernel
theorem dksX8_added1_1 : cX8_added1.data.toList.drop 24 = dktX8_added1_1 := dk_seg dksX8_added1_0 24 rfl rfl
theorem dksX8_added1_2 : cX8_added1.data.toList.drop 48 = dktX8_added1_2 := dk_seg dksX8_added1_1 24 rfl rfl
theorem dX8_added1_0 : decode cX8_added1 0 = .ok (.aload_n 0, 1) := dk_42 (dk_at dksX8_added1_0 0 rfl rfl)
theorem dX8_added1_1 : decode cX8_added1 1 = .ok (.invokevirtual 293, 3) := dk_182 1 37 (dk_at dksX8_added1_0 1 rfl rfl)
theorem dX8_added1_4 : decode cX8_added1 4 = .ok (.istore_n 1, 1) := dk_60 (dk_at dksX8_added1_0 4 rfl rfl)
theorem dX8_added1_5 : decode cX8_added1 5 = .ok (.aload_n 0, 1) := dk_42 (dk_at dksX8_added1_0 5 rfl rfl)
theorem dX8_added1_6 : decode cX8_added1 6 = .ok (.bipush 43, 2) := dk_16 43 (dk_at dksX8_added1_0 6 rfl rfl)
theorem dX8_added1_8 : decode cX8_added1 8 = .ok (.invokevirtual 203, 3) := dk_182 0 203 (dk_at dksX8_added1_0 8 rfl rfl)
theorem dX8_added1_11 : decode cX8_added1 11 = .ok (.ifCond .ne 12, 3) := dk_154 0 12 (dk_at dksX8_added1_0 11 rfl rfl)
theorem dX8_added1_14 : decode cX8_added1 14 = .ok (.aload_n 0, 1) := dk_42 (dk_at dksX8_added1_0 14 rfl rfl)
theorem dX8_added1_15 : decode cX8_added1 15 = .ok (.bipush 45, 2) := dk_16 45 (dk_at dksX8_added1_0 15 rfl rfl)
theorem dX8_added1_17 : decode cX8_added1 17 = .ok (.invokevirtual 203, 3) := dk_182 0 203 (dk_at dksX8_added1_0 17 rfl rfl)
theorem dX8_added1_20 : decode cX8_added1 20 = .ok (.ifCond .eq 46, 3) := dk_153 0 46 (dk_at dksX8_added1_0 20 rfl rfl)
theorem dX8_added1_23 : decode cX8_added1 23 = .ok (.aload_n 0, 1) := dk_42 (dk_at dksX8_added1_0 23 rfl rfl)
theorem dX8_added1_24 : decode cX8_added1 24 = .ok (.getfield 158, 3) := dk_180 0 158 (dk_at dksX8_added1_1 0 rfl rfl)
theorem dX8_added1_27 : decode cX8_added1 27 = .ok (.ldc2_w 220, 3) := dk_20 0 220 (dk_at dksX8_added1_1 3 rfl rfl)
theorem dX8_added1_30 : decode cX8_added1 30 = .ok (.lcmp, 1) := dk_148 (dk_at dksX8_added1_1 6 rfl rfl)
theorem dX8_added1_31 : decode cX8_added1 31 = .ok (.ifCond .ne 7, 3) := dk_154 0 7 (dk_at dksX8_added1_1 7 rfl rfl)
theorem dX8_added1_34 : decode cX8_added1 34 = .ok (.iconst 1, 1) := dk_4 (dk_at dksX8_added1_1 10 rfl rfl)
theorem dX8_added1_35 : decode cX8_added1 35 = .ok (.goto 4, 3) := dk_167 0 4 (dk_at dksX8_added1_1 11 rfl rfl)
theorem dX8_added1_38 : decode cX8_added1 38 = .ok (.iconst 0, 1) := dk_3 (dk_at dksX8_added1_1 14 rfl rfl)
theorem dX8_added1_39 : decode cX8_added1 39 = .ok (.istore_n 2, 1) := dk_61 (dk_at dksX8_added1_1 15 rfl rfl)
theorem dX8_added1_40 : decode cX8_added1 40 = .ok (.aload_n 0, 1) := dk_42 (dk_at dksX8_added1_1 16 rfl rfl)
theorem dX8_added1_41 : decode cX8_added1 41 = .ok (.invokevirtual 178, 3) := dk_182 0 178 (dk_at dksX8_added1_1 17 rfl rfl)
theorem dX8_added1_44 : decode cX8_added1 44 = .ok (.aload_n 0, 1) := dk_42 (dk_at dksX8_added1_1 20 rfl rfl)
theorem dX8_added1_45 : decode cX8_added1 45 = .ok (.invokevirtual 293, 3) := dk_182 1 37 (dk_at dksX8_added1_1 21 rfl rfl)
theorem dX8_added1_48 : decode cX8_added1 48 = .ok (.istore_n 3, 1) := dk_62 (dk_at dksX8_added1_2 0 rfl rfl)
theorem dX8_added1_49 : decode cX8_added1 49 = .ok (.iload_n 2, 1) := dk_28 (dk_at dksX8_added1_2 1 rfl rfl)
theorem dX8_added1_50 : decode cX8_added1 50 = .ok (.ifCond .eq 9, 3) := dk_153 0 9 (dk_at dksX8_added1_2 2 rfl rfl)
theorem dX8_added1_53 : decode cX8_added1 53 = .ok (.iload_n 1, 1) := dk_27 (dk_at dksX8_added1_2 5 rfl rfl)
theorem dX8_added1_54 : decode cX8_added1 54 = .ok (.iload_n 3, 1) := dk_29 (dk_at dksX8_added1_2 6 rfl rfl)
theorem dX8_added1_55 : decode cX8_added1 55 = .ok (.iadd, 1) := dk_96 (dk_at dksX8_added1_2 7 rfl rfl)
theorem dX8_added1_56 : decode cX8_added1 56 = .ok (.goto 6, 3) := dk_167 0 6 (dk_at dksX8_added1_2 8 rfl rfl)
theorem dX8_added1_59 : decode cX8_added1 59 = .ok (.iload_n 1, 1) := dk_27 (dk_at dksX8_added1_2 11 rfl rfl)
theorem dX8_added1_60 : decode cX8_added1 60 = .ok (.iload_n 3, 1) := dk_29 (dk_at dksX8_added1_2 12 rfl rfl)
theorem dX8_added1_61 : decode cX8_added1 61 = .ok (.isub, 1) := dk_100 (dk_at dksX8_added1_2 13 rfl rfl)
theorem dX8_added1_62 : decode cX8_added1 62 = .ok (.istore_n 1, 1) := dk_60 (dk_at dksX8_added1_2 14 rfl rfl)
theorem dX8_added1_63 : decode cX8_added1 63 = .ok (.goto (-58), 3) := dk_167 255 198 (dk_at dksX8_added1_2 15 rfl rfl)
theorem dX8_added1_66 : decode cX8_added1 66 = .ok (.iload_n 1, 1) := dk_27 (dk_at dksX8_added1_2 18 rfl rfl)
theorem dX8_added1_67 : decode cX8_added1 67 = .ok (.ireturn, 1) := dk_172 (dk_at dksX8_added1_2 19 rfl rfl)
def dkwX8_term1_1 : List UInt8 := [60, 167, 255, 236, 27, 172]
abbrev dktX8_term1_1 : List UInt8 := dkwX8_term1_1 ++ []
def dkwX8_term1_0 : List UInt8 := [42, 182, 1, 34, 60, 42, 16, 42, 182, 0, 203, 153, 0, 17, 42, 182, 0, 178, 27, 42, 182, 1, 34, 104]
abbrev dktX8_term1_0 : List UInt8 := dkwX8_term1_0 ++ dktX8_term1_1
theorem dksX8_term1_0 : cX8_term1.data.toList.drop 0 = dktX8_term1_0 := by decide +kernel
theorem dksX8_term1_1 : cX8_term1.data.toList.drop 24 = dktX8_term1_1 := dk_seg dksX8_term1_0 24 rfl rfl
theorem dX8_term1_0 : decode cX8_term1 0 = .ok (.aload_n 0, 1) := dk_42 (dk_at dksX8_term1_0 0 rfl rfl)
theorem dX8_term1_1 : decode cX8_term1 1 = .ok (.invokevirtual 290, 3) := dk_182 1 34 (dk_at dksX8_term1_0 1 rfl rfl)
theorem dX8_term1_4 : decode cX8_term1 4 = .ok (.istore_n 1, 1) := dk_60 (dk_at dksX8_term1_0 4 rfl rfl)
theorem dX8_term1_5 : decode cX8_term1 5 = .ok (.aload_n 0, 1) := dk_42 (dk_at dksX8_term1_0 5 rfl rfl)
theorem dX8_term1_6 : decode cX8_term1 6 = .ok (.bipush 42, 2) := dk_16 42 (dk_at dksX8_term1_0 6 rfl rfl)
theorem dX8_term1_8 : decode cX8_term1 8 = .ok (.invokevirtual 203, 3) := dk_182 0 203 (dk_at dksX8_term1_0 8 rfl rfl)
theorem dX8_term1_11 : decode cX8_term1 11 = .ok (.ifCond .eq 17, 3) := dk_153 0 17 (dk_at dksX8_term1_0 11 rfl rfl)
theorem dX8_term1_14 : decode cX8_term1 14 = .ok (.aload_n 0, 1) := dk_42 (dk_at dksX8_term1_0 14 rfl rfl)
theorem dX8_term1_15 : decode cX8_term1 15 = .ok (.invokevirtual 178, 3) := dk_182 0 178 (dk_at dksX8_term1_0 15 rfl rfl)
theorem dX8_term1_18 : decode cX8_term1 18 = .ok (.iload_n 1, 1) := dk_27 (dk_at dksX8_term1_0 18 rfl rfl)
theorem dX8_term1_19 : decode cX8_term1 19 = .ok (.aload_n 0, 1) := dk_42 (dk_at dksX8_term1_0 19 rfl rfl)
theorem dX8_term1_20 : decode cX8_term1 20 = .ok (.invokevirtual 290, 3) := dk_182 1 34 (dk_at dksX8_term1_0 20 rfl rfl)
theorem dX8_term1_23 : decode cX8_term1 23 = .ok (.imul, 1) := dk_104 (dk_at dksX8_term1_0 23 rfl rfl)
theorem dX8_term1_24 : decode cX8_term1 24 = .ok (.istore_n 1, 1) := dk_60 (dk_at dksX8_term1_1 0 rfl rfl)
theorem dX8_term1_25 : decode cX8_term1 25 = .ok (.goto (-20), 3) := dk_167 255 236 (dk_at dksX8_term1_1 1 rfl rfl)
theorem dX8_term1_28 : decode cX8_term1 28 = .ok (.iload_n 1, 1) := dk_27 (dk_at dksX8_term1_1 4 rfl rfl)
theorem dX8_term1_29 : decode cX8_term1 29 = .ok (.ireturn, 1) := dk_172 (dk_at dksX8_term1_1 5 rfl rfl)
def dkwX8_atom1_6 : List UInt8 := [182, 0, 210, 60, 42, 180, 0, 162, 154, 0, 14, 42, 182, 0, 178, 167, 0, 7, 42, 182, 0, 175, 27, 172]
abbrev dktX8_atom1_6 : List UInt8 := dkwX8_atom1_6 ++ []
def dkwX8_atom1_5 : List UInt8 := [182, 0, 178, 167, 0, 41, 42, 180, 0, 162, 154, 0, 30, 42, 180, 0, 147, 4, 160, 0, 22, 42]
abbrev dktX8_atom1_5 : List UInt8 := dkwX8_atom1_5 ++ dktX8_atom1_6
def dkwX8_atom1_4 : List UInt8 := [42, 180, 0, 162, 154, 0, 24, 42, 180, 0, 147, 5, 160, 0, 16, 42, 180, 0, 158, 136, 60, 42]
abbrev dktX8_atom1_4 : List UInt8 := dkwX8_atom1_4 ++ dktX8_atom1_5
def dkwX8_atom1_3 : List UInt8 := [42, 89, 180, 0, 172, 4, 100, 181, 0, 172, 42, 180, 0, 162, 154, 0, 76, 42, 182, 0, 178, 167, 0, 69]
abbrev dktX8_atom1_3 : List UInt8 := dkwX8_atom1_3 ++ dktX8_atom1_4
def dkwX8_atom1_2 : List UInt8 := [182, 0, 206, 153, 0, 111, 42, 182, 1, 31, 60, 42, 16, 41, 182, 0, 203, 154, 0, 7, 42, 182, 0, 175]
abbrev dktX8_atom1_2 : List UInt8 := dkwX8_atom1_2 ++ dktX8_atom1_3
def dkwX8_atom1_1 : List UInt8 := [42, 89, 180, 0, 172, 4, 100, 181, 0, 172, 167, 0, 127, 42, 16, 40, 182, 0, 203, 153, 0, 52, 42]
abbrev dktX8_atom1_1 : List UInt8 := dkwX8_atom1_1 ++ dktX8_atom1_2
def dkwX8_atom1_0 : List UInt8 := [3, 60, 42, 16, 45, 182, 0, 203, 153, 0, 29, 42, 182, 0, 206, 153, 0, 146, 42, 182, 1, 16, 116, 60]
abbrev dktX8_atom1_0 : List UInt8 := dkwX8_atom1_0 ++ dktX8_atom1_1
theorem dksX8_atom1_0 : cX8_atom1.data.toList.drop 0 = dktX8_atom1_0 := by decide +kernel
theorem dksX8_atom1_1 : cX8_atom1.data.toList.drop 24 = dktX8_atom1_1 := dk_seg dksX8_atom1_0 24 rfl rfl
theorem dksX8_atom1_2 : cX8_atom1.data.toList.drop 47 = dktX8_atom1_2 := dk_seg dksX8_atom1_1 23 rfl rfl
theorem dksX8_atom1_3 : cX8_atom1.data.toList.drop 71 = dktX8_atom1_3 := dk_seg dksX8_atom1_2 24 rfl rfl
theorem dksX8_atom1_4 : cX8_atom1.data.toList.drop 95 = dktX8_atom1_4 := dk_seg dksX8_atom1_3 24 rfl rfl
theorem dksX8_atom1_5 : cX8_atom1.data.toList.drop 117 = dktX8_atom1_5 := dk_seg dksX8_atom1_4 22 rfl rfl
theorem dksX8_atom1_6 : cX8_atom1.data.toList.drop 139 = dktX8_atom1_6 := dk_seg dksX8_atom1_5 22 rfl rfl
theorem dX8_atom1_0 : decode cX8_atom1 0 = .ok (.iconst 0, 1) := dk_3 (dk_at dksX8_atom1_0 0 rfl rfl)
theorem dX8_atom1_1 : decode cX8_atom1 1 = .ok (.istore_n 1, 1) := dk_60 (dk_at dksX8_atom1_0 1 rfl rfl)
theorem dX8_atom1_2 : decode cX8_atom1 2 = .ok (.aload_n 0, 1) := dk_42 (dk_at dksX8_atom1_0 2 rfl rfl)
theorem dX8_atom1_3 : decode cX8_atom1 3 = .ok (.bipush 45, 2) := dk_16 45 (dk_at dksX8_atom1_0 3 rfl rfl)
theorem dX8_atom1_5 : decode cX8_atom1 5 = .ok (.invokevirtual 203, 3) := dk_182 0 203 (dk_at dksX8_atom1_0 5 rfl rfl)
theorem dX8_atom1_8 : decode cX8_atom1 8 = .ok (.ifCond .eq 29, 3) := dk_153 0 29 (dk_at dksX8_atom1_0 8 rfl rfl)
theorem dX8_atom1_11 : decode cX8_atom1 11 = .ok (.aload_n 0, 1) := dk_42 (dk_at dksX8_atom1_0 11 rfl rfl)
theorem dX8_atom1_12 : decode cX8_atom1 12 = .ok (.invokevirtual 206, 3) := dk_182 0 206 (dk_at dksX8_atom1_0 12 rfl rfl)
theorem dX8_atom1_15 : decode cX8_atom1 15 = .ok (.ifCond .eq 146, 3) := dk_153 0 146 (dk_at dksX8_atom1_0 15 rfl rfl)
theorem dX8_atom1_18 : decode cX8_atom1 18 = .ok (.aload_n 0, 1) := dk_42 (dk_at dksX8_atom1_0 18 rfl rfl)
theorem dX8_atom1_19 : decode cX8_atom1 19 = .ok (.invokevirtual 272, 3) := dk_182 1 16 (dk_at dksX8_atom1_0 19 rfl rfl)
theorem dX8_atom1_22 : decode cX8_atom1 22 = .ok (.ineg, 1) := dk_116 (dk_at dksX8_atom1_0 22 rfl rfl)
theorem dX8_atom1_23 : decode cX8_atom1 23 = .ok (.istore_n 1, 1) := dk_60 (dk_at dksX8_atom1_0 23 rfl rfl)
theorem dX8_atom1_24 : decode cX8_atom1 24 = .ok (.aload_n 0, 1) := dk_42 (dk_at dksX8_atom1_1 0 rfl rfl)
theorem dX8_atom1_25 : decode cX8_atom1 25 = .ok (.dup, 1) := dk_89 (dk_at dksX8_atom1_1 1 rfl rfl)
theorem dX8_atom1_26 : decode cX8_atom1 26 = .ok (.getfield 172, 3) := dk_180 0 172 (dk_at dksX8_atom1_1 2 rfl rfl)
theorem dX8_atom1_29 : decode cX8_atom1 29 = .ok (.iconst 1, 1) := dk_4 (dk_at dksX8_atom1_1 5 rfl rfl)
theorem dX8_atom1_30 : decode cX8_atom1 30 = .ok (.isub, 1) := dk_100 (dk_at dksX8_atom1_1 6 rfl rfl)
theorem dX8_atom1_31 : decode cX8_atom1 31 = .ok (.putfield 172, 3) := dk_181 0 172 (dk_at dksX8_atom1_1 7 rfl rfl)
theorem dX8_atom1_34 : decode cX8_atom1 34 = .ok (.goto 127, 3) := dk_167 0 127 (dk_at dksX8_atom1_1 10 rfl rfl)
theorem dX8_atom1_37 : decode cX8_atom1 37 = .ok (.aload_n 0, 1) := dk_42 (dk_at dksX8_atom1_1 13 rfl rfl)
theorem dX8_atom1_38 : decode cX8_atom1 38 = .ok (.bipush 40, 2) := dk_16 40 (dk_at dksX8_atom1_1 14 rfl rfl)
theorem dX8_atom1_40 : decode cX8_atom1 40 = .ok (.invokevirtual 203, 3) := dk_182 0 203 (dk_at dksX8_atom1_1 16 rfl rfl)
theorem dX8_atom1_43 : decode cX8_atom1 43 = .ok (.ifCond .eq 52, 3) := dk_153 0 52 (dk_at dksX8_atom1_1 19 rfl rfl)
theorem dX8_atom1_46 : decode cX8_atom1 46 = .ok (.aload_n 0, 1) := dk_42 (dk_at dksX8_atom1_1 22 rfl rfl)
theorem dX8_atom1_47 : decode cX8_atom1 47 = .ok (.invokevirtual 206, 3) := dk_182 0 206 (dk_at dksX8_atom1_2 0 rfl rfl)
theorem dX8_atom1_50 : decode cX8_atom1 50 = .ok (.ifCond .eq 111, 3) := dk_153 0 111 (dk_at dksX8_atom1_2 3 rfl rfl)
theorem dX8_atom1_53 : decode cX8_atom1 53 = .ok (.aload_n 0, 1) := dk_42 (dk_at dksX8_atom1_2 6 rfl rfl)
theorem dX8_atom1_54 : decode cX8_atom1 54 = .ok (.invokevirtual 287, 3) := dk_182 1 31 (dk_at dksX8_atom1_2 7 rfl rfl)
theorem dX8_atom1_57 : decode cX8_atom1 57 = .ok (.istore_n 1, 1) := dk_60 (dk_at dksX8_atom1_2 10 rfl rfl)
theorem dX8_atom1_58 : decode cX8_atom1 58 = .ok (.aload_n 0, 1) := dk_42 (dk_at dksX8_atom1_2 11 rfl rfl)
theorem dX8_atom1_59 : decode cX8_atom1 59 = .ok (.bipush 41, 2) := dk_16 41 (dk_at dksX8_atom1_2 12 rfl rfl)
theorem dX8_atom1_61 : decode cX8_atom1 61 = .ok (.invokevirtual 203, 3) := dk_182 0 203 (dk_at dksX8_atom1_2 14 rfl rfl)
theorem dX8_atom1_64 : decode cX8_atom1 64 = .ok (.ifCond .ne 7, 3) := dk_154 0 7 (dk_at dksX8_atom1_2 17 rfl rfl)
theorem dX8_atom1_67 : decode cX8_atom1 67 = .ok (.aload_n 0, 1) := dk_42 (dk_at dksX8_atom1_2 20 rfl rfl)
theorem dX8_atom1_68 : decode cX8_atom1 68 = .ok (.invokevirtual 175, 3) := dk_182 0 175 (dk_at dksX8_atom1_2 21 rfl rfl)
theorem dX8_atom1_71 : decode cX8_atom1 71 = .ok (.aload_n 0, 1) := dk_42 (dk_at dksX8_atom1_3 0 rfl rfl)
theorem dX8_atom1_72 : decode cX8_atom1 72 = .ok (.dup, 1) := dk_89 (dk_at dksX8_atom1_3 1 rfl rfl)
theorem dX8_atom1_73 : decode cX8_atom1 73 = .ok (.getfield 172, 3) := dk_180 0 172 (dk_at dksX8_atom1_3 2 rfl rfl)
theorem dX8_atom1_76 : decode cX8_atom1 76 = .ok (.iconst 1, 1) := dk_4 (dk_at dksX8_atom1_3 5 rfl rfl)
theorem dX8_atom1_77 : decode cX8_atom1 77 = .ok (.isub, 1) := dk_100 (dk_at dksX8_atom1_3 6 rfl rfl)
theorem dX8_atom1_78 : decode cX8_atom1 78 = .ok (.putfield 172, 3) := dk_181 0 172 (dk_at dksX8_atom1_3 7 rfl rfl)
theorem dX8_atom1_81 : decode cX8_atom1 81 = .ok (.aload_n 0, 1) := dk_42 (dk_at dksX8_atom1_3 10 rfl rfl)
theorem dX8_atom1_82 : decode cX8_atom1 82 = .ok (.getfield 162, 3) := dk_180 0 162 (dk_at dksX8_atom1_3 11 rfl rfl)
theorem dX8_atom1_85 : decode cX8_atom1 85 = .ok (.ifCond .ne 76, 3) := dk_154 0 76 (dk_at dksX8_atom1_3 14 rfl rfl)
theorem dX8_atom1_88 : decode cX8_atom1 88 = .ok (.aload_n 0, 1) := dk_42 (dk_at dksX8_atom1_3 17 rfl rfl)
theorem dX8_atom1_89 : decode cX8_atom1 89 = .ok (.invokevirtual 178, 3) := dk_182 0 178 (dk_at dksX8_atom1_3 18 rfl rfl)
theorem dX8_atom1_92 : decode cX8_atom1 92 = .ok (.goto 69, 3) := dk_167 0 69 (dk_at dksX8_atom1_3 21 rfl rfl)
theorem dX8_atom1_95 : decode cX8_atom1 95 = .ok (.aload_n 0, 1) := dk_42 (dk_at dksX8_atom1_4 0 rfl rfl)
theorem dX8_atom1_96 : decode cX8_atom1 96 = .ok (.getfield 162, 3) := dk_180 0 162 (dk_at dksX8_atom1_4 1 rfl rfl)
theorem dX8_atom1_99 : decode cX8_atom1 99 = .ok (.ifCond .ne 24, 3) := dk_154 0 24 (dk_at dksX8_atom1_4 4 rfl rfl)
theorem dX8_atom1_102 : decode cX8_atom1 102 = .ok (.aload_n 0, 1) := dk_42 (dk_at dksX8_atom1_4 7 rfl rfl)
theorem dX8_atom1_103 : decode cX8_atom1 103 = .ok (.getfield 147, 3) := dk_180 0 147 (dk_at dksX8_atom1_4 8 rfl rfl)
theorem dX8_atom1_106 : decode cX8_atom1 106 = .ok (.iconst 2, 1) := dk_5 (dk_at dksX8_atom1_4 11 rfl rfl)
theorem dX8_atom1_107 : decode cX8_atom1 107 = .ok (.if_icmp .ne 16, 3) := dk_160 0 16 (dk_at dksX8_atom1_4 12 rfl rfl)
theorem dX8_atom1_110 : decode cX8_atom1 110 = .ok (.aload_n 0, 1) := dk_42 (dk_at dksX8_atom1_4 15 rfl rfl)
theorem dX8_atom1_111 : decode cX8_atom1 111 = .ok (.getfield 158, 3) := dk_180 0 158 (dk_at dksX8_atom1_4 16 rfl rfl)
theorem dX8_atom1_114 : decode cX8_atom1 114 = .ok (.l2i, 1) := dk_136 (dk_at dksX8_atom1_4 19 rfl rfl)
theorem dX8_atom1_115 : decode cX8_atom1 115 = .ok (.istore_n 1, 1) := dk_60 (dk_at dksX8_atom1_4 20 rfl rfl)
theorem dX8_atom1_116 : decode cX8_atom1 116 = .ok (.aload_n 0, 1) := dk_42 (dk_at dksX8_atom1_4 21 rfl rfl)
theorem dX8_atom1_117 : decode cX8_atom1 117 = .ok (.invokevirtual 178, 3) := dk_182 0 178 (dk_at dksX8_atom1_5 0 rfl rfl)
theorem dX8_atom1_120 : decode cX8_atom1 120 = .ok (.goto 41, 3) := dk_167 0 41 (dk_at dksX8_atom1_5 3 rfl rfl)
theorem dX8_atom1_123 : decode cX8_atom1 123 = .ok (.aload_n 0, 1) := dk_42 (dk_at dksX8_atom1_5 6 rfl rfl)
theorem dX8_atom1_124 : decode cX8_atom1 124 = .ok (.getfield 162, 3) := dk_180 0 162 (dk_at dksX8_atom1_5 7 rfl rfl)
theorem dX8_atom1_127 : decode cX8_atom1 127 = .ok (.ifCond .ne 30, 3) := dk_154 0 30 (dk_at dksX8_atom1_5 10 rfl rfl)
theorem dX8_atom1_130 : decode cX8_atom1 130 = .ok (.aload_n 0, 1) := dk_42 (dk_at dksX8_atom1_5 13 rfl rfl)
theorem dX8_atom1_131 : decode cX8_atom1 131 = .ok (.getfield 147, 3) := dk_180 0 147 (dk_at dksX8_atom1_5 14 rfl rfl)
theorem dX8_atom1_134 : decode cX8_atom1 134 = .ok (.iconst 1, 1) := dk_4 (dk_at dksX8_atom1_5 17 rfl rfl)
theorem dX8_atom1_135 : decode cX8_atom1 135 = .ok (.if_icmp .ne 22, 3) := dk_160 0 22 (dk_at dksX8_atom1_5 18 rfl rfl)
theorem dX8_atom1_138 : decode cX8_atom1 138 = .ok (.aload_n 0, 1) := dk_42 (dk_at dksX8_atom1_5 21 rfl rfl)
theorem dX8_atom1_139 : decode cX8_atom1 139 = .ok (.invokevirtual 210, 3) := dk_182 0 210 (dk_at dksX8_atom1_6 0 rfl rfl)
theorem dX8_atom1_142 : decode cX8_atom1 142 = .ok (.istore_n 1, 1) := dk_60 (dk_at dksX8_atom1_6 3 rfl rfl)
theorem dX8_atom1_143 : decode cX8_atom1 143 = .ok (.aload_n 0, 1) := dk_42 (dk_at dksX8_atom1_6 4 rfl rfl)
theorem dX8_atom1_144 : decode cX8_atom1 144 = .ok (.getfield 162, 3) := dk_180 0 162 (dk_at dksX8_atom1_6 5 rfl rfl)
theorem dX8_atom1_147 : decode cX8_atom1 147 = .ok (.ifCond .ne 14, 3) := dk_154 0 14 (dk_at dksX8_atom1_6 8 rfl rfl)
theorem dX8_atom1_150 : decode cX8_atom1 150 = .ok (.aload_n 0, 1) := dk_42 (dk_at dksX8_atom1_6 11 rfl rfl)
theorem dX8_atom1_151 : decode cX8_atom1 151 = .ok (.invokevirtual 178, 3) := dk_182 0 178 (dk_at dksX8_atom1_6 12 rfl rfl)
theorem dX8_atom1_154 : decode cX8_atom1 154 = .ok (.goto 7, 3) := dk_167 0 7 (dk_at dksX8_atom1_6 15 rfl rfl)
theorem dX8_atom1_157 : decode cX8_atom1 157 = .ok (.aload_n 0, 1) := dk_42 (dk_at dksX8_atom1_6 18 rfl rfl)
theorem dX8_atom1_158 : decode cX8_atom1 158 = .ok (.invokevirtual 175, 3) := dk_182 0 175 (dk_at dksX8_atom1_6 19 rfl rfl)
theorem dX8_atom1_161 : decode cX8_atom1 161 = .ok (.iload_n 1, 1) := dk_27 (dk_at dksX8_atom1_6 22 rfl rfl)
theorem dX8_atom1_162 : decode cX8_atom1 162 = .ok (.ireturn, 1) := dk_172 (dk_at dksX8_atom1_6 23 rfl rfl)
def dkwX8_either2_2 : List UInt8 := [167, 255, 216, 27, 172]
abbrev dktX8_either2_2 : List UInt8 := dkwX8_either2_2 ++ []
def dkwX8_either2_1 : List UInt8 := [182, 0, 178, 42, 182, 1, 28, 61, 27, 154, 0, 7, 28, 153, 0, 7, 4, 167, 0, 4, 3, 60]
abbrev dktX8_either2_1 : List UInt8 := dkwX8_either2_1 ++ dktX8_either2_2
def dkwX8_either2_0 : List UInt8 := [42, 182, 1, 28, 60, 42, 16, 111, 16, 114, 3, 3, 3, 3, 3, 3, 182, 0, 181, 153, 0, 29, 42]
abbrev dktX8_either2_0 : List UInt8 := dkwX8_either2_0 ++ dktX8_either2_1
theorem dksX8_either2_0 : cX8_either2.data.toList.drop 0 = dktX8_either2_0 := by decide +kernel
theorem dksX8_either2_1 : cX8_either2.data.toList.drop 23 = dktX8_either2_1 := dk_seg dksX8_either2_0 23 rfl rfl
theorem dksX8_either2_2 : cX8_either2.data.toList.drop 45 = dktX8_either2_2 := dk_seg dksX8_either2_1 22 rfl rfl
theorem dX8_either2_0 : decode cX8_either2 0 = .ok (.aload_n 0, 1) := dk_42 (dk_at dksX8_either2_0 0 rfl rfl)
theorem dX8_either2_1 : decode cX8_either2 1 = .ok (.invokevirtual 284, 3) := dk_182 1 28 (dk_at dksX8_either2_0 1 rfl rfl)
theorem dX8_either2_4 : decode cX8_either2 4 = .ok (.istore_n 1, 1) := dk_60 (dk_at dksX8_either2_0 4 rfl rfl)
theorem dX8_either2_5 : decode cX8_either2 5 = .ok (.aload_n 0, 1) := dk_42 (dk_at dksX8_either2_0 5 rfl rfl)
theorem dX8_either2_6 : decode cX8_either2 6 = .ok (.bipush 111, 2) := dk_16 111 (dk_at dksX8_either2_0 6 rfl rfl)
theorem dX8_either2_8 : decode cX8_either2 8 = .ok (.bipush 114, 2) := dk_16 114 (dk_at dksX8_either2_0 8 rfl rfl)
theorem dX8_either2_10 : decode cX8_either2 10 = .ok (.iconst 0, 1) := dk_3 (dk_at dksX8_either2_0 10 rfl rfl)
theorem dX8_either2_11 : decode cX8_either2 11 = .ok (.iconst 0, 1) := dk_3 (dk_at dksX8_either2_0 11 rfl rfl)
theorem dX8_either2_12 : decode cX8_either2 12 = .ok (.iconst 0, 1) := dk_3 (dk_at dksX8_either2_0 12 rfl rfl)
theorem dX8_either2_13 : decode cX8_either2 13 = .ok (.iconst 0, 1) := dk_3 (dk_at dksX8_either2_0 13 rfl rfl)
theorem dX8_either2_14 : decode cX8_either2 14 = .ok (.iconst 0, 1) := dk_3 (dk_at dksX8_either2_0 14 rfl rfl)
theorem dX8_either2_15 : decode cX8_either2 15 = .ok (.iconst 0, 1) := dk_3 (dk_at dksX8_either2_0 15 rfl rfl)
theorem dX8_either2_16 : decode cX8_either2 16 = .ok (.invokevirtual 181, 3) := dk_182 0 181 (dk_at dksX8_either2_0 16 rfl rfl)
theorem dX8_either2_19 : decode cX8_either2 19 = .ok (.ifCond .eq 29, 3) := dk_153 0 29 (dk_at dksX8_either2_0 19 rfl rfl)
theorem dX8_either2_22 : decode cX8_either2 22 = .ok (.aload_n 0, 1) := dk_42 (dk_at dksX8_either2_0 22 rfl rfl)
theorem dX8_either2_23 : decode cX8_either2 23 = .ok (.invokevirtual 178, 3) := dk_182 0 178 (dk_at dksX8_either2_1 0 rfl rfl)
theorem dX8_either2_26 : decode cX8_either2 26 = .ok (.aload_n 0, 1) := dk_42 (dk_at dksX8_either2_1 3 rfl rfl)
theorem dX8_either2_27 : decode cX8_either2 27 = .ok (.invokevirtual 284, 3) := dk_182 1 28 (dk_at dksX8_either2_1 4 rfl rfl)
theorem dX8_either2_30 : decode cX8_either2 30 = .ok (.istore_n 2, 1) := dk_61 (dk_at dksX8_either2_1 7 rfl rfl)
theorem dX8_either2_31 : decode cX8_either2 31 = .ok (.iload_n 1, 1) := dk_27 (dk_at dksX8_either2_1 8 rfl rfl)
theorem dX8_either2_32 : decode cX8_either2 32 = .ok (.ifCond .ne 7, 3) := dk_154 0 7 (dk_at dksX8_either2_1 9 rfl rfl)
theorem dX8_either2_35 : decode cX8_either2 35 = .ok (.iload_n 2, 1) := dk_28 (dk_at dksX8_either2_1 12 rfl rfl)
theorem dX8_either2_36 : decode cX8_either2 36 = .ok (.ifCond .eq 7, 3) := dk_153 0 7 (dk_at dksX8_either2_1 13 rfl rfl)
theorem dX8_either2_39 : decode cX8_either2 39 = .ok (.iconst 1, 1) := dk_4 (dk_at dksX8_either2_1 16 rfl rfl)
theorem dX8_either2_40 : decode cX8_either2 40 = .ok (.goto 4, 3) := dk_167 0 4 (dk_at dksX8_either2_1 17 rfl rfl)
theorem dX8_either2_43 : decode cX8_either2 43 = .ok (.iconst 0, 1) := dk_3 (dk_at dksX8_either2_1 20 rfl rfl)
theorem dX8_either2_44 : decode cX8_either2 44 = .ok (.istore_n 1, 1) := dk_60 (dk_at dksX8_either2_1 21 rfl rfl)
theorem dX8_either2_45 : decode cX8_either2 45 = .ok (.goto (-40), 3) := dk_167 255 216 (dk_at dksX8_either2_2 0 rfl rfl)
theorem dX8_either2_48 : decode cX8_either2 48 = .ok (.iload_n 1, 1) := dk_27 (dk_at dksX8_either2_2 3 rfl rfl)
theorem dX8_either2_49 : decode cX8_either2 49 = .ok (.ireturn, 1) := dk_172 (dk_at dksX8_either2_2 4 rfl rfl)
def dkwX8_both2_2 : List UInt8 := [167, 255, 215, 27, 172]
abbrev dktX8_both2_2 : List UInt8 := dkwX8_both2_2 ++ []
def dkwX8_both2_1 : List UInt8 := [182, 0, 178, 42, 182, 1, 25, 61, 27, 153, 0, 11, 28, 153, 0, 7, 4, 167, 0, 4, 3, 60]
abbrev dktX8_both2_1 : List UInt8 := dkwX8_both2_1 ++ dktX8_both2_2
def dkwX8_both2_0 : List UInt8 := [42, 182, 1, 25, 60, 42, 16, 97, 16, 110, 16, 100, 3, 3, 3, 3, 3, 182, 0, 181, 153, 0, 29, 42]
abbrev dktX8_both2_0 : List UInt8 := dkwX8_both2_0 ++ dktX8_both2_1
theorem dksX8_both2_0 : cX8_both2.data.toList.drop 0 = dktX8_both2_0 := by decide +kernel
theorem dksX8_both2_1 : cX8_both2.data.toList.drop 24 = dktX8_both2_1 := dk_seg dksX8_both2_0 24 rfl rfl
theorem dksX8_both2_2 : cX8_both2.data.toList.drop 46 = dktX8_both2_2 := dk_seg dksX8_both2_1 22 rfl rfl
theorem dX8_both2_0 : decode cX8_both2 0 = .ok (.aload_n 0, 1) := dk_42 (dk_at dksX8_both2_0 0 rfl rfl)
theorem dX8_both2_1 : decode cX8_both2 1 = .ok (.invokevirtual 281, 3) := dk_182 1 25 (dk_at dksX8_both2_0 1 rfl rfl)
theorem dX8_both2_4 : decode cX8_both2 4 = .ok (.istore_n 1, 1) := dk_60 (dk_at dksX8_both2_0 4 rfl rfl)
theorem dX8_both2_5 : decode cX8_both2 5 = .ok (.aload_n 0, 1) := dk_42 (dk_at dksX8_both2_0 5 rfl rfl)
theorem dX8_both2_6 : decode cX8_both2 6 = .ok (.bipush 97, 2) := dk_16 97 (dk_at dksX8_both2_0 6 rfl rfl)
theorem dX8_both2_8 : decode cX8_both2 8 = .ok (.bipush 110, 2) := dk_16 110 (dk_at dksX8_both2_0 8 rfl rfl)
theorem dX8_both2_10 : decode cX8_both2 10 = .ok (.bipush 100, 2) := dk_16 100 (dk_at dksX8_both2_0 10 rfl rfl)
theorem dX8_both2_12 : decode cX8_both2 12 = .ok (.iconst 0, 1) := dk_3 (dk_at dksX8_both2_0 12 rfl rfl)
theorem dX8_both2_13 : decode cX8_both2 13 = .ok (.iconst 0, 1) := dk_3 (dk_at dksX8_both2_0 13 rfl rfl)
theorem dX8_both2_14 : decode cX8_both2 14 = .ok (.iconst 0, 1) := dk_3 (dk_at dksX8_both2_0 14 rfl rfl)
theorem dX8_both2_15 : decode cX8_both2 15 = .ok (.iconst 0, 1) := dk_3 (dk_at dksX8_both2_0 15 rfl rfl)
theorem dX8_both2_16 : decode cX8_both2 16 = .ok (.iconst 0, 1) := dk_3 (dk_at dksX8_both2_0 16 rfl rfl)
theorem dX8_both2_17 : decode cX8_both2 17 = .ok (.invokevirtual 181, 3) := dk_182 0 181 (dk_at dksX8_both2_0 17 rfl rfl)
theorem dX8_both2_20 : decode cX8_both2 20 = .ok (.ifCond .eq 29, 3) := dk_153 0 29 (dk_at dksX8_both2_0 20 rfl rfl)
theorem dX8_both2_23 : decode cX8_both2 23 = .ok (.aload_n 0, 1) := dk_42 (dk_at dksX8_both2_0 23 rfl rfl)
theorem dX8_both2_24 : decode cX8_both2 24 = .ok (.invokevirtual 178, 3) := dk_182 0 178 (dk_at dksX8_both2_1 0 rfl rfl)
theorem dX8_both2_27 : decode cX8_both2 27 = .ok (.aload_n 0, 1) := dk_42 (dk_at dksX8_both2_1 3 rfl rfl)
theorem dX8_both2_28 : decode cX8_both2 28 = .ok (.invokevirtual 281, 3) := dk_182 1 25 (dk_at dksX8_both2_1 4 rfl rfl)
theorem dX8_both2_31 : decode cX8_both2 31 = .ok (.istore_n 2, 1) := dk_61 (dk_at dksX8_both2_1 7 rfl rfl)
theorem dX8_both2_32 : decode cX8_both2 32 = .ok (.iload_n 1, 1) := dk_27 (dk_at dksX8_both2_1 8 rfl rfl)
theorem dX8_both2_33 : decode cX8_both2 33 = .ok (.ifCond .eq 11, 3) := dk_153 0 11 (dk_at dksX8_both2_1 9 rfl rfl)
theorem dX8_both2_36 : decode cX8_both2 36 = .ok (.iload_n 2, 1) := dk_28 (dk_at dksX8_both2_1 12 rfl rfl)
theorem dX8_both2_37 : decode cX8_both2 37 = .ok (.ifCond .eq 7, 3) := dk_153 0 7 (dk_at dksX8_both2_1 13 rfl rfl)
theorem dX8_both2_40 : decode cX8_both2 40 = .ok (.iconst 1, 1) := dk_4 (dk_at dksX8_both2_1 16 rfl rfl)
theorem dX8_both2_41 : decode cX8_both2 41 = .ok (.goto 4, 3) := dk_167 0 4 (dk_at dksX8_both2_1 17 rfl rfl)
theorem dX8_both2_44 : decode cX8_both2 44 = .ok (.iconst 0, 1) := dk_3 (dk_at dksX8_both2_1 20 rfl rfl)
theorem dX8_both2_45 : decode cX8_both2 45 = .ok (.istore_n 1, 1) := dk_60 (dk_at dksX8_both2_1 21 rfl rfl)
theorem dX8_both2_46 : decode cX8_both2 46 = .ok (.goto (-41), 3) := dk_167 255 215 (dk_at dksX8_both2_2 0 rfl rfl)
theorem dX8_both2_49 : decode cX8_both2 49 = .ok (.iload_n 1, 1) := dk_27 (dk_at dksX8_both2_2 3 rfl rfl)
theorem dX8_both2_50 : decode cX8_both2 50 = .ok (.ireturn, 1) := dk_172 (dk_at dksX8_both2_2 4 rfl rfl)
def dkwX8_added0_2 : List UInt8 := [62, 28, 153, 0, 9, 27, 29, 96, 167, 0, 6, 27, 29, 100, 60, 167, 255, 198, 27, 172]
abbrev dktX8_added0_2 : List UInt8 := dkwX8_added0_2 ++ []
def dkwX8_added0_1 : List UInt8 := [180, 0, 158, 20, 0, 220, 148, 154, 0, 7, 4, 167, 0, 4, 3, 61, 42, 182, 0, 178, 42, 182, 1, 55]
abbrev dktX8_added0_1 : List UInt8 := dkwX8_added0_1 ++ dktX8_added0_2
def dkwX8_added0_0 : List UInt8 := [42, 182, 1, 55, 60, 42, 16, 43, 182, 0, 203, 154, 0, 12, 42, 16, 45, 182, 0, 203, 153, 0, 46, 42]
abbrev dktX8_added0_0 : List UInt8 := dkwX8_added0_0 ++ dktX8_added0_1
theorem dksX8_added0_0 : cX8_added0.data.toList.drop 0 = dktX8_added0_0 := by decide +kernel
theorem dksX8_added0_1 : cX8_added0.data.toList.drop 24 = dktX8_added0_1 := dk_seg dksX8_added0_0 24 rfl rfl
theorem dksX8_added0_2 : cX8_added0.data.toList.drop 48 = dktX8_added0_2 := dk_seg dksX8_added0_1 24 rfl rfl
theorem dX8_added0_0 : decode cX8_added0 0 = .ok (.aload_n 0, 1) := dk_42 (dk_at dksX8_added0_0 0 rfl rfl)
theorem dX8_added0_1 : decode cX8_added0 1 = .ok (.invokevirtual 311, 3) := dk_182 1 55 (dk_at dksX8_added0_0 1 rfl rfl)
theorem dX8_added0_4 : decode cX8_added0 4 = .ok (.istore_n 1, 1) := dk_60 (dk_at dksX8_added0_0 4 rfl rfl)
theorem dX8_added0_5 : decode cX8_added0 5 = .ok (.aload_n 0, 1) := dk_42 (dk_at dksX8_added0_0 5 rfl rfl)
theorem dX8_added0_6 : decode cX8_added0 6 = .ok (.bipush 43, 2) := dk_16 43 (dk_at dksX8_added0_0 6 rfl rfl)
theorem dX8_added0_8 : decode cX8_added0 8 = .ok (.invokevirtual 203, 3) := dk_182 0 203 (dk_at dksX8_added0_0 8 rfl rfl)
theorem dX8_added0_11 : decode cX8_added0 11 = .ok (.ifCond .ne 12, 3) := dk_154 0 12 (dk_at dksX8_added0_0 11 rfl rfl)
theorem dX8_added0_14 : decode cX8_added0 14 = .ok (.aload_n 0, 1) := dk_42 (dk_at dksX8_added0_0 14 rfl rfl)
theorem dX8_added0_15 : decode cX8_added0 15 = .ok (.bipush 45, 2) := dk_16 45 (dk_at dksX8_added0_0 15 rfl rfl)
theorem dX8_added0_17 : decode cX8_added0 17 = .ok (.invokevirtual 203, 3) := dk_182 0 203 (dk_at dksX8_added0_0 17 rfl rfl)
theorem dX8_added0_20 : decode cX8_added0 20 = .ok (.ifCond .eq 46, 3) := dk_153 0 46 (dk_at dksX8_added0_0 20 rfl rfl)
theorem dX8_added0_23 : decode cX8_added0 23 = .ok (.aload_n 0, 1) := dk_42 (dk_at dksX8_added0_0 23 rfl rfl)
theorem dX8_added0_24 : decode cX8_added0 24 = .ok (.getfield 158, 3) := dk_180 0 158 (dk_at dksX8_added0_1 0 rfl rfl)
theorem dX8_added0_27 : decode cX8_added0 27 = .ok (.ldc2_w 220, 3) := dk_20 0 220 (dk_at dksX8_added0_1 3 rfl rfl)
theorem dX8_added0_30 : decode cX8_added0 30 = .ok (.lcmp, 1) := dk_148 (dk_at dksX8_added0_1 6 rfl rfl)
theorem dX8_added0_31 : decode cX8_added0 31 = .ok (.ifCond .ne 7, 3) := dk_154 0 7 (dk_at dksX8_added0_1 7 rfl rfl)
theorem dX8_added0_34 : decode cX8_added0 34 = .ok (.iconst 1, 1) := dk_4 (dk_at dksX8_added0_1 10 rfl rfl)
theorem dX8_added0_35 : decode cX8_added0 35 = .ok (.goto 4, 3) := dk_167 0 4 (dk_at dksX8_added0_1 11 rfl rfl)
theorem dX8_added0_38 : decode cX8_added0 38 = .ok (.iconst 0, 1) := dk_3 (dk_at dksX8_added0_1 14 rfl rfl)
theorem dX8_added0_39 : decode cX8_added0 39 = .ok (.istore_n 2, 1) := dk_61 (dk_at dksX8_added0_1 15 rfl rfl)
theorem dX8_added0_40 : decode cX8_added0 40 = .ok (.aload_n 0, 1) := dk_42 (dk_at dksX8_added0_1 16 rfl rfl)
theorem dX8_added0_41 : decode cX8_added0 41 = .ok (.invokevirtual 178, 3) := dk_182 0 178 (dk_at dksX8_added0_1 17 rfl rfl)
theorem dX8_added0_44 : decode cX8_added0 44 = .ok (.aload_n 0, 1) := dk_42 (dk_at dksX8_added0_1 20 rfl rfl)
theorem dX8_added0_45 : decode cX8_added0 45 = .ok (.invokevirtual 311, 3) := dk_182 1 55 (dk_at dksX8_added0_1 21 rfl rfl)
theorem dX8_added0_48 : decode cX8_added0 48 = .ok (.istore_n 3, 1) := dk_62 (dk_at dksX8_added0_2 0 rfl rfl)
theorem dX8_added0_49 : decode cX8_added0 49 = .ok (.iload_n 2, 1) := dk_28 (dk_at dksX8_added0_2 1 rfl rfl)
theorem dX8_added0_50 : decode cX8_added0 50 = .ok (.ifCond .eq 9, 3) := dk_153 0 9 (dk_at dksX8_added0_2 2 rfl rfl)
theorem dX8_added0_53 : decode cX8_added0 53 = .ok (.iload_n 1, 1) := dk_27 (dk_at dksX8_added0_2 5 rfl rfl)
theorem dX8_added0_54 : decode cX8_added0 54 = .ok (.iload_n 3, 1) := dk_29 (dk_at dksX8_added0_2 6 rfl rfl)
theorem dX8_added0_55 : decode cX8_added0 55 = .ok (.iadd, 1) := dk_96 (dk_at dksX8_added0_2 7 rfl rfl)
theorem dX8_added0_56 : decode cX8_added0 56 = .ok (.goto 6, 3) := dk_167 0 6 (dk_at dksX8_added0_2 8 rfl rfl)
theorem dX8_added0_59 : decode cX8_added0 59 = .ok (.iload_n 1, 1) := dk_27 (dk_at dksX8_added0_2 11 rfl rfl)
theorem dX8_added0_60 : decode cX8_added0 60 = .ok (.iload_n 3, 1) := dk_29 (dk_at dksX8_added0_2 12 rfl rfl)
theorem dX8_added0_61 : decode cX8_added0 61 = .ok (.isub, 1) := dk_100 (dk_at dksX8_added0_2 13 rfl rfl)
theorem dX8_added0_62 : decode cX8_added0 62 = .ok (.istore_n 1, 1) := dk_60 (dk_at dksX8_added0_2 14 rfl rfl)
theorem dX8_added0_63 : decode cX8_added0 63 = .ok (.goto (-58), 3) := dk_167 255 198 (dk_at dksX8_added0_2 15 rfl rfl)
theorem dX8_added0_66 : decode cX8_added0 66 = .ok (.iload_n 1, 1) := dk_27 (dk_at dksX8_added0_2 18 rfl rfl)
theorem dX8_added0_67 : decode cX8_added0 67 = .ok (.ireturn, 1) := dk_172 (dk_at dksX8_added0_2 19 rfl rfl)
def dkwX8_term0_1 : List UInt8 := [60, 167, 255, 236, 27, 172]
abbrev dktX8_term0_1 : List UInt8 := dkwX8_term0_1 ++ []
def dkwX8_term0_0 : List UInt8 := [42, 182, 1, 52, 60, 42, 16, 42, 182, 0, 203, 153, 0, 17, 42, 182, 0, 178, 27, 42, 182, 1, 52, 104]
abbrev dktX8_term0_0 : List UInt8 := dkwX8_term0_0 ++ dktX8_term0_1
theorem dksX8_term0_0 : cX8_term0.data.toList.drop 0 = dktX8_term0_0 := by decide +kernel
theorem dksX8_term0_1 : cX8_term0.data.toList.drop 24 = dktX8_term0_1 := dk_seg dksX8_term0_0 24 rfl rfl
theorem dX8_term0_0 : decode cX8_term0 0 = .ok (.aload_n 0, 1) := dk_42 (dk_at dksX8_term0_0 0 rfl rfl)
theorem dX8_term0_1 : decode cX8_term0 1 = .ok (.invokevirtual 308, 3) := dk_182 1 52 (dk_at dksX8_term0_0 1 rfl rfl)
theorem dX8_term0_4 : decode cX8_term0 4 = .ok (.istore_n 1, 1) := dk_60 (dk_at dksX8_term0_0 4 rfl rfl)
theorem dX8_term0_5 : decode cX8_term0 5 = .ok (.aload_n 0, 1) := dk_42 (dk_at dksX8_term0_0 5 rfl rfl)
theorem dX8_term0_6 : decode cX8_term0 6 = .ok (.bipush 42, 2) := dk_16 42 (dk_at dksX8_term0_0 6 rfl rfl)
theorem dX8_term0_8 : decode cX8_term0 8 = .ok (.invokevirtual 203, 3) := dk_182 0 203 (dk_at dksX8_term0_0 8 rfl rfl)
theorem dX8_term0_11 : decode cX8_term0 11 = .ok (.ifCond .eq 17, 3) := dk_153 0 17 (dk_at dksX8_term0_0 11 rfl rfl)
theorem dX8_term0_14 : decode cX8_term0 14 = .ok (.aload_n 0, 1) := dk_42 (dk_at dksX8_term0_0 14 rfl rfl)
theorem dX8_term0_15 : decode cX8_term0 15 = .ok (.invokevirtual 178, 3) := dk_182 0 178 (dk_at dksX8_term0_0 15 rfl rfl)
theorem dX8_term0_18 : decode cX8_term0 18 = .ok (.iload_n 1, 1) := dk_27 (dk_at dksX8_term0_0 18 rfl rfl)
theorem dX8_term0_19 : decode cX8_term0 19 = .ok (.aload_n 0, 1) := dk_42 (dk_at dksX8_term0_0 19 rfl rfl)
theorem dX8_term0_20 : decode cX8_term0 20 = .ok (.invokevirtual 308, 3) := dk_182 1 52 (dk_at dksX8_term0_0 20 rfl rfl)
theorem dX8_term0_23 : decode cX8_term0 23 = .ok (.imul, 1) := dk_104 (dk_at dksX8_term0_0 23 rfl rfl)
theorem dX8_term0_24 : decode cX8_term0 24 = .ok (.istore_n 1, 1) := dk_60 (dk_at dksX8_term0_1 0 rfl rfl)
theorem dX8_term0_25 : decode cX8_term0 25 = .ok (.goto (-20), 3) := dk_167 255 236 (dk_at dksX8_term0_1 1 rfl rfl)
theorem dX8_term0_28 : decode cX8_term0 28 = .ok (.iload_n 1, 1) := dk_27 (dk_at dksX8_term0_1 4 rfl rfl)
theorem dX8_term0_29 : decode cX8_term0 29 = .ok (.ireturn, 1) := dk_172 (dk_at dksX8_term0_1 5 rfl rfl)
def dkwX8_atom0_6 : List UInt8 := [182, 0, 210, 60, 42, 180, 0, 162, 154, 0, 14, 42, 182, 0, 178, 167, 0, 7, 42, 182, 0, 175, 27, 172]
abbrev dktX8_atom0_6 : List UInt8 := dkwX8_atom0_6 ++ []
def dkwX8_atom0_5 : List UInt8 := [182, 0, 178, 167, 0, 41, 42, 180, 0, 162, 154, 0, 30, 42, 180, 0, 147, 4, 160, 0, 22, 42]
abbrev dktX8_atom0_5 : List UInt8 := dkwX8_atom0_5 ++ dktX8_atom0_6
def dkwX8_atom0_4 : List UInt8 := [42, 180, 0, 162, 154, 0, 24, 42, 180, 0, 147, 5, 160, 0, 16, 42, 180, 0, 158, 136, 60, 42]
abbrev dktX8_atom0_4 : List UInt8 := dkwX8_atom0_4 ++ dktX8_atom0_5
def dkwX8_atom0_3 : List UInt8 := [42, 89, 180, 0, 172, 4, 100, 181, 0, 172, 42, 180, 0, 162, 154, 0, 76, 42, 182, 0, 178, 167, 0, 69]
abbrev dktX8_atom0_3 : List UInt8 := dkwX8_atom0_3 ++ dktX8_atom0_4
def dkwX8_atom0_2 : List UInt8 := [182, 0, 206, 153, 0, 111, 42, 182, 1, 49, 60, 42, 16, 41, 182, 0, 203, 154, 0, 7, 42, 182, 0, 175]
abbrev dktX8_atom0_2 : List UInt8 := dkwX8_atom0_2 ++ dktX8_atom0_3
def dkwX8_atom0_1 : List UInt8 := [42, 89, 180, 0, 172, 4, 100, 181, 0, 172, 167, 0, 127, 42, 16, 40, 182, 0, 203, 153, 0, 52, 42]
abbrev dktX8_atom0_1 : List UInt8 := dkwX8_atom0_1 ++ dktX8_atom0_2
def dkwX8_atom0_0 : List UInt8 := [3, 60, 42, 16, 45, 182, 0, 203, 153, 0, 29, 42, 182, 0, 206, 153, 0, 146, 42, 182, 1, 34, 116, 60]
abbrev dktX8_atom0_0 : List UInt8 := dkwX8_atom0_0 ++ dktX8_atom0_1
theorem dksX8_atom0_0 : cX8_atom0.data.toList.drop 0 = dktX8_atom0_0 := by decide +kernel
theorem dksX8_atom0_1 : cX8_atom0.data.toList.drop 24 = dktX8_atom0_1 := dk_seg dksX8_atom0_0 24 rfl rfl
theorem dksX8_atom0_2 : cX8_atom0.data.toList.drop 47 = dktX8_atom0_2 := dk_seg dksX8_atom0_1 23 rfl rfl
theorem dksX8_atom0_3 : cX8_atom0.data.toList.drop 71 = dktX8_atom0_3 := dk_seg dksX8_atom0_2 24 rfl rfl
theorem dksX8_atom0_4 : cX8_atom0.data.toList.drop 95 = dktX8_atom0_4 := dk_seg dksX8_atom0_3 24 rfl rfl
theorem dksX8_atom0_5 : cX8_atom0.data.toList.drop 117 = dktX8_atom0_5 := dk_seg dksX8_atom0_4 22 rfl rfl
theorem dksX8_atom0_6 : cX8_atom0.data.toList.drop 139 = dktX8_atom0_6 := dk_seg dksX8_atom0_5 22 rfl rfl
theorem dX8_atom0_0 : decode cX8_atom0 0 = .ok (.iconst 0, 1) := dk_3 (dk_at dksX8_atom0_0 0 rfl rfl)
theorem dX8_atom0_1 : decode cX8_atom0 1 = .ok (.istore_n 1, 1) := dk_60 (dk_at dksX8_atom0_0 1 rfl rfl)
theorem dX8_atom0_2 : decode cX8_atom0 2 = .ok (.aload_n 0, 1) := dk_42 (dk_at dksX8_atom0_0 2 rfl rfl)
theorem dX8_atom0_3 : decode cX8_atom0 3 = .ok (.bipush 45, 2) := dk_16 45 (dk_at dksX8_atom0_0 3 rfl rfl)
theorem dX8_atom0_5 : decode cX8_atom0 5 = .ok (.invokevirtual 203, 3) := dk_182 0 203 (dk_at dksX8_atom0_0 5 rfl rfl)
theorem dX8_atom0_8 : decode cX8_atom0 8 = .ok (.ifCond .eq 29, 3) := dk_153 0 29 (dk_at dksX8_atom0_0 8 rfl rfl)
theorem dX8_atom0_11 : decode cX8_atom0 11 = .ok (.aload_n 0, 1) := dk_42 (dk_at dksX8_atom0_0 11 rfl rfl)
theorem dX8_atom0_12 : decode cX8_atom0 12 = .ok (.invokevirtual 206, 3) := dk_182 0 206 (dk_at dksX8_atom0_0 12 rfl rfl)
theorem dX8_atom0_15 : decode cX8_atom0 15 = .ok (.ifCond .eq 146, 3) := dk_153 0 146 (dk_at dksX8_atom0_0 15 rfl rfl)
theorem dX8_atom0_18 : decode cX8_atom0 18 = .ok (.aload_n 0, 1) := dk_42 (dk_at dksX8_atom0_0 18 rfl rfl)
theorem dX8_atom0_19 : decode cX8_atom0 19 = .ok (.invokevirtual 290, 3) := dk_182 1 34 (dk_at dksX8_atom0_0 19 rfl rfl)
theorem dX8_atom0_22 : decode cX8_atom0 22 = .ok (.ineg, 1) := dk_116 (dk_at dksX8_atom0_0 22 rfl rfl)
theorem dX8_atom0_23 : decode cX8_atom0 23 = .ok (.istore_n 1, 1) := dk_60 (dk_at dksX8_atom0_0 23 rfl rfl)
theorem dX8_atom0_24 : decode cX8_atom0 24 = .ok (.aload_n 0, 1) := dk_42 (dk_at dksX8_atom0_1 0 rfl rfl)
theorem dX8_atom0_25 : decode cX8_atom0 25 = .ok (.dup, 1) := dk_89 (dk_at dksX8_atom0_1 1 rfl rfl)
theorem dX8_atom0_26 : decode cX8_atom0 26 = .ok (.getfield 172, 3) := dk_180 0 172 (dk_at dksX8_atom0_1 2 rfl rfl)
theorem dX8_atom0_29 : decode cX8_atom0 29 = .ok (.iconst 1, 1) := dk_4 (dk_at dksX8_atom0_1 5 rfl rfl)
theorem dX8_atom0_30 : decode cX8_atom0 30 = .ok (.isub, 1) := dk_100 (dk_at dksX8_atom0_1 6 rfl rfl)
theorem dX8_atom0_31 : decode cX8_atom0 31 = .ok (.putfield 172, 3) := dk_181 0 172 (dk_at dksX8_atom0_1 7 rfl rfl)
theorem dX8_atom0_34 : decode cX8_atom0 34 = .ok (.goto 127, 3) := dk_167 0 127 (dk_at dksX8_atom0_1 10 rfl rfl)
theorem dX8_atom0_37 : decode cX8_atom0 37 = .ok (.aload_n 0, 1) := dk_42 (dk_at dksX8_atom0_1 13 rfl rfl)
theorem dX8_atom0_38 : decode cX8_atom0 38 = .ok (.bipush 40, 2) := dk_16 40 (dk_at dksX8_atom0_1 14 rfl rfl)
theorem dX8_atom0_40 : decode cX8_atom0 40 = .ok (.invokevirtual 203, 3) := dk_182 0 203 (dk_at dksX8_atom0_1 16 rfl rfl)
theorem dX8_atom0_43 : decode cX8_atom0 43 = .ok (.ifCond .eq 52, 3) := dk_153 0 52 (dk_at dksX8_atom0_1 19 rfl rfl)
theorem dX8_atom0_46 : decode cX8_atom0 46 = .ok (.aload_n 0, 1) := dk_42 (dk_at dksX8_atom0_1 22 rfl rfl)
theorem dX8_atom0_47 : decode cX8_atom0 47 = .ok (.invokevirtual 206, 3) := dk_182 0 206 (dk_at dksX8_atom0_2 0 rfl rfl)
theorem dX8_atom0_50 : decode cX8_atom0 50 = .ok (.ifCond .eq 111, 3) := dk_153 0 111 (dk_at dksX8_atom0_2 3 rfl rfl)
theorem dX8_atom0_53 : decode cX8_atom0 53 = .ok (.aload_n 0, 1) := dk_42 (dk_at dksX8_atom0_2 6 rfl rfl)
theorem dX8_atom0_54 : decode cX8_atom0 54 = .ok (.invokevirtual 305, 3) := dk_182 1 49 (dk_at dksX8_atom0_2 7 rfl rfl)
theorem dX8_atom0_57 : decode cX8_atom0 57 = .ok (.istore_n 1, 1) := dk_60 (dk_at dksX8_atom0_2 10 rfl rfl)
theorem dX8_atom0_58 : decode cX8_atom0 58 = .ok (.aload_n 0, 1) := dk_42 (dk_at dksX8_atom0_2 11 rfl rfl)
theorem dX8_atom0_59 : decode cX8_atom0 59 = .ok (.bipush 41, 2) := dk_16 41 (dk_at dksX8_atom0_2 12 rfl rfl)
theorem dX8_atom0_61 : decode cX8_atom0 61 = .ok (.invokevirtual 203, 3) := dk_182 0 203 (dk_at dksX8_atom0_2 14 rfl rfl)
theorem dX8_atom0_64 : decode cX8_atom0 64 = .ok (.ifCond .ne 7, 3) := dk_154 0 7 (dk_at dksX8_atom0_2 17 rfl rfl)
theorem dX8_atom0_67 : decode cX8_atom0 67 = .ok (.aload_n 0, 1) := dk_42 (dk_at dksX8_atom0_2 20 rfl rfl)
theorem dX8_atom0_68 : decode cX8_atom0 68 = .ok (.invokevirtual 175, 3) := dk_182 0 175 (dk_at dksX8_atom0_2 21 rfl rfl)
theorem dX8_atom0_71 : decode cX8_atom0 71 = .ok (.aload_n 0, 1) := dk_42 (dk_at dksX8_atom0_3 0 rfl rfl)
theorem dX8_atom0_72 : decode cX8_atom0 72 = .ok (.dup, 1) := dk_89 (dk_at dksX8_atom0_3 1 rfl rfl)
theorem dX8_atom0_73 : decode cX8_atom0 73 = .ok (.getfield 172, 3) := dk_180 0 172 (dk_at dksX8_atom0_3 2 rfl rfl)
theorem dX8_atom0_76 : decode cX8_atom0 76 = .ok (.iconst 1, 1) := dk_4 (dk_at dksX8_atom0_3 5 rfl rfl)
theorem dX8_atom0_77 : decode cX8_atom0 77 = .ok (.isub, 1) := dk_100 (dk_at dksX8_atom0_3 6 rfl rfl)
theorem dX8_atom0_78 : decode cX8_atom0 78 = .ok (.putfield 172, 3) := dk_181 0 172 (dk_at dksX8_atom0_3 7 rfl rfl)
theorem dX8_atom0_81 : decode cX8_atom0 81 = .ok (.aload_n 0, 1) := dk_42 (dk_at dksX8_atom0_3 10 rfl rfl)
theorem dX8_atom0_82 : decode cX8_atom0 82 = .ok (.getfield 162, 3) := dk_180 0 162 (dk_at dksX8_atom0_3 11 rfl rfl)
theorem dX8_atom0_85 : decode cX8_atom0 85 = .ok (.ifCond .ne 76, 3) := dk_154 0 76 (dk_at dksX8_atom0_3 14 rfl rfl)
theorem dX8_atom0_88 : decode cX8_atom0 88 = .ok (.aload_n 0, 1) := dk_42 (dk_at dksX8_atom0_3 17 rfl rfl)
theorem dX8_atom0_89 : decode cX8_atom0 89 = .ok (.invokevirtual 178, 3) := dk_182 0 178 (dk_at dksX8_atom0_3 18 rfl rfl)
theorem dX8_atom0_92 : decode cX8_atom0 92 = .ok (.goto 69, 3) := dk_167 0 69 (dk_at dksX8_atom0_3 21 rfl rfl)
theorem dX8_atom0_95 : decode cX8_atom0 95 = .ok (.aload_n 0, 1) := dk_42 (dk_at dksX8_atom0_4 0 rfl rfl)
theorem dX8_atom0_96 : decode cX8_atom0 96 = .ok (.getfield 162, 3) := dk_180 0 162 (dk_at dksX8_atom0_4 1 rfl rfl)
theorem dX8_atom0_99 : decode cX8_atom0 99 = .ok (.ifCond .ne 24, 3) := dk_154 0 24 (dk_at dksX8_atom0_4 4 rfl rfl)
theorem dX8_atom0_102 : decode cX8_atom0 102 = .ok (.aload_n 0, 1) := dk_42 (dk_at dksX8_atom0_4 7 rfl rfl)
theorem dX8_atom0_103 : decode cX8_atom0 103 = .ok (.getfield 147, 3) := dk_180 0 147 (dk_at dksX8_atom0_4 8 rfl rfl)
theorem dX8_atom0_106 : decode cX8_atom0 106 = .ok (.iconst 2, 1) := dk_5 (dk_at dksX8_atom0_4 11 rfl rfl)
theorem dX8_atom0_107 : decode cX8_atom0 107 = .ok (.if_icmp .ne 16, 3) := dk_160 0 16 (dk_at dksX8_atom0_4 12 rfl rfl)
theorem dX8_atom0_110 : decode cX8_atom0 110 = .ok (.aload_n 0, 1) := dk_42 (dk_at dksX8_atom0_4 15 rfl rfl)
theorem dX8_atom0_111 : decode cX8_atom0 111 = .ok (.getfield 158, 3) := dk_180 0 158 (dk_at dksX8_atom0_4 16 rfl rfl)
theorem dX8_atom0_114 : decode cX8_atom0 114 = .ok (.l2i, 1) := dk_136 (dk_at dksX8_atom0_4 19 rfl rfl)
theorem dX8_atom0_115 : decode cX8_atom0 115 = .ok (.istore_n 1, 1) := dk_60 (dk_at dksX8_atom0_4 20 rfl rfl)
theorem dX8_atom0_116 : decode cX8_atom0 116 = .ok (.aload_n 0, 1) := dk_42 (dk_at dksX8_atom0_4 21 rfl rfl)
theorem dX8_atom0_117 : decode cX8_atom0 117 = .ok (.invokevirtual 178, 3) := dk_182 0 178 (dk_at dksX8_atom0_5 0 rfl rfl)
theorem dX8_atom0_120 : decode cX8_atom0 120 = .ok (.goto 41, 3) := dk_167 0 41 (dk_at dksX8_atom0_5 3 rfl rfl)
theorem dX8_atom0_123 : decode cX8_atom0 123 = .ok (.aload_n 0, 1) := dk_42 (dk_at dksX8_atom0_5 6 rfl rfl)
theorem dX8_atom0_124 : decode cX8_atom0 124 = .ok (.getfield 162, 3) := dk_180 0 162 (dk_at dksX8_atom0_5 7 rfl rfl)
theorem dX8_atom0_127 : decode cX8_atom0 127 = .ok (.ifCond .ne 30, 3) := dk_154 0 30 (dk_at dksX8_atom0_5 10 rfl rfl)
theorem dX8_atom0_130 : decode cX8_atom0 130 = .ok (.aload_n 0, 1) := dk_42 (dk_at dksX8_atom0_5 13 rfl rfl)
theorem dX8_atom0_131 : decode cX8_atom0 131 = .ok (.getfield 147, 3) := dk_180 0 147 (dk_at dksX8_atom0_5 14 rfl rfl)
theorem dX8_atom0_134 : decode cX8_atom0 134 = .ok (.iconst 1, 1) := dk_4 (dk_at dksX8_atom0_5 17 rfl rfl)
theorem dX8_atom0_135 : decode cX8_atom0 135 = .ok (.if_icmp .ne 22, 3) := dk_160 0 22 (dk_at dksX8_atom0_5 18 rfl rfl)
theorem dX8_atom0_138 : decode cX8_atom0 138 = .ok (.aload_n 0, 1) := dk_42 (dk_at dksX8_atom0_5 21 rfl rfl)
theorem dX8_atom0_139 : decode cX8_atom0 139 = .ok (.invokevirtual 210, 3) := dk_182 0 210 (dk_at dksX8_atom0_6 0 rfl rfl)
theorem dX8_atom0_142 : decode cX8_atom0 142 = .ok (.istore_n 1, 1) := dk_60 (dk_at dksX8_atom0_6 3 rfl rfl)
theorem dX8_atom0_143 : decode cX8_atom0 143 = .ok (.aload_n 0, 1) := dk_42 (dk_at dksX8_atom0_6 4 rfl rfl)
theorem dX8_atom0_144 : decode cX8_atom0 144 = .ok (.getfield 162, 3) := dk_180 0 162 (dk_at dksX8_atom0_6 5 rfl rfl)
theorem dX8_atom0_147 : decode cX8_atom0 147 = .ok (.ifCond .ne 14, 3) := dk_154 0 14 (dk_at dksX8_atom0_6 8 rfl rfl)
theorem dX8_atom0_150 : decode cX8_atom0 150 = .ok (.aload_n 0, 1) := dk_42 (dk_at dksX8_atom0_6 11 rfl rfl)
theorem dX8_atom0_151 : decode cX8_atom0 151 = .ok (.invokevirtual 178, 3) := dk_182 0 178 (dk_at dksX8_atom0_6 12 rfl rfl)
theorem dX8_atom0_154 : decode cX8_atom0 154 = .ok (.goto 7, 3) := dk_167 0 7 (dk_at dksX8_atom0_6 15 rfl rfl)
theorem dX8_atom0_157 : decode cX8_atom0 157 = .ok (.aload_n 0, 1) := dk_42 (dk_at dksX8_atom0_6 18 rfl rfl)
theorem dX8_atom0_158 : decode cX8_atom0 158 = .ok (.invokevirtual 175, 3) := dk_182 0 175 (dk_at dksX8_atom0_6 19 rfl rfl)
theorem dX8_atom0_161 : decode cX8_atom0 161 = .ok (.iload_n 1, 1) := dk_27 (dk_at dksX8_atom0_6 22 rfl rfl)
theorem dX8_atom0_162 : decode cX8_atom0 162 = .ok (.ireturn, 1) := dk_172 (dk_at dksX8_atom0_6 23 rfl rfl)
def dkwX8_either1_2 : List UInt8 := [167, 255, 216, 27, 172]
abbrev dktX8_either1_2 : List UInt8 := dkwX8_either1_2 ++ []
def dkwX8_either1_1 : List UInt8 := [182, 0, 178, 42, 182, 1, 46, 61, 27, 154, 0, 7, 28, 153, 0, 7, 4, 167, 0, 4, 3, 60]
abbrev dktX8_either1_1 : List UInt8 := dkwX8_either1_1 ++ dktX8_either1_2
def dkwX8_either1_0 : List UInt8 := [42, 182, 1, 46, 60, 42, 16, 111, 16, 114, 3, 3, 3, 3, 3, 3, 182, 0, 181, 153, 0, 29, 42]
abbrev dktX8_either1_0 : List UInt8 := dkwX8_either1_0 ++ dktX8_either1_1
theorem dksX8_either1_0 : cX8_either1.data.toList.drop 0 = dktX8_either1_0 := by decide +kernel
theorem dksX8_either1_1 : cX8_either1.data.toList.drop 23 = dktX8_either1_1 := dk_seg dksX8_either1_0 23 rfl rfl
theorem dksX8_either1_2 : cX8_either1.data.toList.drop 45 = dktX8_either1_2 := dk_seg dksX8_either1_1 22 rfl rfl
theorem dX8_either1_0 : decode cX8_either1 0 = .ok (.aload_n 0, 1) := dk_42 (dk_at dksX8_either1_0 0 rfl rfl)
theorem dX8_either1_1 : decode cX8_either1 1 = .ok (.invokevirtual 302, 3) := dk_182 1 46 (dk_at dksX8_either1_0 1 rfl rfl)
theorem dX8_either1_4 : decode cX8_either1 4 = .ok (.istore_n 1, 1) := dk_60 (dk_at dksX8_either1_0 4 rfl rfl)
theorem dX8_either1_5 : decode cX8_either1 5 = .ok (.aload_n 0, 1) := dk_42 (dk_at dksX8_either1_0 5 rfl rfl)
theorem dX8_either1_6 : decode cX8_either1 6 = .ok (.bipush 111, 2) := dk_16 111 (dk_at dksX8_either1_0 6 rfl rfl)
theorem dX8_either1_8 : decode cX8_either1 8 = .ok (.bipush 114, 2) := dk_16 114 (dk_at dksX8_either1_0 8 rfl rfl)
theorem dX8_either1_10 : decode cX8_either1 10 = .ok (.iconst 0, 1) := dk_3 (dk_at dksX8_either1_0 10 rfl rfl)
theorem dX8_either1_11 : decode cX8_either1 11 = .ok (.iconst 0, 1) := dk_3 (dk_at dksX8_either1_0 11 rfl rfl)
theorem dX8_either1_12 : decode cX8_either1 12 = .ok (.iconst 0, 1) := dk_3 (dk_at dksX8_either1_0 12 rfl rfl)
theorem dX8_either1_13 : decode cX8_either1 13 = .ok (.iconst 0, 1) := dk_3 (dk_at dksX8_either1_0 13 rfl rfl)
theorem dX8_either1_14 : decode cX8_either1 14 = .ok (.iconst 0, 1) := dk_3 (dk_at dksX8_either1_0 14 rfl rfl)
theorem dX8_either1_15 : decode cX8_either1 15 = .ok (.iconst 0, 1) := dk_3 (dk_at dksX8_either1_0 15 rfl rfl)
theorem dX8_either1_16 : decode cX8_either1 16 = .ok (.invokevirtual 181, 3) := dk_182 0 181 (dk_at dksX8_either1_0 16 rfl rfl)
theorem dX8_either1_19 : decode cX8_either1 19 = .ok (.ifCond .eq 29, 3) := dk_153 0 29 (dk_at dksX8_either1_0 19 rfl rfl)
theorem dX8_either1_22 : decode cX8_either1 22 = .ok (.aload_n 0, 1) := dk_42 (dk_at dksX8_either1_0 22 rfl rfl)
theorem dX8_either1_23 : decode cX8_either1 23 = .ok (.invokevirtual 178, 3) := dk_182 0 178 (dk_at dksX8_either1_1 0 rfl rfl)
theorem dX8_either1_26 : decode cX8_either1 26 = .ok (.aload_n 0, 1) := dk_42 (dk_at dksX8_either1_1 3 rfl rfl)
theorem dX8_either1_27 : decode cX8_either1 27 = .ok (.invokevirtual 302, 3) := dk_182 1 46 (dk_at dksX8_either1_1 4 rfl rfl)
theorem dX8_either1_30 : decode cX8_either1 30 = .ok (.istore_n 2, 1) := dk_61 (dk_at dksX8_either1_1 7 rfl rfl)
theorem dX8_either1_31 : decode cX8_either1 31 = .ok (.iload_n 1, 1) := dk_27 (dk_at dksX8_either1_1 8 rfl rfl)
theorem dX8_either1_32 : decode cX8_either1 32 = .ok (.ifCond .ne 7, 3) := dk_154 0 7 (dk_at dksX8_either1_1 9 rfl rfl)
theorem dX8_either1_35 : decode cX8_either1 35 = .ok (.iload_n 2, 1) := dk_28 (dk_at dksX8_either1_1 12 rfl rfl)
theorem dX8_either1_36 : decode cX8_either1 36 = .ok (.ifCond .eq 7, 3) := dk_153 0 7 (dk_at dksX8_either1_1 13 rfl rfl)
theorem dX8_either1_39 : decode cX8_either1 39 = .ok (.iconst 1, 1) := dk_4 (dk_at dksX8_either1_1 16 rfl rfl)
theorem dX8_either1_40 : decode cX8_either1 40 = .ok (.goto 4, 3) := dk_167 0 4 (dk_at dksX8_either1_1 17 rfl rfl)
theorem dX8_either1_43 : decode cX8_either1 43 = .ok (.iconst 0, 1) := dk_3 (dk_at dksX8_either1_1 20 rfl rfl)
theorem dX8_either1_44 : decode cX8_either1 44 = .ok (.istore_n 1, 1) := dk_60 (dk_at dksX8_either1_1 21 rfl rfl)
theorem dX8_either1_45 : decode cX8_either1 45 = .ok (.goto (-40), 3) := dk_167 255 216 (dk_at dksX8_either1_2 0 rfl rfl)
theorem dX8_either1_48 : decode cX8_either1 48 = .ok (.iload_n 1, 1) := dk_27 (dk_at dksX8_either1_2 3 rfl rfl)
theorem dX8_either1_49 : decode cX8_either1 49 = .ok (.ireturn, 1) := dk_172 (dk_at dksX8_either1_2 4 rfl rfl)
def dkwX8_both1_2 : List UInt8 := [167, 255, 215, 27, 172]
abbrev dktX8_both1_2 : List UInt8 := dkwX8_both1_2 ++ []
def dkwX8_both1_1 : List UInt8 := [182, 0, 178, 42, 182, 1, 43, 61, 27, 153, 0, 11, 28, 153, 0, 7, 4, 167, 0, 4, 3, 60]
abbrev dktX8_both1_1 : List UInt8 := dkwX8_both1_1 ++ dktX8_both1_2
def dkwX8_both1_0 : List UInt8 := [42, 182, 1, 43, 60, 42, 16, 97, 16, 110, 16, 100, 3, 3, 3, 3, 3, 182, 0, 181, 153, 0, 29, 42]
abbrev dktX8_both1_0 : List UInt8 := dkwX8_both1_0 ++ dktX8_both1_1
theorem dksX8_both1_0 : cX8_both1.data.toList.drop 0 = dktX8_both1_0 := by decide +kernel
theorem dksX8_both1_1 : cX8_both1.data.toList.drop 24 = dktX8_both1_1 := dk_seg dksX8_both1_0 24 rfl rfl
theorem dksX8_both1_2 : cX8_both1.data.toList.drop 46 = dktX8_both1_2 := dk_seg dksX8_both1_1 22 rfl rfl
theorem dX8_both1_0 : decode cX8_both1 0 = .ok (.aload_n 0, 1) := dk_42 (dk_at dksX8_both1_0 0 rfl rfl)
theorem dX8_both1_1 : decode cX8_both1 1 = .ok (.invokevirtual 299, 3) := dk_182 1 43 (dk_at dksX8_both1_0 1 rfl rfl)
theorem dX8_both1_4 : decode cX8_both1 4 = .ok (.istore_n 1, 1) := dk_60 (dk_at dksX8_both1_0 4 rfl rfl)
theorem dX8_both1_5 : decode cX8_both1 5 = .ok (.aload_n 0, 1) := dk_42 (dk_at dksX8_both1_0 5 rfl rfl)
theorem dX8_both1_6 : decode cX8_both1 6 = .ok (.bipush 97, 2) := dk_16 97 (dk_at dksX8_both1_0 6 rfl rfl)
theorem dX8_both1_8 : decode cX8_both1 8 = .ok (.bipush 110, 2) := dk_16 110 (dk_at dksX8_both1_0 8 rfl rfl)
theorem dX8_both1_10 : decode cX8_both1 10 = .ok (.bipush 100, 2) := dk_16 100 (dk_at dksX8_both1_0 10 rfl rfl)
theorem dX8_both1_12 : decode cX8_both1 12 = .ok (.iconst 0, 1) := dk_3 (dk_at dksX8_both1_0 12 rfl rfl)
theorem dX8_both1_13 : decode cX8_both1 13 = .ok (.iconst 0, 1) := dk_3 (dk_at dksX8_both1_0 13 rfl rfl)
theorem dX8_both1_14 : decode cX8_both1 14 = .ok (.iconst 0, 1) := dk_3 (dk_at dksX8_both1_0 14 rfl rfl)
theorem dX8_both1_15 : decode cX8_both1 15 = .ok (.iconst 0, 1) := dk_3 (dk_at dksX8_both1_0 15 rfl rfl)
theorem dX8_both1_16 : decode cX8_both1 16 = .ok (.iconst 0, 1) := dk_3 (dk_at dksX8_both1_0 16 rfl rfl)
theorem dX8_both1_17 : decode cX8_both1 17 = .ok (.invokevirtual 181, 3) := dk_182 0 181 (dk_at dksX8_both1_0 17 rfl rfl)
theorem dX8_both1_20 : decode cX8_both1 20 = .ok (.ifCond .eq 29, 3) := dk_153 0 29 (dk_at dksX8_both1_0 20 rfl rfl)
theorem dX8_both1_23 : decode cX8_both1 23 = .ok (.aload_n 0, 1) := dk_42 (dk_at dksX8_both1_0 23 rfl rfl)
theorem dX8_both1_24 : decode cX8_both1 24 = .ok (.invokevirtual 178, 3) := dk_182 0 178 (dk_at dksX8_both1_1 0 rfl rfl)
theorem dX8_both1_27 : decode cX8_both1 27 = .ok (.aload_n 0, 1) := dk_42 (dk_at dksX8_both1_1 3 rfl rfl)
theorem dX8_both1_28 : decode cX8_both1 28 = .ok (.invokevirtual 299, 3) := dk_182 1 43 (dk_at dksX8_both1_1 4 rfl rfl)
theorem dX8_both1_31 : decode cX8_both1 31 = .ok (.istore_n 2, 1) := dk_61 (dk_at dksX8_both1_1 7 rfl rfl)
theorem dX8_both1_32 : decode cX8_both1 32 = .ok (.iload_n 1, 1) := dk_27 (dk_at dksX8_both1_1 8 rfl rfl)
theorem dX8_both1_33 : decode cX8_both1 33 = .ok (.ifCond .eq 11, 3) := dk_153 0 11 (dk_at dksX8_both1_1 9 rfl rfl)
theorem dX8_both1_36 : decode cX8_both1 36 = .ok (.iload_n 2, 1) := dk_28 (dk_at dksX8_both1_1 12 rfl rfl)
theorem dX8_both1_37 : decode cX8_both1 37 = .ok (.ifCond .eq 7, 3) := dk_153 0 7 (dk_at dksX8_both1_1 13 rfl rfl)
theorem dX8_both1_40 : decode cX8_both1 40 = .ok (.iconst 1, 1) := dk_4 (dk_at dksX8_both1_1 16 rfl rfl)
theorem dX8_both1_41 : decode cX8_both1 41 = .ok (.goto 4, 3) := dk_167 0 4 (dk_at dksX8_both1_1 17 rfl rfl)
theorem dX8_both1_44 : decode cX8_both1 44 = .ok (.iconst 0, 1) := dk_3 (dk_at dksX8_both1_1 20 rfl rfl)
theorem dX8_both1_45 : decode cX8_both1 45 = .ok (.istore_n 1, 1) := dk_60 (dk_at dksX8_both1_1 21 rfl rfl)
theorem dX8_both1_46 : decode cX8_both1 46 = .ok (.goto (-41), 3) := dk_167 255 215 (dk_at dksX8_both1_2 0 rfl rfl)
theorem dX8_both1_49 : decode cX8_both1 49 = .ok (.iload_n 1, 1) := dk_27 (dk_at dksX8_both1_2 3 rfl rfl)
theorem dX8_both1_50 : decode cX8_both1 50 = .ok (.ireturn, 1) := dk_172 (dk_at dksX8_both1_2 4 rfl rfl)
def dkwX8_within_0 : List UInt8 := [26, 27, 162, 0, 7, 27, 167, 0, 13, 26, 28, 164, 0, 7, 28, 167, 0, 4, 26, 172]
abbrev dktX8_within_0 : List UInt8 := dkwX8_within_0 ++ []
theorem dksX8_within_0 : cX8_within.data.toList.drop 0 = dktX8_within_0 := by decide +kernel
theorem dX8_within_0 : decode cX8_within 0 = .ok (.iload_n 0, 1) := dk_26 (dk_at dksX8_within_0 0 rfl rfl)
theorem dX8_within_1 : decode cX8_within 1 = .ok (.iload_n 1, 1) := dk_27 (dk_at dksX8_within_0 1 rfl rfl)
theorem dX8_within_2 : decode cX8_within 2 = .ok (.if_icmp .ge 7, 3) := dk_162 0 7 (dk_at dksX8_within_0 2 rfl rfl)
theorem dX8_within_5 : decode cX8_within 5 = .ok (.iload_n 1, 1) := dk_27 (dk_at dksX8_within_0 5 rfl rfl)
theorem dX8_within_6 : decode cX8_within 6 = .ok (.goto 13, 3) := dk_167 0 13 (dk_at dksX8_within_0 6 rfl rfl)
theorem dX8_within_9 : decode cX8_within 9 = .ok (.iload_n 0, 1) := dk_26 (dk_at dksX8_within_0 9 rfl rfl)
theorem dX8_within_10 : decode cX8_within 10 = .ok (.iload_n 2, 1) := dk_28 (dk_at dksX8_within_0 10 rfl rfl)
theorem dX8_within_11 : decode cX8_within 11 = .ok (.if_icmp .le 7, 3) := dk_164 0 7 (dk_at dksX8_within_0 11 rfl rfl)
theorem dX8_within_14 : decode cX8_within 14 = .ok (.iload_n 2, 1) := dk_28 (dk_at dksX8_within_0 14 rfl rfl)
theorem dX8_within_15 : decode cX8_within 15 = .ok (.goto 4, 3) := dk_167 0 4 (dk_at dksX8_within_0 15 rfl rfl)
theorem dX8_within_18 : decode cX8_within 18 = .ok (.iload_n 0, 1) := dk_26 (dk_at dksX8_within_0 18 rfl rfl)
theorem dX8_within_19 : decode cX8_within 19 = .ok (.ireturn, 1) := dk_172 (dk_at dksX8_within_0 19 rfl rfl)
def dkwX8_growsOf_5 : List UInt8 := [29, 4, 160, 0, 8, 21, 5, 167, 0, 7, 21, 5, 28, 96, 3, 17, 39, 15, 184, 1, 77, 172]
abbrev dktX8_growsOf_5 : List UInt8 := dkwX8_growsOf_5 ++ []
def dkwX8_growsOf_4 : List UInt8 := [180, 0, 32, 6, 27, 104, 46, 96, 167, 0, 5, 21, 4, 54, 5, 29, 154, 0, 8, 21, 4, 167, 0, 17]
abbrev dktX8_growsOf_4 : List UInt8 := dkwX8_growsOf_4 ++ dktX8_growsOf_5
def dkwX8_growsOf_3 : List UInt8 := [46, 46, 6, 164, 0, 9, 5, 28, 104, 167, 0, 4, 28, 54, 4, 28, 158, 0, 17, 21, 4, 42]
abbrev dktX8_growsOf_3 : List UInt8 := dkwX8_growsOf_3 ++ dktX8_growsOf_4
def dkwX8_growsOf_2 : List UInt8 := [5, 108, 96, 3, 17, 39, 15, 184, 1, 77, 172, 42, 180, 0, 26, 42, 180, 0, 32, 6, 27, 104, 4, 96]
abbrev dktX8_growsOf_2 : List UInt8 := dkwX8_growsOf_2 ++ dktX8_growsOf_3
def dkwX8_growsOf_1 : List UInt8 := [160, 0, 12, 28, 3, 17, 39, 15, 184, 1, 77, 172, 29, 5, 159, 0, 8, 29, 7, 160, 0, 16, 28, 28]
abbrev dktX8_growsOf_1 : List UInt8 := dkwX8_growsOf_1 ++ dktX8_growsOf_2
def dkwX8_growsOf_0 : List UInt8 := [42, 180, 0, 29, 27, 46, 62, 29, 8, 159, 0, 18, 29, 7, 160, 0, 22, 42, 180, 0, 101, 5, 112, 4]
abbrev dktX8_growsOf_0 : List UInt8 := dkwX8_growsOf_0 ++ dktX8_growsOf_1
theorem dksX8_growsOf_0 : cX8_growsOf.data.toList.drop 0 = dktX8_growsOf_0 := by decide +kernel
theorem dksX8_growsOf_1 : cX8_growsOf.data.toList.drop 24 = dktX8_growsOf_1 := dk_seg dksX8_growsOf_0 24 rfl rfl
theorem dksX8_growsOf_2 : cX8_growsOf.data.toList.drop 48 = dktX8_growsOf_2 := dk_seg dksX8_growsOf_1 24 rfl rfl
theorem dksX8_growsOf_3 : cX8_growsOf.data.toList.drop 72 = dktX8_growsOf_3 := dk_seg dksX8_growsOf_2 24 rfl rfl
theorem dksX8_growsOf_4 : cX8_growsOf.data.toList.drop 94 = dktX8_growsOf_4 := dk_seg dksX8_growsOf_3 22 rfl rfl
theorem dksX8_growsOf_5 : cX8_growsOf.data.toList.drop 118 = dktX8_growsOf_5 := dk_seg dksX8_growsOf_4 24 rfl rfl
theorem dX8_growsOf_0 : decode cX8_growsOf 0 = .ok (.aload_n 0, 1) := dk_42 (dk_at dksX8_growsOf_0 0 rfl rfl)
theorem dX8_growsOf_1 : decode cX8_growsOf 1 = .ok (.getfield 29, 3) := dk_180 0 29 (dk_at dksX8_growsOf_0 1 rfl rfl)
theorem dX8_growsOf_4 : decode cX8_growsOf 4 = .ok (.iload_n 1, 1) := dk_27 (dk_at dksX8_growsOf_0 4 rfl rfl)
theorem dX8_growsOf_5 : decode cX8_growsOf 5 = .ok (.iaload, 1) := dk_46 (dk_at dksX8_growsOf_0 5 rfl rfl)
theorem dX8_growsOf_6 : decode cX8_growsOf 6 = .ok (.istore_n 3, 1) := dk_62 (dk_at dksX8_growsOf_0 6 rfl rfl)
theorem dX8_growsOf_7 : decode cX8_growsOf 7 = .ok (.iload_n 3, 1) := dk_29 (dk_at dksX8_growsOf_0 7 rfl rfl)
theorem dX8_growsOf_8 : decode cX8_growsOf 8 = .ok (.iconst 5, 1) := dk_8 (dk_at dksX8_growsOf_0 8 rfl rfl)
theorem dX8_growsOf_9 : decode cX8_growsOf 9 = .ok (.if_icmp .eq 18, 3) := dk_159 0 18 (dk_at dksX8_growsOf_0 9 rfl rfl)
theorem dX8_growsOf_12 : decode cX8_growsOf 12 = .ok (.iload_n 3, 1) := dk_29 (dk_at dksX8_growsOf_0 12 rfl rfl)
theorem dX8_growsOf_13 : decode cX8_growsOf 13 = .ok (.iconst 4, 1) := dk_7 (dk_at dksX8_growsOf_0 13 rfl rfl)
theorem dX8_growsOf_14 : decode cX8_growsOf 14 = .ok (.if_icmp .ne 22, 3) := dk_160 0 22 (dk_at dksX8_growsOf_0 14 rfl rfl)
theorem dX8_growsOf_17 : decode cX8_growsOf 17 = .ok (.aload_n 0, 1) := dk_42 (dk_at dksX8_growsOf_0 17 rfl rfl)
theorem dX8_growsOf_18 : decode cX8_growsOf 18 = .ok (.getfield 101, 3) := dk_180 0 101 (dk_at dksX8_growsOf_0 18 rfl rfl)
theorem dX8_growsOf_21 : decode cX8_growsOf 21 = .ok (.iconst 2, 1) := dk_5 (dk_at dksX8_growsOf_0 21 rfl rfl)
theorem dX8_growsOf_22 : decode cX8_growsOf 22 = .ok (.irem, 1) := dk_112 (dk_at dksX8_growsOf_0 22 rfl rfl)
theorem dX8_growsOf_23 : decode cX8_growsOf 23 = .ok (.iconst 1, 1) := dk_4 (dk_at dksX8_growsOf_0 23 rfl rfl)
theorem dX8_growsOf_24 : decode cX8_growsOf 24 = .ok (.if_icmp .ne 12, 3) := dk_160 0 12 (dk_at dksX8_growsOf_1 0 rfl rfl)
theorem dX8_growsOf_27 : decode cX8_growsOf 27 = .ok (.iload_n 2, 1) := dk_28 (dk_at dksX8_growsOf_1 3 rfl rfl)
theorem dX8_growsOf_28 : decode cX8_growsOf 28 = .ok (.iconst 0, 1) := dk_3 (dk_at dksX8_growsOf_1 4 rfl rfl)
theorem dX8_growsOf_29 : decode cX8_growsOf 29 = .ok (.sipush 9999, 3) := dk_17 39 15 (dk_at dksX8_growsOf_1 5 rfl rfl)
theorem dX8_growsOf_32 : decode cX8_growsOf 32 = .ok (.invokestatic 333, 3) := dk_184 1 77 (dk_at dksX8_growsOf_1 8 rfl rfl)
theorem dX8_growsOf_35 : decode cX8_growsOf 35 = .ok (.ireturn, 1) := dk_172 (dk_at dksX8_growsOf_1 11 rfl rfl)
theorem dX8_growsOf_36 : decode cX8_growsOf 36 = .ok (.iload_n 3, 1) := dk_29 (dk_at dksX8_growsOf_1 12 rfl rfl)
theorem dX8_growsOf_37 : decode cX8_growsOf 37 = .ok (.iconst 2, 1) := dk_5 (dk_at dksX8_growsOf_1 13 rfl rfl)
theorem dX8_growsOf_38 : decode cX8_growsOf 38 = .ok (.if_icmp .eq 8, 3) := dk_159 0 8 (dk_at dksX8_growsOf_1 14 rfl rfl)
theorem dX8_growsOf_41 : decode cX8_growsOf 41 = .ok (.iload_n 3, 1) := dk_29 (dk_at dksX8_growsOf_1 17 rfl rfl)
theorem dX8_growsOf_42 : decode cX8_growsOf 42 = .ok (.iconst 4, 1) := dk_7 (dk_at dksX8_growsOf_1 18 rfl rfl)
theorem dX8_growsOf_43 : decode cX8_growsOf 43 = .ok (.if_icmp .ne 16, 3) := dk_160 0 16 (dk_at dksX8_growsOf_1 19 rfl rfl)
theorem dX8_growsOf_46 : decode cX8_growsOf 46 = .ok (.iload_n 2, 1) := dk_28 (dk_at dksX8_growsOf_1 22 rfl rfl)
theorem dX8_growsOf_47 : decode cX8_growsOf 47 = .ok (.iload_n 2, 1) := dk_28 (dk_at dksX8_growsOf_1 23 rfl rfl)
theorem dX8_growsOf_48 : decode cX8_growsOf 48 = .ok (.iconst 2, 1) := dk_5 (dk_at dksX8_growsOf_2 0 rfl rfl)
theorem dX8_growsOf_49 : decode cX8_growsOf 49 = .ok (.idiv, 1) := dk_108 (dk_at dksX8_growsOf_2 1 rfl rfl)
theorem dX8_growsOf_50 : decode cX8_growsOf 50 = .ok (.iadd, 1) := dk_96 (dk_at dksX8_growsOf_2 2 rfl rfl)
theorem dX8_growsOf_51 : decode cX8_growsOf 51 = .ok (.iconst 0, 1) := dk_3 (dk_at dksX8_growsOf_2 3 rfl rfl)
theorem dX8_growsOf_52 : decode cX8_growsOf 52 = .ok (.sipush 9999, 3) := dk_17 39 15 (dk_at dksX8_growsOf_2 4 rfl rfl)
theorem dX8_growsOf_55 : decode cX8_growsOf 55 = .ok (.invokestatic 333, 3) := dk_184 1 77 (dk_at dksX8_growsOf_2 7 rfl rfl)
theorem dX8_growsOf_58 : decode cX8_growsOf 58 = .ok (.ireturn, 1) := dk_172 (dk_at dksX8_growsOf_2 10 rfl rfl)
theorem dX8_growsOf_59 : decode cX8_growsOf 59 = .ok (.aload_n 0, 1) := dk_42 (dk_at dksX8_growsOf_2 11 rfl rfl)
theorem dX8_growsOf_60 : decode cX8_growsOf 60 = .ok (.getfield 26, 3) := dk_180 0 26 (dk_at dksX8_growsOf_2 12 rfl rfl)
theorem dX8_growsOf_63 : decode cX8_growsOf 63 = .ok (.aload_n 0, 1) := dk_42 (dk_at dksX8_growsOf_2 15 rfl rfl)
theorem dX8_growsOf_64 : decode cX8_growsOf 64 = .ok (.getfield 32, 3) := dk_180 0 32 (dk_at dksX8_growsOf_2 16 rfl rfl)
theorem dX8_growsOf_67 : decode cX8_growsOf 67 = .ok (.iconst 3, 1) := dk_6 (dk_at dksX8_growsOf_2 19 rfl rfl)
theorem dX8_growsOf_68 : decode cX8_growsOf 68 = .ok (.iload_n 1, 1) := dk_27 (dk_at dksX8_growsOf_2 20 rfl rfl)
theorem dX8_growsOf_69 : decode cX8_growsOf 69 = .ok (.imul, 1) := dk_104 (dk_at dksX8_growsOf_2 21 rfl rfl)
theorem dX8_growsOf_70 : decode cX8_growsOf 70 = .ok (.iconst 1, 1) := dk_4 (dk_at dksX8_growsOf_2 22 rfl rfl)
theorem dX8_growsOf_71 : decode cX8_growsOf 71 = .ok (.iadd, 1) := dk_96 (dk_at dksX8_growsOf_2 23 rfl rfl)
theorem dX8_growsOf_72 : decode cX8_growsOf 72 = .ok (.iaload, 1) := dk_46 (dk_at dksX8_growsOf_3 0 rfl rfl)
theorem dX8_growsOf_73 : decode cX8_growsOf 73 = .ok (.iaload, 1) := dk_46 (dk_at dksX8_growsOf_3 1 rfl rfl)
theorem dX8_growsOf_74 : decode cX8_growsOf 74 = .ok (.iconst 3, 1) := dk_6 (dk_at dksX8_growsOf_3 2 rfl rfl)
theorem dX8_growsOf_75 : decode cX8_growsOf 75 = .ok (.if_icmp .le 9, 3) := dk_164 0 9 (dk_at dksX8_growsOf_3 3 rfl rfl)
theorem dX8_growsOf_78 : decode cX8_growsOf 78 = .ok (.iconst 2, 1) := dk_5 (dk_at dksX8_growsOf_3 6 rfl rfl)
theorem dX8_growsOf_79 : decode cX8_growsOf 79 = .ok (.iload_n 2, 1) := dk_28 (dk_at dksX8_growsOf_3 7 rfl rfl)
theorem dX8_growsOf_80 : decode cX8_growsOf 80 = .ok (.imul, 1) := dk_104 (dk_at dksX8_growsOf_3 8 rfl rfl)
theorem dX8_growsOf_81 : decode cX8_growsOf 81 = .ok (.goto 4, 3) := dk_167 0 4 (dk_at dksX8_growsOf_3 9 rfl rfl)
theorem dX8_growsOf_84 : decode cX8_growsOf 84 = .ok (.iload_n 2, 1) := dk_28 (dk_at dksX8_growsOf_3 12 rfl rfl)
theorem dX8_growsOf_85 : decode cX8_growsOf 85 = .ok (.istore 4, 2) := dk_54 4 (dk_at dksX8_growsOf_3 13 rfl rfl)
theorem dX8_growsOf_87 : decode cX8_growsOf 87 = .ok (.iload_n 2, 1) := dk_28 (dk_at dksX8_growsOf_3 15 rfl rfl)
theorem dX8_growsOf_88 : decode cX8_growsOf 88 = .ok (.ifCond .le 17, 3) := dk_158 0 17 (dk_at dksX8_growsOf_3 16 rfl rfl)
theorem dX8_growsOf_91 : decode cX8_growsOf 91 = .ok (.iload 4, 2) := dk_21 4 (dk_at dksX8_growsOf_3 19 rfl rfl)
theorem dX8_growsOf_93 : decode cX8_growsOf 93 = .ok (.aload_n 0, 1) := dk_42 (dk_at dksX8_growsOf_3 21 rfl rfl)
theorem dX8_growsOf_94 : decode cX8_growsOf 94 = .ok (.getfield 32, 3) := dk_180 0 32 (dk_at dksX8_growsOf_4 0 rfl rfl)
theorem dX8_growsOf_97 : decode cX8_growsOf 97 = .ok (.iconst 3, 1) := dk_6 (dk_at dksX8_growsOf_4 3 rfl rfl)
theorem dX8_growsOf_98 : decode cX8_growsOf 98 = .ok (.iload_n 1, 1) := dk_27 (dk_at dksX8_growsOf_4 4 rfl rfl)
theorem dX8_growsOf_99 : decode cX8_growsOf 99 = .ok (.imul, 1) := dk_104 (dk_at dksX8_growsOf_4 5 rfl rfl)
theorem dX8_growsOf_100 : decode cX8_growsOf 100 = .ok (.iaload, 1) := dk_46 (dk_at dksX8_growsOf_4 6 rfl rfl)
theorem dX8_growsOf_101 : decode cX8_growsOf 101 = .ok (.iadd, 1) := dk_96 (dk_at dksX8_growsOf_4 7 rfl rfl)
theorem dX8_growsOf_102 : decode cX8_growsOf 102 = .ok (.goto 5, 3) := dk_167 0 5 (dk_at dksX8_growsOf_4 8 rfl rfl)
theorem dX8_growsOf_105 : decode cX8_growsOf 105 = .ok (.iload 4, 2) := dk_21 4 (dk_at dksX8_growsOf_4 11 rfl rfl)
theorem dX8_growsOf_107 : decode cX8_growsOf 107 = .ok (.istore 5, 2) := dk_54 5 (dk_at dksX8_growsOf_4 13 rfl rfl)
theorem dX8_growsOf_109 : decode cX8_growsOf 109 = .ok (.iload_n 3, 1) := dk_29 (dk_at dksX8_growsOf_4 15 rfl rfl)
theorem dX8_growsOf_110 : decode cX8_growsOf 110 = .ok (.ifCond .ne 8, 3) := dk_154 0 8 (dk_at dksX8_growsOf_4 16 rfl rfl)
theorem dX8_growsOf_113 : decode cX8_growsOf 113 = .ok (.iload 4, 2) := dk_21 4 (dk_at dksX8_growsOf_4 19 rfl rfl)
theorem dX8_growsOf_115 : decode cX8_growsOf 115 = .ok (.goto 17, 3) := dk_167 0 17 (dk_at dksX8_growsOf_4 21 rfl rfl)
theorem dX8_growsOf_118 : decode cX8_growsOf 118 = .ok (.iload_n 3, 1) := dk_29 (dk_at dksX8_growsOf_5 0 rfl rfl)
theorem dX8_growsOf_119 : decode cX8_growsOf 119 = .ok (.iconst 1, 1) := dk_4 (dk_at dksX8_growsOf_5 1 rfl rfl)
theorem dX8_growsOf_120 : decode cX8_growsOf 120 = .ok (.if_icmp .ne 8, 3) := dk_160 0 8 (dk_at dksX8_growsOf_5 2 rfl rfl)
theorem dX8_growsOf_123 : decode cX8_growsOf 123 = .ok (.iload 5, 2) := dk_21 5 (dk_at dksX8_growsOf_5 5 rfl rfl)
theorem dX8_growsOf_125 : decode cX8_growsOf 125 = .ok (.goto 7, 3) := dk_167 0 7 (dk_at dksX8_growsOf_5 7 rfl rfl)
theorem dX8_growsOf_128 : decode cX8_growsOf 128 = .ok (.iload 5, 2) := dk_21 5 (dk_at dksX8_growsOf_5 10 rfl rfl)
theorem dX8_growsOf_130 : decode cX8_growsOf 130 = .ok (.iload_n 2, 1) := dk_28 (dk_at dksX8_growsOf_5 12 rfl rfl)
theorem dX8_growsOf_131 : decode cX8_growsOf 131 = .ok (.iadd, 1) := dk_96 (dk_at dksX8_growsOf_5 13 rfl rfl)
theorem dX8_growsOf_132 : decode cX8_growsOf 132 = .ok (.iconst 0, 1) := dk_3 (dk_at dksX8_growsOf_5 14 rfl rfl)
theorem dX8_growsOf_133 : decode cX8_growsOf 133 = .ok (.sipush 9999, 3) := dk_17 39 15 (dk_at dksX8_growsOf_5 15 rfl rfl)
theorem dX8_growsOf_136 : decode cX8_growsOf 136 = .ok (.invokestatic 333, 3) := dk_184 1 77 (dk_at dksX8_growsOf_5 18 rfl rfl)
theorem dX8_growsOf_139 : decode cX8_growsOf 139 = .ok (.ireturn, 1) := dk_172 (dk_at dksX8_growsOf_5 21 rfl rfl)
def dkwX8_flowersOf_3 : List UInt8 := [19, 1, 81, 184, 1, 77, 172]
abbrev dktX8_flowersOf_3 : List UInt8 := dkwX8_flowersOf_3 ++ []
def dkwX8_flowersOf_2 : List UInt8 := [46, 96, 167, 0, 17, 3, 167, 0, 13, 29, 7, 160, 0, 7, 3, 167, 0, 4, 28, 54, 4, 21, 4, 3]
abbrev dktX8_flowersOf_2 : List UInt8 := dkwX8_flowersOf_2 ++ dktX8_flowersOf_3
def dkwX8_flowersOf_1 : List UInt8 := [6, 108, 167, 0, 41, 29, 6, 160, 0, 26, 28, 158, 0, 18, 5, 28, 104, 42, 180, 0, 32, 6, 27, 104]
abbrev dktX8_flowersOf_1 : List UInt8 := dkwX8_flowersOf_1 ++ dktX8_flowersOf_2
def dkwX8_flowersOf_0 : List UInt8 := [42, 180, 0, 29, 27, 46, 62, 29, 4, 160, 0, 9, 5, 28, 104, 167, 0, 52, 29, 5, 160, 0, 9, 28]
abbrev dktX8_flowersOf_0 : List UInt8 := dkwX8_flowersOf_0 ++ dktX8_flowersOf_1
theorem dksX8_flowersOf_0 : cX8_flowersOf.data.toList.drop 0 = dktX8_flowersOf_0 := by decide +kernel
theorem dksX8_flowersOf_1 : cX8_flowersOf.data.toList.drop 24 = dktX8_flowersOf_1 := dk_seg dksX8_flowersOf_0 24 rfl rfl
theorem dksX8_flowersOf_2 : cX8_flowersOf.data.toList.drop 48 = dktX8_flowersOf_2 := dk_seg dksX8_flowersOf_1 24 rfl rfl
theorem dksX8_flowersOf_3 : cX8_flowersOf.data.toList.drop 72 = dktX8_flowersOf_3 := dk_seg dksX8_flowersOf_2 24 rfl rfl
theorem dX8_flowersOf_0 : decode cX8_flowersOf 0 = .ok (.aload_n 0, 1) := dk_42 (dk_at dksX8_flowersOf_0 0 rfl rfl)
theorem dX8_flowersOf_1 : decode cX8_flowersOf 1 = .ok (.getfield 29, 3) := dk_180 0 29 (dk_at dksX8_flowersOf_0 1 rfl rfl)
theorem dX8_flowersOf_4 : decode cX8_flowersOf 4 = .ok (.iload_n 1, 1) := dk_27 (dk_at dksX8_flowersOf_0 4 rfl rfl)
theorem dX8_flowersOf_5 : decode cX8_flowersOf 5 = .ok (.iaload, 1) := dk_46 (dk_at dksX8_flowersOf_0 5 rfl rfl)
theorem dX8_flowersOf_6 : decode cX8_flowersOf 6 = .ok (.istore_n 3, 1) := dk_62 (dk_at dksX8_flowersOf_0 6 rfl rfl)
theorem dX8_flowersOf_7 : decode cX8_flowersOf 7 = .ok (.iload_n 3, 1) := dk_29 (dk_at dksX8_flowersOf_0 7 rfl rfl)
theorem dX8_flowersOf_8 : decode cX8_flowersOf 8 = .ok (.iconst 1, 1) := dk_4 (dk_at dksX8_flowersOf_0 8 rfl rfl)
theorem dX8_flowersOf_9 : decode cX8_flowersOf 9 = .ok (.if_icmp .ne 9, 3) := dk_160 0 9 (dk_at dksX8_flowersOf_0 9 rfl rfl)
theorem dX8_flowersOf_12 : decode cX8_flowersOf 12 = .ok (.iconst 2, 1) := dk_5 (dk_at dksX8_flowersOf_0 12 rfl rfl)
theorem dX8_flowersOf_13 : decode cX8_flowersOf 13 = .ok (.iload_n 2, 1) := dk_28 (dk_at dksX8_flowersOf_0 13 rfl rfl)
theorem dX8_flowersOf_14 : decode cX8_flowersOf 14 = .ok (.imul, 1) := dk_104 (dk_at dksX8_flowersOf_0 14 rfl rfl)
theorem dX8_flowersOf_15 : decode cX8_flowersOf 15 = .ok (.goto 52, 3) := dk_167 0 52 (dk_at dksX8_flowersOf_0 15 rfl rfl)
theorem dX8_flowersOf_18 : decode cX8_flowersOf 18 = .ok (.iload_n 3, 1) := dk_29 (dk_at dksX8_flowersOf_0 18 rfl rfl)
theorem dX8_flowersOf_19 : decode cX8_flowersOf 19 = .ok (.iconst 2, 1) := dk_5 (dk_at dksX8_flowersOf_0 19 rfl rfl)
theorem dX8_flowersOf_20 : decode cX8_flowersOf 20 = .ok (.if_icmp .ne 9, 3) := dk_160 0 9 (dk_at dksX8_flowersOf_0 20 rfl rfl)
theorem dX8_flowersOf_23 : decode cX8_flowersOf 23 = .ok (.iload_n 2, 1) := dk_28 (dk_at dksX8_flowersOf_0 23 rfl rfl)
theorem dX8_flowersOf_24 : decode cX8_flowersOf 24 = .ok (.iconst 3, 1) := dk_6 (dk_at dksX8_flowersOf_1 0 rfl rfl)
theorem dX8_flowersOf_25 : decode cX8_flowersOf 25 = .ok (.idiv, 1) := dk_108 (dk_at dksX8_flowersOf_1 1 rfl rfl)
theorem dX8_flowersOf_26 : decode cX8_flowersOf 26 = .ok (.goto 41, 3) := dk_167 0 41 (dk_at dksX8_flowersOf_1 2 rfl rfl)
theorem dX8_flowersOf_29 : decode cX8_flowersOf 29 = .ok (.iload_n 3, 1) := dk_29 (dk_at dksX8_flowersOf_1 5 rfl rfl)
theorem dX8_flowersOf_30 : decode cX8_flowersOf 30 = .ok (.iconst 3, 1) := dk_6 (dk_at dksX8_flowersOf_1 6 rfl rfl)
theorem dX8_flowersOf_31 : decode cX8_flowersOf 31 = .ok (.if_icmp .ne 26, 3) := dk_160 0 26 (dk_at dksX8_flowersOf_1 7 rfl rfl)
theorem dX8_flowersOf_34 : decode cX8_flowersOf 34 = .ok (.iload_n 2, 1) := dk_28 (dk_at dksX8_flowersOf_1 10 rfl rfl)
theorem dX8_flowersOf_35 : decode cX8_flowersOf 35 = .ok (.ifCond .le 18, 3) := dk_158 0 18 (dk_at dksX8_flowersOf_1 11 rfl rfl)
theorem dX8_flowersOf_38 : decode cX8_flowersOf 38 = .ok (.iconst 2, 1) := dk_5 (dk_at dksX8_flowersOf_1 14 rfl rfl)
theorem dX8_flowersOf_39 : decode cX8_flowersOf 39 = .ok (.iload_n 2, 1) := dk_28 (dk_at dksX8_flowersOf_1 15 rfl rfl)
theorem dX8_flowersOf_40 : decode cX8_flowersOf 40 = .ok (.imul, 1) := dk_104 (dk_at dksX8_flowersOf_1 16 rfl rfl)
theorem dX8_flowersOf_41 : decode cX8_flowersOf 41 = .ok (.aload_n 0, 1) := dk_42 (dk_at dksX8_flowersOf_1 17 rfl rfl)
theorem dX8_flowersOf_42 : decode cX8_flowersOf 42 = .ok (.getfield 32, 3) := dk_180 0 32 (dk_at dksX8_flowersOf_1 18 rfl rfl)
theorem dX8_flowersOf_45 : decode cX8_flowersOf 45 = .ok (.iconst 3, 1) := dk_6 (dk_at dksX8_flowersOf_1 21 rfl rfl)
theorem dX8_flowersOf_46 : decode cX8_flowersOf 46 = .ok (.iload_n 1, 1) := dk_27 (dk_at dksX8_flowersOf_1 22 rfl rfl)
theorem dX8_flowersOf_47 : decode cX8_flowersOf 47 = .ok (.imul, 1) := dk_104 (dk_at dksX8_flowersOf_1 23 rfl rfl)
theorem dX8_flowersOf_48 : decode cX8_flowersOf 48 = .ok (.iaload, 1) := dk_46 (dk_at dksX8_flowersOf_2 0 rfl rfl)
theorem dX8_flowersOf_49 : decode cX8_flowersOf 49 = .ok (.iadd, 1) := dk_96 (dk_at dksX8_flowersOf_2 1 rfl rfl)
theorem dX8_flowersOf_50 : decode cX8_flowersOf 50 = .ok (.goto 17, 3) := dk_167 0 17 (dk_at dksX8_flowersOf_2 2 rfl rfl)
theorem dX8_flowersOf_53 : decode cX8_flowersOf 53 = .ok (.iconst 0, 1) := dk_3 (dk_at dksX8_flowersOf_2 5 rfl rfl)
theorem dX8_flowersOf_54 : decode cX8_flowersOf 54 = .ok (.goto 13, 3) := dk_167 0 13 (dk_at dksX8_flowersOf_2 6 rfl rfl)
theorem dX8_flowersOf_57 : decode cX8_flowersOf 57 = .ok (.iload_n 3, 1) := dk_29 (dk_at dksX8_flowersOf_2 9 rfl rfl)
theorem dX8_flowersOf_58 : decode cX8_flowersOf 58 = .ok (.iconst 4, 1) := dk_7 (dk_at dksX8_flowersOf_2 10 rfl rfl)
theorem dX8_flowersOf_59 : decode cX8_flowersOf 59 = .ok (.if_icmp .ne 7, 3) := dk_160 0 7 (dk_at dksX8_flowersOf_2 11 rfl rfl)
theorem dX8_flowersOf_62 : decode cX8_flowersOf 62 = .ok (.iconst 0, 1) := dk_3 (dk_at dksX8_flowersOf_2 14 rfl rfl)
theorem dX8_flowersOf_63 : decode cX8_flowersOf 63 = .ok (.goto 4, 3) := dk_167 0 4 (dk_at dksX8_flowersOf_2 15 rfl rfl)
theorem dX8_flowersOf_66 : decode cX8_flowersOf 66 = .ok (.iload_n 2, 1) := dk_28 (dk_at dksX8_flowersOf_2 18 rfl rfl)
theorem dX8_flowersOf_67 : decode cX8_flowersOf 67 = .ok (.istore 4, 2) := dk_54 4 (dk_at dksX8_flowersOf_2 19 rfl rfl)
theorem dX8_flowersOf_69 : decode cX8_flowersOf 69 = .ok (.iload 4, 2) := dk_21 4 (dk_at dksX8_flowersOf_2 21 rfl rfl)
theorem dX8_flowersOf_71 : decode cX8_flowersOf 71 = .ok (.iconst 0, 1) := dk_3 (dk_at dksX8_flowersOf_2 23 rfl rfl)
theorem dX8_flowersOf_72 : decode cX8_flowersOf 72 = .ok (.ldc_w 337, 3) := dk_19 1 81 (dk_at dksX8_flowersOf_3 0 rfl rfl)
theorem dX8_flowersOf_75 : decode cX8_flowersOf 75 = .ok (.invokestatic 333, 3) := dk_184 1 77 (dk_at dksX8_flowersOf_3 3 rfl rfl)
theorem dX8_flowersOf_78 : decode cX8_flowersOf 78 = .ok (.ireturn, 1) := dk_172 (dk_at dksX8_flowersOf_3 6 rfl rfl)
def dkwX8_lays_3 : List UInt8 := [180, 0, 29, 28, 29, 79, 167, 0, 8, 42, 29, 181, 0, 104, 177]
abbrev dktX8_lays_3 : List UInt8 := dkwX8_lays_3 ++ []
def dkwX8_lays_2 : List UInt8 := [42, 180, 0, 32, 6, 28, 104, 27, 96, 6, 100, 29, 79, 167, 0, 24, 27, 16, 6, 160, 0, 13, 42]
abbrev dktX8_lays_2 : List UInt8 := dkwX8_lays_2 ++ dktX8_lays_3
def dkwX8_lays_1 : List UInt8 := [167, 0, 61, 27, 5, 160, 0, 13, 42, 180, 0, 26, 28, 29, 79, 167, 0, 46, 27, 16, 6, 162, 0, 19]
abbrev dktX8_lays_1 : List UInt8 := dkwX8_lays_1 ++ dktX8_lays_2
def dkwX8_lays_0 : List UInt8 := [27, 154, 0, 11, 42, 29, 181, 0, 101, 167, 0, 74, 27, 4, 160, 0, 11, 42, 29, 181, 0, 23]
abbrev dktX8_lays_0 : List UInt8 := dkwX8_lays_0 ++ dktX8_lays_1
theorem dksX8_lays_0 : cX8_lays.data.toList.drop 0 = dktX8_lays_0 := by decide +kernel
theorem dksX8_lays_1 : cX8_lays.data.toList.drop 22 = dktX8_lays_1 := dk_seg dksX8_lays_0 22 rfl rfl
theorem dksX8_lays_2 : cX8_lays.data.toList.drop 46 = dktX8_lays_2 := dk_seg dksX8_lays_1 24 rfl rfl
theorem dksX8_lays_3 : cX8_lays.data.toList.drop 69 = dktX8_lays_3 := dk_seg dksX8_lays_2 23 rfl rfl
theorem dX8_lays_0 : decode cX8_lays 0 = .ok (.iload_n 1, 1) := dk_27 (dk_at dksX8_lays_0 0 rfl rfl)
theorem dX8_lays_1 : decode cX8_lays 1 = .ok (.ifCond .ne 11, 3) := dk_154 0 11 (dk_at dksX8_lays_0 1 rfl rfl)
theorem dX8_lays_4 : decode cX8_lays 4 = .ok (.aload_n 0, 1) := dk_42 (dk_at dksX8_lays_0 4 rfl rfl)
theorem dX8_lays_5 : decode cX8_lays 5 = .ok (.iload_n 3, 1) := dk_29 (dk_at dksX8_lays_0 5 rfl rfl)
theorem dX8_lays_6 : decode cX8_lays 6 = .ok (.putfield 101, 3) := dk_181 0 101 (dk_at dksX8_lays_0 6 rfl rfl)
theorem dX8_lays_9 : decode cX8_lays 9 = .ok (.goto 74, 3) := dk_167 0 74 (dk_at dksX8_lays_0 9 rfl rfl)
theorem dX8_lays_12 : decode cX8_lays 12 = .ok (.iload_n 1, 1) := dk_27 (dk_at dksX8_lays_0 12 rfl rfl)
theorem dX8_lays_13 : decode cX8_lays 13 = .ok (.iconst 1, 1) := dk_4 (dk_at dksX8_lays_0 13 rfl rfl)
theorem dX8_lays_14 : decode cX8_lays 14 = .ok (.if_icmp .ne 11, 3) := dk_160 0 11 (dk_at dksX8_lays_0 14 rfl rfl)
theorem dX8_lays_17 : decode cX8_lays 17 = .ok (.aload_n 0, 1) := dk_42 (dk_at dksX8_lays_0 17 rfl rfl)
theorem dX8_lays_18 : decode cX8_lays 18 = .ok (.iload_n 3, 1) := dk_29 (dk_at dksX8_lays_0 18 rfl rfl)
theorem dX8_lays_19 : decode cX8_lays 19 = .ok (.putfield 23, 3) := dk_181 0 23 (dk_at dksX8_lays_0 19 rfl rfl)
theorem dX8_lays_22 : decode cX8_lays 22 = .ok (.goto 61, 3) := dk_167 0 61 (dk_at dksX8_lays_1 0 rfl rfl)
theorem dX8_lays_25 : decode cX8_lays 25 = .ok (.iload_n 1, 1) := dk_27 (dk_at dksX8_lays_1 3 rfl rfl)
theorem dX8_lays_26 : decode cX8_lays 26 = .ok (.iconst 2, 1) := dk_5 (dk_at dksX8_lays_1 4 rfl rfl)
theorem dX8_lays_27 : decode cX8_lays 27 = .ok (.if_icmp .ne 13, 3) := dk_160 0 13 (dk_at dksX8_lays_1 5 rfl rfl)
theorem dX8_lays_30 : decode cX8_lays 30 = .ok (.aload_n 0, 1) := dk_42 (dk_at dksX8_lays_1 8 rfl rfl)
theorem dX8_lays_31 : decode cX8_lays 31 = .ok (.getfield 26, 3) := dk_180 0 26 (dk_at dksX8_lays_1 9 rfl rfl)
theorem dX8_lays_34 : decode cX8_lays 34 = .ok (.iload_n 2, 1) := dk_28 (dk_at dksX8_lays_1 12 rfl rfl)
theorem dX8_lays_35 : decode cX8_lays 35 = .ok (.iload_n 3, 1) := dk_29 (dk_at dksX8_lays_1 13 rfl rfl)
theorem dX8_lays_36 : decode cX8_lays 36 = .ok (.iastore, 1) := dk_79 (dk_at dksX8_lays_1 14 rfl rfl)
theorem dX8_lays_37 : decode cX8_lays 37 = .ok (.goto 46, 3) := dk_167 0 46 (dk_at dksX8_lays_1 15 rfl rfl)
theorem dX8_lays_40 : decode cX8_lays 40 = .ok (.iload_n 1, 1) := dk_27 (dk_at dksX8_lays_1 18 rfl rfl)
theorem dX8_lays_41 : decode cX8_lays 41 = .ok (.bipush 6, 2) := dk_16 6 (dk_at dksX8_lays_1 19 rfl rfl)
theorem dX8_lays_43 : decode cX8_lays 43 = .ok (.if_icmp .ge 19, 3) := dk_162 0 19 (dk_at dksX8_lays_1 21 rfl rfl)
theorem dX8_lays_46 : decode cX8_lays 46 = .ok (.aload_n 0, 1) := dk_42 (dk_at dksX8_lays_2 0 rfl rfl)
theorem dX8_lays_47 : decode cX8_lays 47 = .ok (.getfield 32, 3) := dk_180 0 32 (dk_at dksX8_lays_2 1 rfl rfl)
theorem dX8_lays_50 : decode cX8_lays 50 = .ok (.iconst 3, 1) := dk_6 (dk_at dksX8_lays_2 4 rfl rfl)
theorem dX8_lays_51 : decode cX8_lays 51 = .ok (.iload_n 2, 1) := dk_28 (dk_at dksX8_lays_2 5 rfl rfl)
theorem dX8_lays_52 : decode cX8_lays 52 = .ok (.imul, 1) := dk_104 (dk_at dksX8_lays_2 6 rfl rfl)
theorem dX8_lays_53 : decode cX8_lays 53 = .ok (.iload_n 1, 1) := dk_27 (dk_at dksX8_lays_2 7 rfl rfl)
theorem dX8_lays_54 : decode cX8_lays 54 = .ok (.iadd, 1) := dk_96 (dk_at dksX8_lays_2 8 rfl rfl)
theorem dX8_lays_55 : decode cX8_lays 55 = .ok (.iconst 3, 1) := dk_6 (dk_at dksX8_lays_2 9 rfl rfl)
theorem dX8_lays_56 : decode cX8_lays 56 = .ok (.isub, 1) := dk_100 (dk_at dksX8_lays_2 10 rfl rfl)
theorem dX8_lays_57 : decode cX8_lays 57 = .ok (.iload_n 3, 1) := dk_29 (dk_at dksX8_lays_2 11 rfl rfl)
theorem dX8_lays_58 : decode cX8_lays 58 = .ok (.iastore, 1) := dk_79 (dk_at dksX8_lays_2 12 rfl rfl)
theorem dX8_lays_59 : decode cX8_lays 59 = .ok (.goto 24, 3) := dk_167 0 24 (dk_at dksX8_lays_2 13 rfl rfl)
theorem dX8_lays_62 : decode cX8_lays 62 = .ok (.iload_n 1, 1) := dk_27 (dk_at dksX8_lays_2 16 rfl rfl)
theorem dX8_lays_63 : decode cX8_lays 63 = .ok (.bipush 6, 2) := dk_16 6 (dk_at dksX8_lays_2 17 rfl rfl)
theorem dX8_lays_65 : decode cX8_lays 65 = .ok (.if_icmp .ne 13, 3) := dk_160 0 13 (dk_at dksX8_lays_2 19 rfl rfl)
theorem dX8_lays_68 : decode cX8_lays 68 = .ok (.aload_n 0, 1) := dk_42 (dk_at dksX8_lays_2 22 rfl rfl)
theorem dX8_lays_69 : decode cX8_lays 69 = .ok (.getfield 29, 3) := dk_180 0 29 (dk_at dksX8_lays_3 0 rfl rfl)
theorem dX8_lays_72 : decode cX8_lays 72 = .ok (.iload_n 2, 1) := dk_28 (dk_at dksX8_lays_3 3 rfl rfl)
theorem dX8_lays_73 : decode cX8_lays 73 = .ok (.iload_n 3, 1) := dk_29 (dk_at dksX8_lays_3 4 rfl rfl)
theorem dX8_lays_74 : decode cX8_lays 74 = .ok (.iastore, 1) := dk_79 (dk_at dksX8_lays_3 5 rfl rfl)
theorem dX8_lays_75 : decode cX8_lays 75 = .ok (.goto 8, 3) := dk_167 0 8 (dk_at dksX8_lays_3 6 rfl rfl)
theorem dX8_lays_78 : decode cX8_lays 78 = .ok (.aload_n 0, 1) := dk_42 (dk_at dksX8_lays_3 9 rfl rfl)
theorem dX8_lays_79 : decode cX8_lays 79 = .ok (.iload_n 3, 1) := dk_29 (dk_at dksX8_lays_3 10 rfl rfl)
theorem dX8_lays_80 : decode cX8_lays 80 = .ok (.putfield 104, 3) := dk_181 0 104 (dk_at dksX8_lays_3 11 rfl rfl)
theorem dX8_lays_83 : decode cX8_lays 83 = .ok (.return_, 1) := dk_177 (dk_at dksX8_lays_3 14 rfl rfl)
def dkwX8_plant_2 : List UInt8 := [28, 29, 4, 182, 0, 109, 42, 180, 0, 67, 4, 100, 172]
abbrev dktX8_plant_2 : List UInt8 := dkwX8_plant_2 ++ []
def dkwX8_plant_1 : List UInt8 := [29, 184, 0, 76, 154, 0, 6, 16, 254, 172, 42, 180, 0, 67, 16, 8, 160, 0, 6, 16, 252, 172, 42, 27]
abbrev dktX8_plant_1 : List UInt8 := dkwX8_plant_1 ++ dktX8_plant_2
def dkwX8_plant_0 : List UInt8 := [27, 133, 9, 20, 0, 83, 184, 0, 70, 153, 0, 22, 28, 133, 9, 20, 0, 107, 184, 0, 70, 153, 0, 10]
abbrev dktX8_plant_0 : List UInt8 := dkwX8_plant_0 ++ dktX8_plant_1
theorem dksX8_plant_0 : cX8_plant.data.toList.drop 0 = dktX8_plant_0 := by decide +kernel
theorem dksX8_plant_1 : cX8_plant.data.toList.drop 24 = dktX8_plant_1 := dk_seg dksX8_plant_0 24 rfl rfl
theorem dksX8_plant_2 : cX8_plant.data.toList.drop 48 = dktX8_plant_2 := dk_seg dksX8_plant_1 24 rfl rfl
theorem dX8_plant_0 : decode cX8_plant 0 = .ok (.iload_n 1, 1) := dk_27 (dk_at dksX8_plant_0 0 rfl rfl)
theorem dX8_plant_1 : decode cX8_plant 1 = .ok (.i2l, 1) := dk_133 (dk_at dksX8_plant_0 1 rfl rfl)
theorem dX8_plant_2 : decode cX8_plant 2 = .ok (.lconst 0, 1) := dk_9 (dk_at dksX8_plant_0 2 rfl rfl)
theorem dX8_plant_3 : decode cX8_plant 3 = .ok (.ldc2_w 83, 3) := dk_20 0 83 (dk_at dksX8_plant_0 3 rfl rfl)
theorem dX8_plant_6 : decode cX8_plant 6 = .ok (.invokestatic 70, 3) := dk_184 0 70 (dk_at dksX8_plant_0 6 rfl rfl)
theorem dX8_plant_9 : decode cX8_plant 9 = .ok (.ifCond .eq 22, 3) := dk_153 0 22 (dk_at dksX8_plant_0 9 rfl rfl)
theorem dX8_plant_12 : decode cX8_plant 12 = .ok (.iload_n 2, 1) := dk_28 (dk_at dksX8_plant_0 12 rfl rfl)
theorem dX8_plant_13 : decode cX8_plant 13 = .ok (.i2l, 1) := dk_133 (dk_at dksX8_plant_0 13 rfl rfl)
theorem dX8_plant_14 : decode cX8_plant 14 = .ok (.lconst 0, 1) := dk_9 (dk_at dksX8_plant_0 14 rfl rfl)
theorem dX8_plant_15 : decode cX8_plant 15 = .ok (.ldc2_w 107, 3) := dk_20 0 107 (dk_at dksX8_plant_0 15 rfl rfl)
theorem dX8_plant_18 : decode cX8_plant 18 = .ok (.invokestatic 70, 3) := dk_184 0 70 (dk_at dksX8_plant_0 18 rfl rfl)
theorem dX8_plant_21 : decode cX8_plant 21 = .ok (.ifCond .eq 10, 3) := dk_153 0 10 (dk_at dksX8_plant_0 21 rfl rfl)
theorem dX8_plant_24 : decode cX8_plant 24 = .ok (.iload_n 3, 1) := dk_29 (dk_at dksX8_plant_1 0 rfl rfl)
theorem dX8_plant_25 : decode cX8_plant 25 = .ok (.invokestatic 76, 3) := dk_184 0 76 (dk_at dksX8_plant_1 1 rfl rfl)
theorem dX8_plant_28 : decode cX8_plant 28 = .ok (.ifCond .ne 6, 3) := dk_154 0 6 (dk_at dksX8_plant_1 4 rfl rfl)
theorem dX8_plant_31 : decode cX8_plant 31 = .ok (.bipush (-2), 2) := dk_16 254 (dk_at dksX8_plant_1 7 rfl rfl)
theorem dX8_plant_33 : decode cX8_plant 33 = .ok (.ireturn, 1) := dk_172 (dk_at dksX8_plant_1 9 rfl rfl)
theorem dX8_plant_34 : decode cX8_plant 34 = .ok (.aload_n 0, 1) := dk_42 (dk_at dksX8_plant_1 10 rfl rfl)
theorem dX8_plant_35 : decode cX8_plant 35 = .ok (.getfield 67, 3) := dk_180 0 67 (dk_at dksX8_plant_1 11 rfl rfl)
theorem dX8_plant_38 : decode cX8_plant 38 = .ok (.bipush 8, 2) := dk_16 8 (dk_at dksX8_plant_1 14 rfl rfl)
theorem dX8_plant_40 : decode cX8_plant 40 = .ok (.if_icmp .ne 6, 3) := dk_160 0 6 (dk_at dksX8_plant_1 16 rfl rfl)
theorem dX8_plant_43 : decode cX8_plant 43 = .ok (.bipush (-4), 2) := dk_16 252 (dk_at dksX8_plant_1 19 rfl rfl)
theorem dX8_plant_45 : decode cX8_plant 45 = .ok (.ireturn, 1) := dk_172 (dk_at dksX8_plant_1 21 rfl rfl)
theorem dX8_plant_46 : decode cX8_plant 46 = .ok (.aload_n 0, 1) := dk_42 (dk_at dksX8_plant_1 22 rfl rfl)
theorem dX8_plant_47 : decode cX8_plant 47 = .ok (.iload_n 1, 1) := dk_27 (dk_at dksX8_plant_1 23 rfl rfl)
theorem dX8_plant_48 : decode cX8_plant 48 = .ok (.iload_n 2, 1) := dk_28 (dk_at dksX8_plant_2 0 rfl rfl)
theorem dX8_plant_49 : decode cX8_plant 49 = .ok (.iload_n 3, 1) := dk_29 (dk_at dksX8_plant_2 1 rfl rfl)
theorem dX8_plant_50 : decode cX8_plant 50 = .ok (.iconst 1, 1) := dk_4 (dk_at dksX8_plant_2 2 rfl rfl)
theorem dX8_plant_51 : decode cX8_plant 51 = .ok (.invokevirtual 109, 3) := dk_182 0 109 (dk_at dksX8_plant_2 3 rfl rfl)
theorem dX8_plant_54 : decode cX8_plant 54 = .ok (.aload_n 0, 1) := dk_42 (dk_at dksX8_plant_2 6 rfl rfl)
theorem dX8_plant_55 : decode cX8_plant 55 = .ok (.getfield 67, 3) := dk_180 0 67 (dk_at dksX8_plant_2 7 rfl rfl)
theorem dX8_plant_58 : decode cX8_plant 58 = .ok (.iconst 1, 1) := dk_4 (dk_at dksX8_plant_2 10 rfl rfl)
theorem dX8_plant_59 : decode cX8_plant 59 = .ok (.isub, 1) := dk_100 (dk_at dksX8_plant_2 11 rfl rfl)
theorem dX8_plant_60 : decode cX8_plant 60 = .ok (.ireturn, 1) := dk_172 (dk_at dksX8_plant_2 12 rfl rfl)
def dkwX8_comes_2 : List UInt8 := [96, 21, 4, 79, 42, 89, 180, 0, 67, 4, 96, 181, 0, 67, 177]
abbrev dktX8_comes_2 : List UInt8 := dkwX8_comes_2 ++ []
def dkwX8_comes_1 : List UInt8 := [180, 0, 32, 6, 42, 180, 0, 67, 104, 4, 96, 29, 79, 42, 180, 0, 32, 6, 42, 180, 0, 67, 104, 5]
abbrev dktX8_comes_1 : List UInt8 := dkwX8_comes_1 ++ dktX8_comes_2
def dkwX8_comes_0 : List UInt8 := [42, 180, 0, 29, 42, 180, 0, 67, 27, 79, 42, 180, 0, 32, 6, 42, 180, 0, 67, 104, 28, 79, 42]
abbrev dktX8_comes_0 : List UInt8 := dkwX8_comes_0 ++ dktX8_comes_1
theorem dksX8_comes_0 : cX8_comes.data.toList.drop 0 = dktX8_comes_0 := by decide +kernel
theorem dksX8_comes_1 : cX8_comes.data.toList.drop 23 = dktX8_comes_1 := dk_seg dksX8_comes_0 23 rfl rfl
theorem dksX8_comes_2 : cX8_comes.data.toList.drop 47 = dktX8_comes_2 := dk_seg dksX8_comes_1 24 rfl rfl
theorem dX8_comes_0 : decode cX8_comes 0 = .ok (.aload_n 0, 1) := dk_42 (dk_at dksX8_comes_0 0 rfl rfl)
theorem dX8_comes_1 : decode cX8_comes 1 = .ok (.getfield 29, 3) := dk_180 0 29 (dk_at dksX8_comes_0 1 rfl rfl)
theorem dX8_comes_4 : decode cX8_comes 4 = .ok (.aload_n 0, 1) := dk_42 (dk_at dksX8_comes_0 4 rfl rfl)
theorem dX8_comes_5 : decode cX8_comes 5 = .ok (.getfield 67, 3) := dk_180 0 67 (dk_at dksX8_comes_0 5 rfl rfl)
theorem dX8_comes_8 : decode cX8_comes 8 = .ok (.iload_n 1, 1) := dk_27 (dk_at dksX8_comes_0 8 rfl rfl)
theorem dX8_comes_9 : decode cX8_comes 9 = .ok (.iastore, 1) := dk_79 (dk_at dksX8_comes_0 9 rfl rfl)
theorem dX8_comes_10 : decode cX8_comes 10 = .ok (.aload_n 0, 1) := dk_42 (dk_at dksX8_comes_0 10 rfl rfl)
theorem dX8_comes_11 : decode cX8_comes 11 = .ok (.getfield 32, 3) := dk_180 0 32 (dk_at dksX8_comes_0 11 rfl rfl)
theorem dX8_comes_14 : decode cX8_comes 14 = .ok (.iconst 3, 1) := dk_6 (dk_at dksX8_comes_0 14 rfl rfl)
theorem dX8_comes_15 : decode cX8_comes 15 = .ok (.aload_n 0, 1) := dk_42 (dk_at dksX8_comes_0 15 rfl rfl)
theorem dX8_comes_16 : decode cX8_comes 16 = .ok (.getfield 67, 3) := dk_180 0 67 (dk_at dksX8_comes_0 16 rfl rfl)
theorem dX8_comes_19 : decode cX8_comes 19 = .ok (.imul, 1) := dk_104 (dk_at dksX8_comes_0 19 rfl rfl)
theorem dX8_comes_20 : decode cX8_comes 20 = .ok (.iload_n 2, 1) := dk_28 (dk_at dksX8_comes_0 20 rfl rfl)
theorem dX8_comes_21 : decode cX8_comes 21 = .ok (.iastore, 1) := dk_79 (dk_at dksX8_comes_0 21 rfl rfl)
theorem dX8_comes_22 : decode cX8_comes 22 = .ok (.aload_n 0, 1) := dk_42 (dk_at dksX8_comes_0 22 rfl rfl)
theorem dX8_comes_23 : decode cX8_comes 23 = .ok (.getfield 32, 3) := dk_180 0 32 (dk_at dksX8_comes_1 0 rfl rfl)
theorem dX8_comes_26 : decode cX8_comes 26 = .ok (.iconst 3, 1) := dk_6 (dk_at dksX8_comes_1 3 rfl rfl)
theorem dX8_comes_27 : decode cX8_comes 27 = .ok (.aload_n 0, 1) := dk_42 (dk_at dksX8_comes_1 4 rfl rfl)
theorem dX8_comes_28 : decode cX8_comes 28 = .ok (.getfield 67, 3) := dk_180 0 67 (dk_at dksX8_comes_1 5 rfl rfl)
theorem dX8_comes_31 : decode cX8_comes 31 = .ok (.imul, 1) := dk_104 (dk_at dksX8_comes_1 8 rfl rfl)
theorem dX8_comes_32 : decode cX8_comes 32 = .ok (.iconst 1, 1) := dk_4 (dk_at dksX8_comes_1 9 rfl rfl)
theorem dX8_comes_33 : decode cX8_comes 33 = .ok (.iadd, 1) := dk_96 (dk_at dksX8_comes_1 10 rfl rfl)
theorem dX8_comes_34 : decode cX8_comes 34 = .ok (.iload_n 3, 1) := dk_29 (dk_at dksX8_comes_1 11 rfl rfl)
theorem dX8_comes_35 : decode cX8_comes 35 = .ok (.iastore, 1) := dk_79 (dk_at dksX8_comes_1 12 rfl rfl)
theorem dX8_comes_36 : decode cX8_comes 36 = .ok (.aload_n 0, 1) := dk_42 (dk_at dksX8_comes_1 13 rfl rfl)
theorem dX8_comes_37 : decode cX8_comes 37 = .ok (.getfield 32, 3) := dk_180 0 32 (dk_at dksX8_comes_1 14 rfl rfl)
theorem dX8_comes_40 : decode cX8_comes 40 = .ok (.iconst 3, 1) := dk_6 (dk_at dksX8_comes_1 17 rfl rfl)
theorem dX8_comes_41 : decode cX8_comes 41 = .ok (.aload_n 0, 1) := dk_42 (dk_at dksX8_comes_1 18 rfl rfl)
theorem dX8_comes_42 : decode cX8_comes 42 = .ok (.getfield 67, 3) := dk_180 0 67 (dk_at dksX8_comes_1 19 rfl rfl)
theorem dX8_comes_45 : decode cX8_comes 45 = .ok (.imul, 1) := dk_104 (dk_at dksX8_comes_1 22 rfl rfl)
theorem dX8_comes_46 : decode cX8_comes 46 = .ok (.iconst 2, 1) := dk_5 (dk_at dksX8_comes_1 23 rfl rfl)
theorem dX8_comes_47 : decode cX8_comes 47 = .ok (.iadd, 1) := dk_96 (dk_at dksX8_comes_2 0 rfl rfl)
theorem dX8_comes_48 : decode cX8_comes 48 = .ok (.iload 4, 2) := dk_21 4 (dk_at dksX8_comes_2 1 rfl rfl)
theorem dX8_comes_50 : decode cX8_comes 50 = .ok (.iastore, 1) := dk_79 (dk_at dksX8_comes_2 3 rfl rfl)
theorem dX8_comes_51 : decode cX8_comes 51 = .ok (.aload_n 0, 1) := dk_42 (dk_at dksX8_comes_2 4 rfl rfl)
theorem dX8_comes_52 : decode cX8_comes 52 = .ok (.dup, 1) := dk_89 (dk_at dksX8_comes_2 5 rfl rfl)
theorem dX8_comes_53 : decode cX8_comes 53 = .ok (.getfield 67, 3) := dk_180 0 67 (dk_at dksX8_comes_2 6 rfl rfl)
theorem dX8_comes_56 : decode cX8_comes 56 = .ok (.iconst 1, 1) := dk_4 (dk_at dksX8_comes_2 9 rfl rfl)
theorem dX8_comes_57 : decode cX8_comes 57 = .ok (.iadd, 1) := dk_96 (dk_at dksX8_comes_2 10 rfl rfl)
theorem dX8_comes_58 : decode cX8_comes 58 = .ok (.putfield 67, 3) := dk_181 0 67 (dk_at dksX8_comes_2 11 rfl rfl)
theorem dX8_comes_61 : decode cX8_comes 61 = .ok (.return_, 1) := dk_177 (dk_at dksX8_comes_2 14 rfl rfl)
def dkwX8_feed_2 : List UInt8 := [181, 0, 129, 42, 180, 0, 129, 172]
abbrev dktX8_feed_2 : List UInt8 := dkwX8_feed_2 ++ []
def dkwX8_feed_1 : List UInt8 := [160, 0, 6, 16, 252, 172, 42, 180, 0, 20, 42, 180, 0, 129, 27, 79, 42, 89, 180, 0, 129, 4, 96]
abbrev dktX8_feed_1 : List UInt8 := dkwX8_feed_1 ++ dktX8_feed_2
def dkwX8_feed_0 : List UInt8 := [27, 133, 9, 20, 0, 127, 184, 0, 70, 154, 0, 6, 16, 254, 172, 42, 180, 0, 129, 17, 0, 160]
abbrev dktX8_feed_0 : List UInt8 := dkwX8_feed_0 ++ dktX8_feed_1
theorem dksX8_feed_0 : cX8_feed.data.toList.drop 0 = dktX8_feed_0 := by decide +kernel
theorem dksX8_feed_1 : cX8_feed.data.toList.drop 22 = dktX8_feed_1 := dk_seg dksX8_feed_0 22 rfl rfl
theorem dksX8_feed_2 : cX8_feed.data.toList.drop 45 = dktX8_feed_2 := dk_seg dksX8_feed_1 23 rfl rfl
theorem dX8_feed_0 : decode cX8_feed 0 = .ok (.iload_n 1, 1) := dk_27 (dk_at dksX8_feed_0 0 rfl rfl)
theorem dX8_feed_1 : decode cX8_feed 1 = .ok (.i2l, 1) := dk_133 (dk_at dksX8_feed_0 1 rfl rfl)
theorem dX8_feed_2 : decode cX8_feed 2 = .ok (.lconst 0, 1) := dk_9 (dk_at dksX8_feed_0 2 rfl rfl)
theorem dX8_feed_3 : decode cX8_feed 3 = .ok (.ldc2_w 127, 3) := dk_20 0 127 (dk_at dksX8_feed_0 3 rfl rfl)
theorem dX8_feed_6 : decode cX8_feed 6 = .ok (.invokestatic 70, 3) := dk_184 0 70 (dk_at dksX8_feed_0 6 rfl rfl)
theorem dX8_feed_9 : decode cX8_feed 9 = .ok (.ifCond .ne 6, 3) := dk_154 0 6 (dk_at dksX8_feed_0 9 rfl rfl)
theorem dX8_feed_12 : decode cX8_feed 12 = .ok (.bipush (-2), 2) := dk_16 254 (dk_at dksX8_feed_0 12 rfl rfl)
theorem dX8_feed_14 : decode cX8_feed 14 = .ok (.ireturn, 1) := dk_172 (dk_at dksX8_feed_0 14 rfl rfl)
theorem dX8_feed_15 : decode cX8_feed 15 = .ok (.aload_n 0, 1) := dk_42 (dk_at dksX8_feed_0 15 rfl rfl)
theorem dX8_feed_16 : decode cX8_feed 16 = .ok (.getfield 129, 3) := dk_180 0 129 (dk_at dksX8_feed_0 16 rfl rfl)
theorem dX8_feed_19 : decode cX8_feed 19 = .ok (.sipush 160, 3) := dk_17 0 160 (dk_at dksX8_feed_0 19 rfl rfl)
theorem dX8_feed_22 : decode cX8_feed 22 = .ok (.if_icmp .ne 6, 3) := dk_160 0 6 (dk_at dksX8_feed_1 0 rfl rfl)
theorem dX8_feed_25 : decode cX8_feed 25 = .ok (.bipush (-4), 2) := dk_16 252 (dk_at dksX8_feed_1 3 rfl rfl)
theorem dX8_feed_27 : decode cX8_feed 27 = .ok (.ireturn, 1) := dk_172 (dk_at dksX8_feed_1 5 rfl rfl)
theorem dX8_feed_28 : decode cX8_feed 28 = .ok (.aload_n 0, 1) := dk_42 (dk_at dksX8_feed_1 6 rfl rfl)
theorem dX8_feed_29 : decode cX8_feed 29 = .ok (.getfield 20, 3) := dk_180 0 20 (dk_at dksX8_feed_1 7 rfl rfl)
theorem dX8_feed_32 : decode cX8_feed 32 = .ok (.aload_n 0, 1) := dk_42 (dk_at dksX8_feed_1 10 rfl rfl)
theorem dX8_feed_33 : decode cX8_feed 33 = .ok (.getfield 129, 3) := dk_180 0 129 (dk_at dksX8_feed_1 11 rfl rfl)
theorem dX8_feed_36 : decode cX8_feed 36 = .ok (.iload_n 1, 1) := dk_27 (dk_at dksX8_feed_1 14 rfl rfl)
theorem dX8_feed_37 : decode cX8_feed 37 = .ok (.iastore, 1) := dk_79 (dk_at dksX8_feed_1 15 rfl rfl)
theorem dX8_feed_38 : decode cX8_feed 38 = .ok (.aload_n 0, 1) := dk_42 (dk_at dksX8_feed_1 16 rfl rfl)
theorem dX8_feed_39 : decode cX8_feed 39 = .ok (.dup, 1) := dk_89 (dk_at dksX8_feed_1 17 rfl rfl)
theorem dX8_feed_40 : decode cX8_feed 40 = .ok (.getfield 129, 3) := dk_180 0 129 (dk_at dksX8_feed_1 18 rfl rfl)
theorem dX8_feed_43 : decode cX8_feed 43 = .ok (.iconst 1, 1) := dk_4 (dk_at dksX8_feed_1 21 rfl rfl)
theorem dX8_feed_44 : decode cX8_feed 44 = .ok (.iadd, 1) := dk_96 (dk_at dksX8_feed_1 22 rfl rfl)
theorem dX8_feed_45 : decode cX8_feed 45 = .ok (.putfield 129, 3) := dk_181 0 129 (dk_at dksX8_feed_2 0 rfl rfl)
theorem dX8_feed_48 : decode cX8_feed 48 = .ok (.aload_n 0, 1) := dk_42 (dk_at dksX8_feed_2 3 rfl rfl)
theorem dX8_feed_49 : decode cX8_feed 49 = .ok (.getfield 129, 3) := dk_180 0 129 (dk_at dksX8_feed_2 4 rfl rfl)
theorem dX8_feed_52 : decode cX8_feed 52 = .ok (.ireturn, 1) := dk_172 (dk_at dksX8_feed_2 7 rfl rfl)
def dkwX8_text_4 : List UInt8 := [89, 180, 0, 64, 4, 96, 181, 0, 64, 42, 180, 0, 64, 4, 100, 172]
abbrev dktX8_text_4 : List UInt8 := dkwX8_text_4 ++ []
def dkwX8_text_3 : List UInt8 := [180, 0, 64, 3, 182, 1, 74, 60, 42, 180, 0, 162, 153, 0, 11, 16, 156, 42, 180, 0, 166, 100, 172, 42]
abbrev dktX8_text_3 : List UInt8 := dkwX8_text_3 ++ dktX8_text_4
def dkwX8_text_2 : List UInt8 := [167, 255, 224, 42, 180, 0, 17, 42, 180, 0, 64, 42, 180, 0, 129, 79, 42, 3, 181, 0, 129, 42, 42]
abbrev dktX8_text_2 : List UInt8 := dkwX8_text_2 ++ dktX8_text_3
def dkwX8_text_1 : List UInt8 := [180, 0, 13, 17, 0, 160, 42, 180, 0, 64, 104, 27, 96, 42, 180, 0, 20, 27, 46, 79, 132, 1, 1]
abbrev dktX8_text_1 : List UInt8 := dkwX8_text_1 ++ dktX8_text_2
def dkwX8_text_0 : List UInt8 := [42, 180, 0, 64, 16, 6, 160, 0, 6, 16, 252, 172, 3, 60, 27, 42, 180, 0, 129, 162, 0, 30, 42]
abbrev dktX8_text_0 : List UInt8 := dkwX8_text_0 ++ dktX8_text_1
theorem dksX8_text_0 : cX8_text.data.toList.drop 0 = dktX8_text_0 := by decide +kernel
theorem dksX8_text_1 : cX8_text.data.toList.drop 23 = dktX8_text_1 := dk_seg dksX8_text_0 23 rfl rfl
theorem dksX8_text_2 : cX8_text.data.toList.drop 46 = dktX8_text_2 := dk_seg dksX8_text_1 23 rfl rfl
theorem dksX8_text_3 : cX8_text.data.toList.drop 69 = dktX8_text_3 := dk_seg dksX8_text_2 23 rfl rfl
theorem dksX8_text_4 : cX8_text.data.toList.drop 93 = dktX8_text_4 := dk_seg dksX8_text_3 24 rfl rfl
theorem dX8_text_0 : decode cX8_text 0 = .ok (.aload_n 0, 1) := dk_42 (dk_at dksX8_text_0 0 rfl rfl)
theorem dX8_text_1 : decode cX8_text 1 = .ok (.getfield 64, 3) := dk_180 0 64 (dk_at dksX8_text_0 1 rfl rfl)
theorem dX8_text_4 : decode cX8_text 4 = .ok (.bipush 6, 2) := dk_16 6 (dk_at dksX8_text_0 4 rfl rfl)
theorem dX8_text_6 : decode cX8_text 6 = .ok (.if_icmp .ne 6, 3) := dk_160 0 6 (dk_at dksX8_text_0 6 rfl rfl)
theorem dX8_text_9 : decode cX8_text 9 = .ok (.bipush (-4), 2) := dk_16 252 (dk_at dksX8_text_0 9 rfl rfl)
theorem dX8_text_11 : decode cX8_text 11 = .ok (.ireturn, 1) := dk_172 (dk_at dksX8_text_0 11 rfl rfl)
theorem dX8_text_12 : decode cX8_text 12 = .ok (.iconst 0, 1) := dk_3 (dk_at dksX8_text_0 12 rfl rfl)
theorem dX8_text_13 : decode cX8_text 13 = .ok (.istore_n 1, 1) := dk_60 (dk_at dksX8_text_0 13 rfl rfl)
theorem dX8_text_14 : decode cX8_text 14 = .ok (.iload_n 1, 1) := dk_27 (dk_at dksX8_text_0 14 rfl rfl)
theorem dX8_text_15 : decode cX8_text 15 = .ok (.aload_n 0, 1) := dk_42 (dk_at dksX8_text_0 15 rfl rfl)
theorem dX8_text_16 : decode cX8_text 16 = .ok (.getfield 129, 3) := dk_180 0 129 (dk_at dksX8_text_0 16 rfl rfl)
theorem dX8_text_19 : decode cX8_text 19 = .ok (.if_icmp .ge 30, 3) := dk_162 0 30 (dk_at dksX8_text_0 19 rfl rfl)
theorem dX8_text_22 : decode cX8_text 22 = .ok (.aload_n 0, 1) := dk_42 (dk_at dksX8_text_0 22 rfl rfl)
theorem dX8_text_23 : decode cX8_text 23 = .ok (.getfield 13, 3) := dk_180 0 13 (dk_at dksX8_text_1 0 rfl rfl)
theorem dX8_text_26 : decode cX8_text 26 = .ok (.sipush 160, 3) := dk_17 0 160 (dk_at dksX8_text_1 3 rfl rfl)
theorem dX8_text_29 : decode cX8_text 29 = .ok (.aload_n 0, 1) := dk_42 (dk_at dksX8_text_1 6 rfl rfl)
theorem dX8_text_30 : decode cX8_text 30 = .ok (.getfield 64, 3) := dk_180 0 64 (dk_at dksX8_text_1 7 rfl rfl)
theorem dX8_text_33 : decode cX8_text 33 = .ok (.imul, 1) := dk_104 (dk_at dksX8_text_1 10 rfl rfl)
theorem dX8_text_34 : decode cX8_text 34 = .ok (.iload_n 1, 1) := dk_27 (dk_at dksX8_text_1 11 rfl rfl)
theorem dX8_text_35 : decode cX8_text 35 = .ok (.iadd, 1) := dk_96 (dk_at dksX8_text_1 12 rfl rfl)
theorem dX8_text_36 : decode cX8_text 36 = .ok (.aload_n 0, 1) := dk_42 (dk_at dksX8_text_1 13 rfl rfl)
theorem dX8_text_37 : decode cX8_text 37 = .ok (.getfield 20, 3) := dk_180 0 20 (dk_at dksX8_text_1 14 rfl rfl)
theorem dX8_text_40 : decode cX8_text 40 = .ok (.iload_n 1, 1) := dk_27 (dk_at dksX8_text_1 17 rfl rfl)
theorem dX8_text_41 : decode cX8_text 41 = .ok (.iaload, 1) := dk_46 (dk_at dksX8_text_1 18 rfl rfl)
theorem dX8_text_42 : decode cX8_text 42 = .ok (.iastore, 1) := dk_79 (dk_at dksX8_text_1 19 rfl rfl)
theorem dX8_text_43 : decode cX8_text 43 = .ok (.iinc 1 1, 3) := dk_132 1 1 (dk_at dksX8_text_1 20 rfl rfl)
theorem dX8_text_46 : decode cX8_text 46 = .ok (.goto (-32), 3) := dk_167 255 224 (dk_at dksX8_text_2 0 rfl rfl)
theorem dX8_text_49 : decode cX8_text 49 = .ok (.aload_n 0, 1) := dk_42 (dk_at dksX8_text_2 3 rfl rfl)
theorem dX8_text_50 : decode cX8_text 50 = .ok (.getfield 17, 3) := dk_180 0 17 (dk_at dksX8_text_2 4 rfl rfl)
theorem dX8_text_53 : decode cX8_text 53 = .ok (.aload_n 0, 1) := dk_42 (dk_at dksX8_text_2 7 rfl rfl)
theorem dX8_text_54 : decode cX8_text 54 = .ok (.getfield 64, 3) := dk_180 0 64 (dk_at dksX8_text_2 8 rfl rfl)
theorem dX8_text_57 : decode cX8_text 57 = .ok (.aload_n 0, 1) := dk_42 (dk_at dksX8_text_2 11 rfl rfl)
theorem dX8_text_58 : decode cX8_text 58 = .ok (.getfield 129, 3) := dk_180 0 129 (dk_at dksX8_text_2 12 rfl rfl)
theorem dX8_text_61 : decode cX8_text 61 = .ok (.iastore, 1) := dk_79 (dk_at dksX8_text_2 15 rfl rfl)
theorem dX8_text_62 : decode cX8_text 62 = .ok (.aload_n 0, 1) := dk_42 (dk_at dksX8_text_2 16 rfl rfl)
theorem dX8_text_63 : decode cX8_text 63 = .ok (.iconst 0, 1) := dk_3 (dk_at dksX8_text_2 17 rfl rfl)
theorem dX8_text_64 : decode cX8_text 64 = .ok (.putfield 129, 3) := dk_181 0 129 (dk_at dksX8_text_2 18 rfl rfl)
theorem dX8_text_67 : decode cX8_text 67 = .ok (.aload_n 0, 1) := dk_42 (dk_at dksX8_text_2 21 rfl rfl)
theorem dX8_text_68 : decode cX8_text 68 = .ok (.aload_n 0, 1) := dk_42 (dk_at dksX8_text_2 22 rfl rfl)
theorem dX8_text_69 : decode cX8_text 69 = .ok (.getfield 64, 3) := dk_180 0 64 (dk_at dksX8_text_3 0 rfl rfl)
theorem dX8_text_72 : decode cX8_text 72 = .ok (.iconst 0, 1) := dk_3 (dk_at dksX8_text_3 3 rfl rfl)
theorem dX8_text_73 : decode cX8_text 73 = .ok (.invokevirtual 330, 3) := dk_182 1 74 (dk_at dksX8_text_3 4 rfl rfl)
theorem dX8_text_76 : decode cX8_text 76 = .ok (.istore_n 1, 1) := dk_60 (dk_at dksX8_text_3 7 rfl rfl)
theorem dX8_text_77 : decode cX8_text 77 = .ok (.aload_n 0, 1) := dk_42 (dk_at dksX8_text_3 8 rfl rfl)
theorem dX8_text_78 : decode cX8_text 78 = .ok (.getfield 162, 3) := dk_180 0 162 (dk_at dksX8_text_3 9 rfl rfl)
theorem dX8_text_81 : decode cX8_text 81 = .ok (.ifCond .eq 11, 3) := dk_153 0 11 (dk_at dksX8_text_3 12 rfl rfl)
theorem dX8_text_84 : decode cX8_text 84 = .ok (.bipush (-100), 2) := dk_16 156 (dk_at dksX8_text_3 15 rfl rfl)
theorem dX8_text_86 : decode cX8_text 86 = .ok (.aload_n 0, 1) := dk_42 (dk_at dksX8_text_3 17 rfl rfl)
theorem dX8_text_87 : decode cX8_text 87 = .ok (.getfield 166, 3) := dk_180 0 166 (dk_at dksX8_text_3 18 rfl rfl)
theorem dX8_text_90 : decode cX8_text 90 = .ok (.isub, 1) := dk_100 (dk_at dksX8_text_3 21 rfl rfl)
theorem dX8_text_91 : decode cX8_text 91 = .ok (.ireturn, 1) := dk_172 (dk_at dksX8_text_3 22 rfl rfl)
theorem dX8_text_92 : decode cX8_text 92 = .ok (.aload_n 0, 1) := dk_42 (dk_at dksX8_text_3 23 rfl rfl)
theorem dX8_text_93 : decode cX8_text 93 = .ok (.dup, 1) := dk_89 (dk_at dksX8_text_4 0 rfl rfl)
theorem dX8_text_94 : decode cX8_text 94 = .ok (.getfield 64, 3) := dk_180 0 64 (dk_at dksX8_text_4 1 rfl rfl)
theorem dX8_text_97 : decode cX8_text 97 = .ok (.iconst 1, 1) := dk_4 (dk_at dksX8_text_4 4 rfl rfl)
theorem dX8_text_98 : decode cX8_text 98 = .ok (.iadd, 1) := dk_96 (dk_at dksX8_text_4 5 rfl rfl)
theorem dX8_text_99 : decode cX8_text 99 = .ok (.putfield 64, 3) := dk_181 0 64 (dk_at dksX8_text_4 6 rfl rfl)
theorem dX8_text_102 : decode cX8_text 102 = .ok (.aload_n 0, 1) := dk_42 (dk_at dksX8_text_4 9 rfl rfl)
theorem dX8_text_103 : decode cX8_text 103 = .ok (.getfield 64, 3) := dk_180 0 64 (dk_at dksX8_text_4 10 rfl rfl)
theorem dX8_text_106 : decode cX8_text 106 = .ok (.iconst 1, 1) := dk_4 (dk_at dksX8_text_4 13 rfl rfl)
theorem dX8_text_107 : decode cX8_text 107 = .ok (.isub, 1) := dk_100 (dk_at dksX8_text_4 14 rfl rfl)
theorem dX8_text_108 : decode cX8_text 108 = .ok (.ireturn, 1) := dk_172 (dk_at dksX8_text_4 15 rfl rfl)
def dkwX8_force_1 : List UInt8 := [42, 27, 181, 0, 104, 28, 172]
abbrev dktX8_force_1 : List UInt8 := dkwX8_force_1 ++ []
def dkwX8_force_0 : List UInt8 := [27, 133, 9, 42, 180, 0, 64, 4, 100, 133, 184, 0, 70, 154, 0, 6, 16, 254, 172, 42, 180, 0, 104, 61]
abbrev dktX8_force_0 : List UInt8 := dkwX8_force_0 ++ dktX8_force_1
theorem dksX8_force_0 : cX8_force.data.toList.drop 0 = dktX8_force_0 := by decide +kernel
theorem dksX8_force_1 : cX8_force.data.toList.drop 24 = dktX8_force_1 := dk_seg dksX8_force_0 24 rfl rfl
theorem dX8_force_0 : decode cX8_force 0 = .ok (.iload_n 1, 1) := dk_27 (dk_at dksX8_force_0 0 rfl rfl)
theorem dX8_force_1 : decode cX8_force 1 = .ok (.i2l, 1) := dk_133 (dk_at dksX8_force_0 1 rfl rfl)
theorem dX8_force_2 : decode cX8_force 2 = .ok (.lconst 0, 1) := dk_9 (dk_at dksX8_force_0 2 rfl rfl)
theorem dX8_force_3 : decode cX8_force 3 = .ok (.aload_n 0, 1) := dk_42 (dk_at dksX8_force_0 3 rfl rfl)
theorem dX8_force_4 : decode cX8_force 4 = .ok (.getfield 64, 3) := dk_180 0 64 (dk_at dksX8_force_0 4 rfl rfl)
theorem dX8_force_7 : decode cX8_force 7 = .ok (.iconst 1, 1) := dk_4 (dk_at dksX8_force_0 7 rfl rfl)
theorem dX8_force_8 : decode cX8_force 8 = .ok (.isub, 1) := dk_100 (dk_at dksX8_force_0 8 rfl rfl)
theorem dX8_force_9 : decode cX8_force 9 = .ok (.i2l, 1) := dk_133 (dk_at dksX8_force_0 9 rfl rfl)
theorem dX8_force_10 : decode cX8_force 10 = .ok (.invokestatic 70, 3) := dk_184 0 70 (dk_at dksX8_force_0 10 rfl rfl)
theorem dX8_force_13 : decode cX8_force 13 = .ok (.ifCond .ne 6, 3) := dk_154 0 6 (dk_at dksX8_force_0 13 rfl rfl)
theorem dX8_force_16 : decode cX8_force 16 = .ok (.bipush (-2), 2) := dk_16 254 (dk_at dksX8_force_0 16 rfl rfl)
theorem dX8_force_18 : decode cX8_force 18 = .ok (.ireturn, 1) := dk_172 (dk_at dksX8_force_0 18 rfl rfl)
theorem dX8_force_19 : decode cX8_force 19 = .ok (.aload_n 0, 1) := dk_42 (dk_at dksX8_force_0 19 rfl rfl)
theorem dX8_force_20 : decode cX8_force 20 = .ok (.getfield 104, 3) := dk_180 0 104 (dk_at dksX8_force_0 20 rfl rfl)
theorem dX8_force_23 : decode cX8_force 23 = .ok (.istore_n 2, 1) := dk_61 (dk_at dksX8_force_0 23 rfl rfl)
theorem dX8_force_24 : decode cX8_force 24 = .ok (.aload_n 0, 1) := dk_42 (dk_at dksX8_force_1 0 rfl rfl)
theorem dX8_force_25 : decode cX8_force 25 = .ok (.iload_n 1, 1) := dk_27 (dk_at dksX8_force_1 1 rfl rfl)
theorem dX8_force_26 : decode cX8_force 26 = .ok (.putfield 104, 3) := dk_181 0 104 (dk_at dksX8_force_1 2 rfl rfl)
theorem dX8_force_29 : decode cX8_force 29 = .ok (.iload_n 2, 1) := dk_28 (dk_at dksX8_force_1 5 rfl rfl)
theorem dX8_force_30 : decode cX8_force 30 = .ok (.ireturn, 1) := dk_172 (dk_at dksX8_force_1 6 rfl rfl)
def dkwX8_dig_4 : List UInt8 := [180, 0, 67, 4, 100, 172]
abbrev dktX8_dig_4 : List UInt8 := dkwX8_dig_4 ++ []
def dkwX8_dig_3 : List UInt8 := [79, 42, 42, 180, 0, 29, 27, 46, 42, 180, 0, 32, 6, 27, 104, 46, 28, 29, 182, 0, 109, 42]
abbrev dktX8_dig_3 : List UInt8 := dkwX8_dig_3 ++ dktX8_dig_4
def dkwX8_dig_2 : List UInt8 := [180, 0, 67, 16, 8, 160, 0, 6, 16, 252, 172, 42, 180, 0, 32, 6, 27, 104, 5, 96, 92, 46, 29, 100]
abbrev dktX8_dig_2 : List UInt8 := dkwX8_dig_2 ++ dktX8_dig_3
def dkwX8_dig_1 : List UInt8 := [154, 0, 6, 16, 254, 172, 42, 180, 0, 32, 6, 27, 104, 5, 96, 46, 29, 162, 0, 6, 16, 253, 172, 42]
abbrev dktX8_dig_1 : List UInt8 := dkwX8_dig_1 ++ dktX8_dig_2
def dkwX8_dig_0 : List UInt8 := [42, 27, 182, 0, 80, 153, 0, 22, 28, 184, 0, 76, 153, 0, 15, 29, 133, 10, 20, 1, 82, 184, 0, 70]
abbrev dktX8_dig_0 : List UInt8 := dkwX8_dig_0 ++ dktX8_dig_1
theorem dksX8_dig_0 : cX8_dig.data.toList.drop 0 = dktX8_dig_0 := by decide +kernel
theorem dksX8_dig_1 : cX8_dig.data.toList.drop 24 = dktX8_dig_1 := dk_seg dksX8_dig_0 24 rfl rfl
theorem dksX8_dig_2 : cX8_dig.data.toList.drop 48 = dktX8_dig_2 := dk_seg dksX8_dig_1 24 rfl rfl
theorem dksX8_dig_3 : cX8_dig.data.toList.drop 72 = dktX8_dig_3 := dk_seg dksX8_dig_2 24 rfl rfl
theorem dksX8_dig_4 : cX8_dig.data.toList.drop 94 = dktX8_dig_4 := dk_seg dksX8_dig_3 22 rfl rfl
theorem dX8_dig_0 : decode cX8_dig 0 = .ok (.aload_n 0, 1) := dk_42 (dk_at dksX8_dig_0 0 rfl rfl)
theorem dX8_dig_1 : decode cX8_dig 1 = .ok (.iload_n 1, 1) := dk_27 (dk_at dksX8_dig_0 1 rfl rfl)
theorem dX8_dig_2 : decode cX8_dig 2 = .ok (.invokevirtual 80, 3) := dk_182 0 80 (dk_at dksX8_dig_0 2 rfl rfl)
theorem dX8_dig_5 : decode cX8_dig 5 = .ok (.ifCond .eq 22, 3) := dk_153 0 22 (dk_at dksX8_dig_0 5 rfl rfl)
theorem dX8_dig_8 : decode cX8_dig 8 = .ok (.iload_n 2, 1) := dk_28 (dk_at dksX8_dig_0 8 rfl rfl)
theorem dX8_dig_9 : decode cX8_dig 9 = .ok (.invokestatic 76, 3) := dk_184 0 76 (dk_at dksX8_dig_0 9 rfl rfl)
theorem dX8_dig_12 : decode cX8_dig 12 = .ok (.ifCond .eq 15, 3) := dk_153 0 15 (dk_at dksX8_dig_0 12 rfl rfl)
theorem dX8_dig_15 : decode cX8_dig 15 = .ok (.iload_n 3, 1) := dk_29 (dk_at dksX8_dig_0 15 rfl rfl)
theorem dX8_dig_16 : decode cX8_dig 16 = .ok (.i2l, 1) := dk_133 (dk_at dksX8_dig_0 16 rfl rfl)
theorem dX8_dig_17 : decode cX8_dig 17 = .ok (.lconst 1, 1) := dk_10 (dk_at dksX8_dig_0 17 rfl rfl)
theorem dX8_dig_18 : decode cX8_dig 18 = .ok (.ldc2_w 338, 3) := dk_20 1 82 (dk_at dksX8_dig_0 18 rfl rfl)
theorem dX8_dig_21 : decode cX8_dig 21 = .ok (.invokestatic 70, 3) := dk_184 0 70 (dk_at dksX8_dig_0 21 rfl rfl)
theorem dX8_dig_24 : decode cX8_dig 24 = .ok (.ifCond .ne 6, 3) := dk_154 0 6 (dk_at dksX8_dig_1 0 rfl rfl)
theorem dX8_dig_27 : decode cX8_dig 27 = .ok (.bipush (-2), 2) := dk_16 254 (dk_at dksX8_dig_1 3 rfl rfl)
theorem dX8_dig_29 : decode cX8_dig 29 = .ok (.ireturn, 1) := dk_172 (dk_at dksX8_dig_1 5 rfl rfl)
theorem dX8_dig_30 : decode cX8_dig 30 = .ok (.aload_n 0, 1) := dk_42 (dk_at dksX8_dig_1 6 rfl rfl)
theorem dX8_dig_31 : decode cX8_dig 31 = .ok (.getfield 32, 3) := dk_180 0 32 (dk_at dksX8_dig_1 7 rfl rfl)
theorem dX8_dig_34 : decode cX8_dig 34 = .ok (.iconst 3, 1) := dk_6 (dk_at dksX8_dig_1 10 rfl rfl)
theorem dX8_dig_35 : decode cX8_dig 35 = .ok (.iload_n 1, 1) := dk_27 (dk_at dksX8_dig_1 11 rfl rfl)
theorem dX8_dig_36 : decode cX8_dig 36 = .ok (.imul, 1) := dk_104 (dk_at dksX8_dig_1 12 rfl rfl)
theorem dX8_dig_37 : decode cX8_dig 37 = .ok (.iconst 2, 1) := dk_5 (dk_at dksX8_dig_1 13 rfl rfl)
theorem dX8_dig_38 : decode cX8_dig 38 = .ok (.iadd, 1) := dk_96 (dk_at dksX8_dig_1 14 rfl rfl)
theorem dX8_dig_39 : decode cX8_dig 39 = .ok (.iaload, 1) := dk_46 (dk_at dksX8_dig_1 15 rfl rfl)
theorem dX8_dig_40 : decode cX8_dig 40 = .ok (.iload_n 3, 1) := dk_29 (dk_at dksX8_dig_1 16 rfl rfl)
theorem dX8_dig_41 : decode cX8_dig 41 = .ok (.if_icmp .ge 6, 3) := dk_162 0 6 (dk_at dksX8_dig_1 17 rfl rfl)
theorem dX8_dig_44 : decode cX8_dig 44 = .ok (.bipush (-3), 2) := dk_16 253 (dk_at dksX8_dig_1 20 rfl rfl)
theorem dX8_dig_46 : decode cX8_dig 46 = .ok (.ireturn, 1) := dk_172 (dk_at dksX8_dig_1 22 rfl rfl)
theorem dX8_dig_47 : decode cX8_dig 47 = .ok (.aload_n 0, 1) := dk_42 (dk_at dksX8_dig_1 23 rfl rfl)
theorem dX8_dig_48 : decode cX8_dig 48 = .ok (.getfield 67, 3) := dk_180 0 67 (dk_at dksX8_dig_2 0 rfl rfl)
theorem dX8_dig_51 : decode cX8_dig 51 = .ok (.bipush 8, 2) := dk_16 8 (dk_at dksX8_dig_2 3 rfl rfl)
theorem dX8_dig_53 : decode cX8_dig 53 = .ok (.if_icmp .ne 6, 3) := dk_160 0 6 (dk_at dksX8_dig_2 5 rfl rfl)
theorem dX8_dig_56 : decode cX8_dig 56 = .ok (.bipush (-4), 2) := dk_16 252 (dk_at dksX8_dig_2 8 rfl rfl)
theorem dX8_dig_58 : decode cX8_dig 58 = .ok (.ireturn, 1) := dk_172 (dk_at dksX8_dig_2 10 rfl rfl)
theorem dX8_dig_59 : decode cX8_dig 59 = .ok (.aload_n 0, 1) := dk_42 (dk_at dksX8_dig_2 11 rfl rfl)
theorem dX8_dig_60 : decode cX8_dig 60 = .ok (.getfield 32, 3) := dk_180 0 32 (dk_at dksX8_dig_2 12 rfl rfl)
theorem dX8_dig_63 : decode cX8_dig 63 = .ok (.iconst 3, 1) := dk_6 (dk_at dksX8_dig_2 15 rfl rfl)
theorem dX8_dig_64 : decode cX8_dig 64 = .ok (.iload_n 1, 1) := dk_27 (dk_at dksX8_dig_2 16 rfl rfl)
theorem dX8_dig_65 : decode cX8_dig 65 = .ok (.imul, 1) := dk_104 (dk_at dksX8_dig_2 17 rfl rfl)
theorem dX8_dig_66 : decode cX8_dig 66 = .ok (.iconst 2, 1) := dk_5 (dk_at dksX8_dig_2 18 rfl rfl)
theorem dX8_dig_67 : decode cX8_dig 67 = .ok (.iadd, 1) := dk_96 (dk_at dksX8_dig_2 19 rfl rfl)
theorem dX8_dig_68 : decode cX8_dig 68 = .ok (.dup2, 1) := dk_92 (dk_at dksX8_dig_2 20 rfl rfl)
theorem dX8_dig_69 : decode cX8_dig 69 = .ok (.iaload, 1) := dk_46 (dk_at dksX8_dig_2 21 rfl rfl)
theorem dX8_dig_70 : decode cX8_dig 70 = .ok (.iload_n 3, 1) := dk_29 (dk_at dksX8_dig_2 22 rfl rfl)
theorem dX8_dig_71 : decode cX8_dig 71 = .ok (.isub, 1) := dk_100 (dk_at dksX8_dig_2 23 rfl rfl)
theorem dX8_dig_72 : decode cX8_dig 72 = .ok (.iastore, 1) := dk_79 (dk_at dksX8_dig_3 0 rfl rfl)
theorem dX8_dig_73 : decode cX8_dig 73 = .ok (.aload_n 0, 1) := dk_42 (dk_at dksX8_dig_3 1 rfl rfl)
theorem dX8_dig_74 : decode cX8_dig 74 = .ok (.aload_n 0, 1) := dk_42 (dk_at dksX8_dig_3 2 rfl rfl)
theorem dX8_dig_75 : decode cX8_dig 75 = .ok (.getfield 29, 3) := dk_180 0 29 (dk_at dksX8_dig_3 3 rfl rfl)
theorem dX8_dig_78 : decode cX8_dig 78 = .ok (.iload_n 1, 1) := dk_27 (dk_at dksX8_dig_3 6 rfl rfl)
theorem dX8_dig_79 : decode cX8_dig 79 = .ok (.iaload, 1) := dk_46 (dk_at dksX8_dig_3 7 rfl rfl)
theorem dX8_dig_80 : decode cX8_dig 80 = .ok (.aload_n 0, 1) := dk_42 (dk_at dksX8_dig_3 8 rfl rfl)
theorem dX8_dig_81 : decode cX8_dig 81 = .ok (.getfield 32, 3) := dk_180 0 32 (dk_at dksX8_dig_3 9 rfl rfl)
theorem dX8_dig_84 : decode cX8_dig 84 = .ok (.iconst 3, 1) := dk_6 (dk_at dksX8_dig_3 12 rfl rfl)
theorem dX8_dig_85 : decode cX8_dig 85 = .ok (.iload_n 1, 1) := dk_27 (dk_at dksX8_dig_3 13 rfl rfl)
theorem dX8_dig_86 : decode cX8_dig 86 = .ok (.imul, 1) := dk_104 (dk_at dksX8_dig_3 14 rfl rfl)
theorem dX8_dig_87 : decode cX8_dig 87 = .ok (.iaload, 1) := dk_46 (dk_at dksX8_dig_3 15 rfl rfl)
theorem dX8_dig_88 : decode cX8_dig 88 = .ok (.iload_n 2, 1) := dk_28 (dk_at dksX8_dig_3 16 rfl rfl)
theorem dX8_dig_89 : decode cX8_dig 89 = .ok (.iload_n 3, 1) := dk_29 (dk_at dksX8_dig_3 17 rfl rfl)
theorem dX8_dig_90 : decode cX8_dig 90 = .ok (.invokevirtual 109, 3) := dk_182 0 109 (dk_at dksX8_dig_3 18 rfl rfl)
theorem dX8_dig_93 : decode cX8_dig 93 = .ok (.aload_n 0, 1) := dk_42 (dk_at dksX8_dig_3 21 rfl rfl)
theorem dX8_dig_94 : decode cX8_dig 94 = .ok (.getfield 67, 3) := dk_180 0 67 (dk_at dksX8_dig_4 0 rfl rfl)
theorem dX8_dig_97 : decode cX8_dig 97 = .ok (.iconst 1, 1) := dk_4 (dk_at dksX8_dig_4 3 rfl rfl)
theorem dX8_dig_98 : decode cX8_dig 98 = .ok (.isub, 1) := dk_100 (dk_at dksX8_dig_4 4 rfl rfl)
theorem dX8_dig_99 : decode cX8_dig 99 = .ok (.ireturn, 1) := dk_172 (dk_at dksX8_dig_4 5 rfl rfl)
def dkwX8_sell_1 : List UInt8 := [3, 19, 1, 90, 184, 1, 77, 181, 1, 87, 28, 172]
abbrev dktX8_sell_1 : List UInt8 := dkwX8_sell_1 ++ []
def dkwX8_sell_0 : List UInt8 := [42, 27, 182, 0, 80, 154, 0, 6, 16, 254, 172, 42, 27, 182, 1, 84, 61, 42, 42, 180, 1, 87, 28, 96]
abbrev dktX8_sell_0 : List UInt8 := dkwX8_sell_0 ++ dktX8_sell_1
theorem dksX8_sell_0 : cX8_sell.data.toList.drop 0 = dktX8_sell_0 := by decide +kernel
theorem dksX8_sell_1 : cX8_sell.data.toList.drop 24 = dktX8_sell_1 := dk_seg dksX8_sell_0 24 rfl rfl
theorem dX8_sell_0 : decode cX8_sell 0 = .ok (.aload_n 0, 1) := dk_42 (dk_at dksX8_sell_0 0 rfl rfl)
theorem dX8_sell_1 : decode cX8_sell 1 = .ok (.iload_n 1, 1) := dk_27 (dk_at dksX8_sell_0 1 rfl rfl)
theorem dX8_sell_2 : decode cX8_sell 2 = .ok (.invokevirtual 80, 3) := dk_182 0 80 (dk_at dksX8_sell_0 2 rfl rfl)
theorem dX8_sell_5 : decode cX8_sell 5 = .ok (.ifCond .ne 6, 3) := dk_154 0 6 (dk_at dksX8_sell_0 5 rfl rfl)
theorem dX8_sell_8 : decode cX8_sell 8 = .ok (.bipush (-2), 2) := dk_16 254 (dk_at dksX8_sell_0 8 rfl rfl)
theorem dX8_sell_10 : decode cX8_sell 10 = .ok (.ireturn, 1) := dk_172 (dk_at dksX8_sell_0 10 rfl rfl)
theorem dX8_sell_11 : decode cX8_sell 11 = .ok (.aload_n 0, 1) := dk_42 (dk_at dksX8_sell_0 11 rfl rfl)
theorem dX8_sell_12 : decode cX8_sell 12 = .ok (.iload_n 1, 1) := dk_27 (dk_at dksX8_sell_0 12 rfl rfl)
theorem dX8_sell_13 : decode cX8_sell 13 = .ok (.invokevirtual 340, 3) := dk_182 1 84 (dk_at dksX8_sell_0 13 rfl rfl)
theorem dX8_sell_16 : decode cX8_sell 16 = .ok (.istore_n 2, 1) := dk_61 (dk_at dksX8_sell_0 16 rfl rfl)
theorem dX8_sell_17 : decode cX8_sell 17 = .ok (.aload_n 0, 1) := dk_42 (dk_at dksX8_sell_0 17 rfl rfl)
theorem dX8_sell_18 : decode cX8_sell 18 = .ok (.aload_n 0, 1) := dk_42 (dk_at dksX8_sell_0 18 rfl rfl)
theorem dX8_sell_19 : decode cX8_sell 19 = .ok (.getfield 343, 3) := dk_180 1 87 (dk_at dksX8_sell_0 19 rfl rfl)
theorem dX8_sell_22 : decode cX8_sell 22 = .ok (.iload_n 2, 1) := dk_28 (dk_at dksX8_sell_0 22 rfl rfl)
theorem dX8_sell_23 : decode cX8_sell 23 = .ok (.iadd, 1) := dk_96 (dk_at dksX8_sell_0 23 rfl rfl)
theorem dX8_sell_24 : decode cX8_sell 24 = .ok (.iconst 0, 1) := dk_3 (dk_at dksX8_sell_1 0 rfl rfl)
theorem dX8_sell_25 : decode cX8_sell 25 = .ok (.ldc_w 346, 3) := dk_19 1 90 (dk_at dksX8_sell_1 1 rfl rfl)
theorem dX8_sell_28 : decode cX8_sell 28 = .ok (.invokestatic 333, 3) := dk_184 1 77 (dk_at dksX8_sell_1 4 rfl rfl)
theorem dX8_sell_31 : decode cX8_sell 31 = .ok (.putfield 343, 3) := dk_181 1 87 (dk_at dksX8_sell_1 7 rfl rfl)
theorem dX8_sell_34 : decode cX8_sell 34 = .ok (.iload_n 2, 1) := dk_28 (dk_at dksX8_sell_1 10 rfl rfl)
theorem dX8_sell_35 : decode cX8_sell 35 = .ok (.ireturn, 1) := dk_172 (dk_at dksX8_sell_1 11 rfl rfl)
def dkwX8_worthOf_0 : List UInt8 := [42, 4, 27, 182, 0, 124, 42, 27, 42, 180, 0, 32, 6, 27, 104, 5, 96, 46, 182, 0, 121, 104, 172]
abbrev dktX8_worthOf_0 : List UInt8 := dkwX8_worthOf_0 ++ []
theorem dksX8_worthOf_0 : cX8_worthOf.data.toList.drop 0 = dktX8_worthOf_0 := by decide +kernel
theorem dX8_worthOf_0 : decode cX8_worthOf 0 = .ok (.aload_n 0, 1) := dk_42 (dk_at dksX8_worthOf_0 0 rfl rfl)
theorem dX8_worthOf_1 : decode cX8_worthOf 1 = .ok (.iconst 1, 1) := dk_4 (dk_at dksX8_worthOf_0 1 rfl rfl)
theorem dX8_worthOf_2 : decode cX8_worthOf 2 = .ok (.iload_n 1, 1) := dk_27 (dk_at dksX8_worthOf_0 2 rfl rfl)
theorem dX8_worthOf_3 : decode cX8_worthOf 3 = .ok (.invokevirtual 124, 3) := dk_182 0 124 (dk_at dksX8_worthOf_0 3 rfl rfl)
theorem dX8_worthOf_6 : decode cX8_worthOf 6 = .ok (.aload_n 0, 1) := dk_42 (dk_at dksX8_worthOf_0 6 rfl rfl)
theorem dX8_worthOf_7 : decode cX8_worthOf 7 = .ok (.iload_n 1, 1) := dk_27 (dk_at dksX8_worthOf_0 7 rfl rfl)
theorem dX8_worthOf_8 : decode cX8_worthOf 8 = .ok (.aload_n 0, 1) := dk_42 (dk_at dksX8_worthOf_0 8 rfl rfl)
theorem dX8_worthOf_9 : decode cX8_worthOf 9 = .ok (.getfield 32, 3) := dk_180 0 32 (dk_at dksX8_worthOf_0 9 rfl rfl)
theorem dX8_worthOf_12 : decode cX8_worthOf 12 = .ok (.iconst 3, 1) := dk_6 (dk_at dksX8_worthOf_0 12 rfl rfl)
theorem dX8_worthOf_13 : decode cX8_worthOf 13 = .ok (.iload_n 1, 1) := dk_27 (dk_at dksX8_worthOf_0 13 rfl rfl)
theorem dX8_worthOf_14 : decode cX8_worthOf 14 = .ok (.imul, 1) := dk_104 (dk_at dksX8_worthOf_0 14 rfl rfl)
theorem dX8_worthOf_15 : decode cX8_worthOf 15 = .ok (.iconst 2, 1) := dk_5 (dk_at dksX8_worthOf_0 15 rfl rfl)
theorem dX8_worthOf_16 : decode cX8_worthOf 16 = .ok (.iadd, 1) := dk_96 (dk_at dksX8_worthOf_0 16 rfl rfl)
theorem dX8_worthOf_17 : decode cX8_worthOf 17 = .ok (.iaload, 1) := dk_46 (dk_at dksX8_worthOf_0 17 rfl rfl)
theorem dX8_worthOf_18 : decode cX8_worthOf 18 = .ok (.invokevirtual 121, 3) := dk_182 0 121 (dk_at dksX8_worthOf_0 18 rfl rfl)
theorem dX8_worthOf_21 : decode cX8_worthOf 21 = .ok (.imul, 1) := dk_104 (dk_at dksX8_worthOf_0 21 rfl rfl)
theorem dX8_worthOf_22 : decode cX8_worthOf 22 = .ok (.ireturn, 1) := dk_172 (dk_at dksX8_worthOf_0 22 rfl rfl)
def dkwX8_year_0 : List UInt8 := [42, 180, 0, 101, 16, 99, 160, 0, 6, 16, 253, 172, 42, 182, 1, 91, 42, 182, 1, 94, 172]
abbrev dktX8_year_0 : List UInt8 := dkwX8_year_0 ++ []
theorem dksX8_year_0 : cX8_year.data.toList.drop 0 = dktX8_year_0 := by decide +kernel
theorem dX8_year_0 : decode cX8_year 0 = .ok (.aload_n 0, 1) := dk_42 (dk_at dksX8_year_0 0 rfl rfl)
theorem dX8_year_1 : decode cX8_year 1 = .ok (.getfield 101, 3) := dk_180 0 101 (dk_at dksX8_year_0 1 rfl rfl)
theorem dX8_year_4 : decode cX8_year 4 = .ok (.bipush 99, 2) := dk_16 99 (dk_at dksX8_year_0 4 rfl rfl)
theorem dX8_year_6 : decode cX8_year 6 = .ok (.if_icmp .ne 6, 3) := dk_160 0 6 (dk_at dksX8_year_0 6 rfl rfl)
theorem dX8_year_9 : decode cX8_year 9 = .ok (.bipush (-3), 2) := dk_16 253 (dk_at dksX8_year_0 9 rfl rfl)
theorem dX8_year_11 : decode cX8_year 11 = .ok (.ireturn, 1) := dk_172 (dk_at dksX8_year_0 11 rfl rfl)
theorem dX8_year_12 : decode cX8_year 12 = .ok (.aload_n 0, 1) := dk_42 (dk_at dksX8_year_0 12 rfl rfl)
theorem dX8_year_13 : decode cX8_year 13 = .ok (.invokevirtual 347, 3) := dk_182 1 91 (dk_at dksX8_year_0 13 rfl rfl)
theorem dX8_year_16 : decode cX8_year 16 = .ok (.aload_n 0, 1) := dk_42 (dk_at dksX8_year_0 16 rfl rfl)
theorem dX8_year_17 : decode cX8_year 17 = .ok (.invokevirtual 350, 3) := dk_182 1 94 (dk_at dksX8_year_0 17 rfl rfl)
theorem dX8_year_20 : decode cX8_year 20 = .ok (.ireturn, 1) := dk_172 (dk_at dksX8_year_0 20 rfl rfl)
def dkwX8_lives_2 : List UInt8 := [182, 0, 118, 79, 132, 1, 1, 167, 255, 207, 42, 89, 180, 0, 101, 4, 96, 181, 0, 101, 177]
abbrev dktX8_lives_2 : List UInt8 := dkwX8_lives_2 ++ []
def dkwX8_lives_1 : List UInt8 := [180, 0, 32, 6, 27, 104, 5, 96, 42, 27, 28, 28, 42, 27, 182, 0, 115, 104, 16, 100, 108, 100]
abbrev dktX8_lives_1 : List UInt8 := dkwX8_lives_1 ++ dktX8_lives_2
def dkwX8_lives_0 : List UInt8 := [3, 60, 27, 42, 180, 0, 67, 162, 0, 47, 42, 180, 0, 32, 6, 27, 104, 5, 96, 46, 61, 42]
abbrev dktX8_lives_0 : List UInt8 := dkwX8_lives_0 ++ dktX8_lives_1
theorem dksX8_lives_0 : cX8_lives.data.toList.drop 0 = dktX8_lives_0 := by decide +kernel
theorem dksX8_lives_1 : cX8_lives.data.toList.drop 22 = dktX8_lives_1 := dk_seg dksX8_lives_0 22 rfl rfl
theorem dksX8_lives_2 : cX8_lives.data.toList.drop 44 = dktX8_lives_2 := dk_seg dksX8_lives_1 22 rfl rfl
theorem dX8_lives_0 : decode cX8_lives 0 = .ok (.iconst 0, 1) := dk_3 (dk_at dksX8_lives_0 0 rfl rfl)
theorem dX8_lives_1 : decode cX8_lives 1 = .ok (.istore_n 1, 1) := dk_60 (dk_at dksX8_lives_0 1 rfl rfl)
theorem dX8_lives_2 : decode cX8_lives 2 = .ok (.iload_n 1, 1) := dk_27 (dk_at dksX8_lives_0 2 rfl rfl)
theorem dX8_lives_3 : decode cX8_lives 3 = .ok (.aload_n 0, 1) := dk_42 (dk_at dksX8_lives_0 3 rfl rfl)
theorem dX8_lives_4 : decode cX8_lives 4 = .ok (.getfield 67, 3) := dk_180 0 67 (dk_at dksX8_lives_0 4 rfl rfl)
theorem dX8_lives_7 : decode cX8_lives 7 = .ok (.if_icmp .ge 47, 3) := dk_162 0 47 (dk_at dksX8_lives_0 7 rfl rfl)
theorem dX8_lives_10 : decode cX8_lives 10 = .ok (.aload_n 0, 1) := dk_42 (dk_at dksX8_lives_0 10 rfl rfl)
theorem dX8_lives_11 : decode cX8_lives 11 = .ok (.getfield 32, 3) := dk_180 0 32 (dk_at dksX8_lives_0 11 rfl rfl)
theorem dX8_lives_14 : decode cX8_lives 14 = .ok (.iconst 3, 1) := dk_6 (dk_at dksX8_lives_0 14 rfl rfl)
theorem dX8_lives_15 : decode cX8_lives 15 = .ok (.iload_n 1, 1) := dk_27 (dk_at dksX8_lives_0 15 rfl rfl)
theorem dX8_lives_16 : decode cX8_lives 16 = .ok (.imul, 1) := dk_104 (dk_at dksX8_lives_0 16 rfl rfl)
theorem dX8_lives_17 : decode cX8_lives 17 = .ok (.iconst 2, 1) := dk_5 (dk_at dksX8_lives_0 17 rfl rfl)
theorem dX8_lives_18 : decode cX8_lives 18 = .ok (.iadd, 1) := dk_96 (dk_at dksX8_lives_0 18 rfl rfl)
theorem dX8_lives_19 : decode cX8_lives 19 = .ok (.iaload, 1) := dk_46 (dk_at dksX8_lives_0 19 rfl rfl)
theorem dX8_lives_20 : decode cX8_lives 20 = .ok (.istore_n 2, 1) := dk_61 (dk_at dksX8_lives_0 20 rfl rfl)
theorem dX8_lives_21 : decode cX8_lives 21 = .ok (.aload_n 0, 1) := dk_42 (dk_at dksX8_lives_0 21 rfl rfl)
theorem dX8_lives_22 : decode cX8_lives 22 = .ok (.getfield 32, 3) := dk_180 0 32 (dk_at dksX8_lives_1 0 rfl rfl)
theorem dX8_lives_25 : decode cX8_lives 25 = .ok (.iconst 3, 1) := dk_6 (dk_at dksX8_lives_1 3 rfl rfl)
theorem dX8_lives_26 : decode cX8_lives 26 = .ok (.iload_n 1, 1) := dk_27 (dk_at dksX8_lives_1 4 rfl rfl)
theorem dX8_lives_27 : decode cX8_lives 27 = .ok (.imul, 1) := dk_104 (dk_at dksX8_lives_1 5 rfl rfl)
theorem dX8_lives_28 : decode cX8_lives 28 = .ok (.iconst 2, 1) := dk_5 (dk_at dksX8_lives_1 6 rfl rfl)
theorem dX8_lives_29 : decode cX8_lives 29 = .ok (.iadd, 1) := dk_96 (dk_at dksX8_lives_1 7 rfl rfl)
theorem dX8_lives_30 : decode cX8_lives 30 = .ok (.aload_n 0, 1) := dk_42 (dk_at dksX8_lives_1 8 rfl rfl)
theorem dX8_lives_31 : decode cX8_lives 31 = .ok (.iload_n 1, 1) := dk_27 (dk_at dksX8_lives_1 9 rfl rfl)
theorem dX8_lives_32 : decode cX8_lives 32 = .ok (.iload_n 2, 1) := dk_28 (dk_at dksX8_lives_1 10 rfl rfl)
theorem dX8_lives_33 : decode cX8_lives 33 = .ok (.iload_n 2, 1) := dk_28 (dk_at dksX8_lives_1 11 rfl rfl)
theorem dX8_lives_34 : decode cX8_lives 34 = .ok (.aload_n 0, 1) := dk_42 (dk_at dksX8_lives_1 12 rfl rfl)
theorem dX8_lives_35 : decode cX8_lives 35 = .ok (.iload_n 1, 1) := dk_27 (dk_at dksX8_lives_1 13 rfl rfl)
theorem dX8_lives_36 : decode cX8_lives 36 = .ok (.invokevirtual 115, 3) := dk_182 0 115 (dk_at dksX8_lives_1 14 rfl rfl)
theorem dX8_lives_39 : decode cX8_lives 39 = .ok (.imul, 1) := dk_104 (dk_at dksX8_lives_1 17 rfl rfl)
theorem dX8_lives_40 : decode cX8_lives 40 = .ok (.bipush 100, 2) := dk_16 100 (dk_at dksX8_lives_1 18 rfl rfl)
theorem dX8_lives_42 : decode cX8_lives 42 = .ok (.idiv, 1) := dk_108 (dk_at dksX8_lives_1 20 rfl rfl)
theorem dX8_lives_43 : decode cX8_lives 43 = .ok (.isub, 1) := dk_100 (dk_at dksX8_lives_1 21 rfl rfl)
theorem dX8_lives_44 : decode cX8_lives 44 = .ok (.invokevirtual 118, 3) := dk_182 0 118 (dk_at dksX8_lives_2 0 rfl rfl)
theorem dX8_lives_47 : decode cX8_lives 47 = .ok (.iastore, 1) := dk_79 (dk_at dksX8_lives_2 3 rfl rfl)
theorem dX8_lives_48 : decode cX8_lives 48 = .ok (.iinc 1 1, 3) := dk_132 1 1 (dk_at dksX8_lives_2 4 rfl rfl)
theorem dX8_lives_51 : decode cX8_lives 51 = .ok (.goto (-49), 3) := dk_167 255 207 (dk_at dksX8_lives_2 7 rfl rfl)
theorem dX8_lives_54 : decode cX8_lives 54 = .ok (.aload_n 0, 1) := dk_42 (dk_at dksX8_lives_2 10 rfl rfl)
theorem dX8_lives_55 : decode cX8_lives 55 = .ok (.dup, 1) := dk_89 (dk_at dksX8_lives_2 11 rfl rfl)
theorem dX8_lives_56 : decode cX8_lives 56 = .ok (.getfield 101, 3) := dk_180 0 101 (dk_at dksX8_lives_2 12 rfl rfl)
theorem dX8_lives_59 : decode cX8_lives 59 = .ok (.iconst 1, 1) := dk_4 (dk_at dksX8_lives_2 15 rfl rfl)
theorem dX8_lives_60 : decode cX8_lives 60 = .ok (.iadd, 1) := dk_96 (dk_at dksX8_lives_2 16 rfl rfl)
theorem dX8_lives_61 : decode cX8_lives 61 = .ok (.putfield 101, 3) := dk_181 0 101 (dk_at dksX8_lives_2 17 rfl rfl)
theorem dX8_lives_64 : decode cX8_lives 64 = .ok (.return_, 1) := dk_177 (dk_at dksX8_lives_2 20 rfl rfl)
def dkwX8_all_1 : List UInt8 := [60, 132, 2, 1, 167, 255, 232, 27, 172]
abbrev dktX8_all_1 : List UInt8 := dkwX8_all_1 ++ []
def dkwX8_all_0 : List UInt8 := [3, 60, 3, 61, 28, 42, 180, 0, 67, 162, 0, 22, 27, 42, 180, 0, 32, 6, 28, 104, 5, 96, 46, 96]
abbrev dktX8_all_0 : List UInt8 := dkwX8_all_0 ++ dktX8_all_1
theorem dksX8_all_0 : cX8_all.data.toList.drop 0 = dktX8_all_0 := by decide +kernel
theorem dksX8_all_1 : cX8_all.data.toList.drop 24 = dktX8_all_1 := dk_seg dksX8_all_0 24 rfl rfl
theorem dX8_all_0 : decode cX8_all 0 = .ok (.iconst 0, 1) := dk_3 (dk_at dksX8_all_0 0 rfl rfl)
theorem dX8_all_1 : decode cX8_all 1 = .ok (.istore_n 1, 1) := dk_60 (dk_at dksX8_all_0 1 rfl rfl)
theorem dX8_all_2 : decode cX8_all 2 = .ok (.iconst 0, 1) := dk_3 (dk_at dksX8_all_0 2 rfl rfl)
theorem dX8_all_3 : decode cX8_all 3 = .ok (.istore_n 2, 1) := dk_61 (dk_at dksX8_all_0 3 rfl rfl)
theorem dX8_all_4 : decode cX8_all 4 = .ok (.iload_n 2, 1) := dk_28 (dk_at dksX8_all_0 4 rfl rfl)
theorem dX8_all_5 : decode cX8_all 5 = .ok (.aload_n 0, 1) := dk_42 (dk_at dksX8_all_0 5 rfl rfl)
theorem dX8_all_6 : decode cX8_all 6 = .ok (.getfield 67, 3) := dk_180 0 67 (dk_at dksX8_all_0 6 rfl rfl)
theorem dX8_all_9 : decode cX8_all 9 = .ok (.if_icmp .ge 22, 3) := dk_162 0 22 (dk_at dksX8_all_0 9 rfl rfl)
theorem dX8_all_12 : decode cX8_all 12 = .ok (.iload_n 1, 1) := dk_27 (dk_at dksX8_all_0 12 rfl rfl)
theorem dX8_all_13 : decode cX8_all 13 = .ok (.aload_n 0, 1) := dk_42 (dk_at dksX8_all_0 13 rfl rfl)
theorem dX8_all_14 : decode cX8_all 14 = .ok (.getfield 32, 3) := dk_180 0 32 (dk_at dksX8_all_0 14 rfl rfl)
theorem dX8_all_17 : decode cX8_all 17 = .ok (.iconst 3, 1) := dk_6 (dk_at dksX8_all_0 17 rfl rfl)
theorem dX8_all_18 : decode cX8_all 18 = .ok (.iload_n 2, 1) := dk_28 (dk_at dksX8_all_0 18 rfl rfl)
theorem dX8_all_19 : decode cX8_all 19 = .ok (.imul, 1) := dk_104 (dk_at dksX8_all_0 19 rfl rfl)
theorem dX8_all_20 : decode cX8_all 20 = .ok (.iconst 2, 1) := dk_5 (dk_at dksX8_all_0 20 rfl rfl)
theorem dX8_all_21 : decode cX8_all 21 = .ok (.iadd, 1) := dk_96 (dk_at dksX8_all_0 21 rfl rfl)
theorem dX8_all_22 : decode cX8_all 22 = .ok (.iaload, 1) := dk_46 (dk_at dksX8_all_0 22 rfl rfl)
theorem dX8_all_23 : decode cX8_all 23 = .ok (.iadd, 1) := dk_96 (dk_at dksX8_all_0 23 rfl rfl)
theorem dX8_all_24 : decode cX8_all 24 = .ok (.istore_n 1, 1) := dk_60 (dk_at dksX8_all_1 0 rfl rfl)
theorem dX8_all_25 : decode cX8_all 25 = .ok (.iinc 2 1, 3) := dk_132 2 1 (dk_at dksX8_all_1 1 rfl rfl)
theorem dX8_all_28 : decode cX8_all 28 = .ok (.goto (-24), 3) := dk_167 255 232 (dk_at dksX8_all_1 4 rfl rfl)
theorem dX8_all_31 : decode cX8_all 31 = .ok (.iload_n 1, 1) := dk_27 (dk_at dksX8_all_1 7 rfl rfl)
theorem dX8_all_32 : decode cX8_all 32 = .ok (.ireturn, 1) := dk_172 (dk_at dksX8_all_1 8 rfl rfl)
def dkwX8_run_3 : List UInt8 := [167, 255, 244, 42, 28, 182, 1, 115, 62, 42, 182, 1, 118, 29, 172]
abbrev dktX8_run_3 : List UInt8 := dkwX8_run_3 ++ []
def dkwX8_run_2 : List UInt8 := [154, 0, 6, 16, 254, 172, 42, 182, 1, 112, 3, 62, 29, 27, 162, 0, 13, 42, 182, 1, 91, 132, 3, 1]
abbrev dktX8_run_2 : List UInt8 := dkwX8_run_2 ++ dktX8_run_3
def dkwX8_run_1 : List UInt8 := [28, 133, 20, 0, 113, 20, 1, 110, 184, 0, 70, 153, 0, 14, 42, 28, 16, 10, 112, 182, 0, 80]
abbrev dktX8_run_1 : List UInt8 := dkwX8_run_1 ++ dktX8_run_2
def dkwX8_run_0 : List UInt8 := [27, 133, 9, 20, 1, 106, 184, 0, 70, 153, 0, 40, 28, 133, 9, 20, 1, 108, 184, 0, 70, 154, 0, 31]
abbrev dktX8_run_0 : List UInt8 := dkwX8_run_0 ++ dktX8_run_1
theorem dksX8_run_0 : cX8_run.data.toList.drop 0 = dktX8_run_0 := by decide +kernel
theorem dksX8_run_1 : cX8_run.data.toList.drop 24 = dktX8_run_1 := dk_seg dksX8_run_0 24 rfl rfl
theorem dksX8_run_2 : cX8_run.data.toList.drop 46 = dktX8_run_2 := dk_seg dksX8_run_1 22 rfl rfl
theorem dksX8_run_3 : cX8_run.data.toList.drop 70 = dktX8_run_3 := dk_seg dksX8_run_2 24 rfl rfl
theorem dX8_run_0 : decode cX8_run 0 = .ok (.iload_n 1, 1) := dk_27 (dk_at dksX8_run_0 0 rfl rfl)
theorem dX8_run_1 : decode cX8_run 1 = .ok (.i2l, 1) := dk_133 (dk_at dksX8_run_0 1 rfl rfl)
theorem dX8_run_2 : decode cX8_run 2 = .ok (.lconst 0, 1) := dk_9 (dk_at dksX8_run_0 2 rfl rfl)
theorem dX8_run_3 : decode cX8_run 3 = .ok (.ldc2_w 362, 3) := dk_20 1 106 (dk_at dksX8_run_0 3 rfl rfl)
theorem dX8_run_6 : decode cX8_run 6 = .ok (.invokestatic 70, 3) := dk_184 0 70 (dk_at dksX8_run_0 6 rfl rfl)
theorem dX8_run_9 : decode cX8_run 9 = .ok (.ifCond .eq 40, 3) := dk_153 0 40 (dk_at dksX8_run_0 9 rfl rfl)
theorem dX8_run_12 : decode cX8_run 12 = .ok (.iload_n 2, 1) := dk_28 (dk_at dksX8_run_0 12 rfl rfl)
theorem dX8_run_13 : decode cX8_run 13 = .ok (.i2l, 1) := dk_133 (dk_at dksX8_run_0 13 rfl rfl)
theorem dX8_run_14 : decode cX8_run 14 = .ok (.lconst 0, 1) := dk_9 (dk_at dksX8_run_0 14 rfl rfl)
theorem dX8_run_15 : decode cX8_run 15 = .ok (.ldc2_w 364, 3) := dk_20 1 108 (dk_at dksX8_run_0 15 rfl rfl)
theorem dX8_run_18 : decode cX8_run 18 = .ok (.invokestatic 70, 3) := dk_184 0 70 (dk_at dksX8_run_0 18 rfl rfl)
theorem dX8_run_21 : decode cX8_run 21 = .ok (.ifCond .ne 31, 3) := dk_154 0 31 (dk_at dksX8_run_0 21 rfl rfl)
theorem dX8_run_24 : decode cX8_run 24 = .ok (.iload_n 2, 1) := dk_28 (dk_at dksX8_run_1 0 rfl rfl)
theorem dX8_run_25 : decode cX8_run 25 = .ok (.i2l, 1) := dk_133 (dk_at dksX8_run_1 1 rfl rfl)
theorem dX8_run_26 : decode cX8_run 26 = .ok (.ldc2_w 113, 3) := dk_20 0 113 (dk_at dksX8_run_1 2 rfl rfl)
theorem dX8_run_29 : decode cX8_run 29 = .ok (.ldc2_w 366, 3) := dk_20 1 110 (dk_at dksX8_run_1 5 rfl rfl)
theorem dX8_run_32 : decode cX8_run 32 = .ok (.invokestatic 70, 3) := dk_184 0 70 (dk_at dksX8_run_1 8 rfl rfl)
theorem dX8_run_35 : decode cX8_run 35 = .ok (.ifCond .eq 14, 3) := dk_153 0 14 (dk_at dksX8_run_1 11 rfl rfl)
theorem dX8_run_38 : decode cX8_run 38 = .ok (.aload_n 0, 1) := dk_42 (dk_at dksX8_run_1 14 rfl rfl)
theorem dX8_run_39 : decode cX8_run 39 = .ok (.iload_n 2, 1) := dk_28 (dk_at dksX8_run_1 15 rfl rfl)
theorem dX8_run_40 : decode cX8_run 40 = .ok (.bipush 10, 2) := dk_16 10 (dk_at dksX8_run_1 16 rfl rfl)
theorem dX8_run_42 : decode cX8_run 42 = .ok (.irem, 1) := dk_112 (dk_at dksX8_run_1 18 rfl rfl)
theorem dX8_run_43 : decode cX8_run 43 = .ok (.invokevirtual 80, 3) := dk_182 0 80 (dk_at dksX8_run_1 19 rfl rfl)
theorem dX8_run_46 : decode cX8_run 46 = .ok (.ifCond .ne 6, 3) := dk_154 0 6 (dk_at dksX8_run_2 0 rfl rfl)
theorem dX8_run_49 : decode cX8_run 49 = .ok (.bipush (-2), 2) := dk_16 254 (dk_at dksX8_run_2 3 rfl rfl)
theorem dX8_run_51 : decode cX8_run 51 = .ok (.ireturn, 1) := dk_172 (dk_at dksX8_run_2 5 rfl rfl)
theorem dX8_run_52 : decode cX8_run 52 = .ok (.aload_n 0, 1) := dk_42 (dk_at dksX8_run_2 6 rfl rfl)
theorem dX8_run_53 : decode cX8_run 53 = .ok (.invokevirtual 368, 3) := dk_182 1 112 (dk_at dksX8_run_2 7 rfl rfl)
theorem dX8_run_56 : decode cX8_run 56 = .ok (.iconst 0, 1) := dk_3 (dk_at dksX8_run_2 10 rfl rfl)
theorem dX8_run_57 : decode cX8_run 57 = .ok (.istore_n 3, 1) := dk_62 (dk_at dksX8_run_2 11 rfl rfl)
theorem dX8_run_58 : decode cX8_run 58 = .ok (.iload_n 3, 1) := dk_29 (dk_at dksX8_run_2 12 rfl rfl)
theorem dX8_run_59 : decode cX8_run 59 = .ok (.iload_n 1, 1) := dk_27 (dk_at dksX8_run_2 13 rfl rfl)
theorem dX8_run_60 : decode cX8_run 60 = .ok (.if_icmp .ge 13, 3) := dk_162 0 13 (dk_at dksX8_run_2 14 rfl rfl)
theorem dX8_run_63 : decode cX8_run 63 = .ok (.aload_n 0, 1) := dk_42 (dk_at dksX8_run_2 17 rfl rfl)
theorem dX8_run_64 : decode cX8_run 64 = .ok (.invokevirtual 347, 3) := dk_182 1 91 (dk_at dksX8_run_2 18 rfl rfl)
theorem dX8_run_67 : decode cX8_run 67 = .ok (.iinc 3 1, 3) := dk_132 3 1 (dk_at dksX8_run_2 21 rfl rfl)
theorem dX8_run_70 : decode cX8_run 70 = .ok (.goto (-12), 3) := dk_167 255 244 (dk_at dksX8_run_3 0 rfl rfl)
theorem dX8_run_73 : decode cX8_run 73 = .ok (.aload_n 0, 1) := dk_42 (dk_at dksX8_run_3 3 rfl rfl)
theorem dX8_run_74 : decode cX8_run 74 = .ok (.iload_n 2, 1) := dk_28 (dk_at dksX8_run_3 4 rfl rfl)
theorem dX8_run_75 : decode cX8_run 75 = .ok (.invokevirtual 371, 3) := dk_182 1 115 (dk_at dksX8_run_3 5 rfl rfl)
theorem dX8_run_78 : decode cX8_run 78 = .ok (.istore_n 3, 1) := dk_62 (dk_at dksX8_run_3 8 rfl rfl)
theorem dX8_run_79 : decode cX8_run 79 = .ok (.aload_n 0, 1) := dk_42 (dk_at dksX8_run_3 9 rfl rfl)
theorem dX8_run_80 : decode cX8_run 80 = .ok (.invokevirtual 374, 3) := dk_182 1 118 (dk_at dksX8_run_3 10 rfl rfl)
theorem dX8_run_83 : decode cX8_run 83 = .ok (.iload_n 3, 1) := dk_29 (dk_at dksX8_run_3 13 rfl rfl)
theorem dX8_run_84 : decode cX8_run 84 = .ok (.ireturn, 1) := dk_172 (dk_at dksX8_run_3 14 rfl rfl)
def dkwX8_laysAside_1 : List UInt8 := [167, 255, 235, 42, 42, 180, 0, 101, 181, 1, 97, 177]
abbrev dktX8_laysAside_1 : List UInt8 := dkwX8_laysAside_1 ++ []
def dkwX8_laysAside_0 : List UInt8 := [3, 60, 27, 16, 24, 162, 0, 21, 42, 180, 0, 35, 27, 42, 180, 0, 32, 27, 46, 79, 132, 1, 1]
abbrev dktX8_laysAside_0 : List UInt8 := dkwX8_laysAside_0 ++ dktX8_laysAside_1
theorem dksX8_laysAside_0 : cX8_laysAside.data.toList.drop 0 = dktX8_laysAside_0 := by decide +kernel
theorem dksX8_laysAside_1 : cX8_laysAside.data.toList.drop 23 = dktX8_laysAside_1 := dk_seg dksX8_laysAside_0 23 rfl rfl
theorem dX8_laysAside_0 : decode cX8_laysAside 0 = .ok (.iconst 0, 1) := dk_3 (dk_at dksX8_laysAside_0 0 rfl rfl)
theorem dX8_laysAside_1 : decode cX8_laysAside 1 = .ok (.istore_n 1, 1) := dk_60 (dk_at dksX8_laysAside_0 1 rfl rfl)
theorem dX8_laysAside_2 : decode cX8_laysAside 2 = .ok (.iload_n 1, 1) := dk_27 (dk_at dksX8_laysAside_0 2 rfl rfl)
theorem dX8_laysAside_3 : decode cX8_laysAside 3 = .ok (.bipush 24, 2) := dk_16 24 (dk_at dksX8_laysAside_0 3 rfl rfl)
theorem dX8_laysAside_5 : decode cX8_laysAside 5 = .ok (.if_icmp .ge 21, 3) := dk_162 0 21 (dk_at dksX8_laysAside_0 5 rfl rfl)
theorem dX8_laysAside_8 : decode cX8_laysAside 8 = .ok (.aload_n 0, 1) := dk_42 (dk_at dksX8_laysAside_0 8 rfl rfl)
theorem dX8_laysAside_9 : decode cX8_laysAside 9 = .ok (.getfield 35, 3) := dk_180 0 35 (dk_at dksX8_laysAside_0 9 rfl rfl)
theorem dX8_laysAside_12 : decode cX8_laysAside 12 = .ok (.iload_n 1, 1) := dk_27 (dk_at dksX8_laysAside_0 12 rfl rfl)
theorem dX8_laysAside_13 : decode cX8_laysAside 13 = .ok (.aload_n 0, 1) := dk_42 (dk_at dksX8_laysAside_0 13 rfl rfl)
theorem dX8_laysAside_14 : decode cX8_laysAside 14 = .ok (.getfield 32, 3) := dk_180 0 32 (dk_at dksX8_laysAside_0 14 rfl rfl)
theorem dX8_laysAside_17 : decode cX8_laysAside 17 = .ok (.iload_n 1, 1) := dk_27 (dk_at dksX8_laysAside_0 17 rfl rfl)
theorem dX8_laysAside_18 : decode cX8_laysAside 18 = .ok (.iaload, 1) := dk_46 (dk_at dksX8_laysAside_0 18 rfl rfl)
theorem dX8_laysAside_19 : decode cX8_laysAside 19 = .ok (.iastore, 1) := dk_79 (dk_at dksX8_laysAside_0 19 rfl rfl)
theorem dX8_laysAside_20 : decode cX8_laysAside 20 = .ok (.iinc 1 1, 3) := dk_132 1 1 (dk_at dksX8_laysAside_0 20 rfl rfl)
theorem dX8_laysAside_23 : decode cX8_laysAside 23 = .ok (.goto (-21), 3) := dk_167 255 235 (dk_at dksX8_laysAside_1 0 rfl rfl)
theorem dX8_laysAside_26 : decode cX8_laysAside 26 = .ok (.aload_n 0, 1) := dk_42 (dk_at dksX8_laysAside_1 3 rfl rfl)
theorem dX8_laysAside_27 : decode cX8_laysAside 27 = .ok (.aload_n 0, 1) := dk_42 (dk_at dksX8_laysAside_1 4 rfl rfl)
theorem dX8_laysAside_28 : decode cX8_laysAside 28 = .ok (.getfield 101, 3) := dk_180 0 101 (dk_at dksX8_laysAside_1 5 rfl rfl)
theorem dX8_laysAside_31 : decode cX8_laysAside 31 = .ok (.putfield 353, 3) := dk_181 1 97 (dk_at dksX8_laysAside_1 8 rfl rfl)
theorem dX8_laysAside_34 : decode cX8_laysAside 34 = .ok (.return_, 1) := dk_177 (dk_at dksX8_laysAside_1 11 rfl rfl)
def dkwX8_tellsOf_5 : List UInt8 := [172]
abbrev dktX8_tellsOf_5 : List UInt8 := dkwX8_tellsOf_5 ++ []
def dkwX8_tellsOf_4 : List UInt8 := [6, 28, 104, 5, 96, 46, 167, 0, 18, 42, 28, 42, 180, 0, 32, 6, 28, 104, 5, 96, 46, 182, 0, 121]
abbrev dktX8_tellsOf_4 : List UInt8 := dkwX8_tellsOf_4 ++ dktX8_tellsOf_5
def dkwX8_tellsOf_3 : List UInt8 := [28, 167, 0, 7, 42, 182, 1, 103, 172, 27, 16, 10, 112, 61, 27, 16, 20, 162, 0, 16, 42, 180, 0, 32]
abbrev dktX8_tellsOf_3 : List UInt8 := dkwX8_tellsOf_3 ++ dktX8_tellsOf_4
def dkwX8_tellsOf_2 : List UInt8 := [42, 182, 1, 94, 167, 0, 28, 27, 4, 160, 0, 10, 42, 182, 1, 100, 167, 0, 16, 27, 5, 160, 0, 7]
abbrev dktX8_tellsOf_2 : List UInt8 := dkwX8_tellsOf_2 ++ dktX8_tellsOf_3
def dkwX8_tellsOf_1 : List UInt8 := [104, 5, 96, 46, 158, 0, 7, 4, 167, 0, 4, 3, 96, 61, 132, 3, 1, 167, 255, 224, 27, 154, 0, 10]
abbrev dktX8_tellsOf_1 : List UInt8 := dkwX8_tellsOf_1 ++ dktX8_tellsOf_2
def dkwX8_tellsOf_0 : List UInt8 := [27, 7, 162, 0, 79, 3, 61, 3, 62, 29, 42, 180, 0, 67, 162, 0, 30, 28, 42, 180, 0, 32, 6, 29]
abbrev dktX8_tellsOf_0 : List UInt8 := dkwX8_tellsOf_0 ++ dktX8_tellsOf_1
theorem dksX8_tellsOf_0 : cX8_tellsOf.data.toList.drop 0 = dktX8_tellsOf_0 := by decide +kernel
theorem dksX8_tellsOf_1 : cX8_tellsOf.data.toList.drop 24 = dktX8_tellsOf_1 := dk_seg dksX8_tellsOf_0 24 rfl rfl
theorem dksX8_tellsOf_2 : cX8_tellsOf.data.toList.drop 48 = dktX8_tellsOf_2 := dk_seg dksX8_tellsOf_1 24 rfl rfl
theorem dksX8_tellsOf_3 : cX8_tellsOf.data.toList.drop 72 = dktX8_tellsOf_3 := dk_seg dksX8_tellsOf_2 24 rfl rfl
theorem dksX8_tellsOf_4 : cX8_tellsOf.data.toList.drop 96 = dktX8_tellsOf_4 := dk_seg dksX8_tellsOf_3 24 rfl rfl
theorem dksX8_tellsOf_5 : cX8_tellsOf.data.toList.drop 120 = dktX8_tellsOf_5 := dk_seg dksX8_tellsOf_4 24 rfl rfl
theorem dX8_tellsOf_0 : decode cX8_tellsOf 0 = .ok (.iload_n 1, 1) := dk_27 (dk_at dksX8_tellsOf_0 0 rfl rfl)
theorem dX8_tellsOf_1 : decode cX8_tellsOf 1 = .ok (.iconst 4, 1) := dk_7 (dk_at dksX8_tellsOf_0 1 rfl rfl)
theorem dX8_tellsOf_2 : decode cX8_tellsOf 2 = .ok (.if_icmp .ge 79, 3) := dk_162 0 79 (dk_at dksX8_tellsOf_0 2 rfl rfl)
theorem dX8_tellsOf_5 : decode cX8_tellsOf 5 = .ok (.iconst 0, 1) := dk_3 (dk_at dksX8_tellsOf_0 5 rfl rfl)
theorem dX8_tellsOf_6 : decode cX8_tellsOf 6 = .ok (.istore_n 2, 1) := dk_61 (dk_at dksX8_tellsOf_0 6 rfl rfl)
theorem dX8_tellsOf_7 : decode cX8_tellsOf 7 = .ok (.iconst 0, 1) := dk_3 (dk_at dksX8_tellsOf_0 7 rfl rfl)
theorem dX8_tellsOf_8 : decode cX8_tellsOf 8 = .ok (.istore_n 3, 1) := dk_62 (dk_at dksX8_tellsOf_0 8 rfl rfl)
theorem dX8_tellsOf_9 : decode cX8_tellsOf 9 = .ok (.iload_n 3, 1) := dk_29 (dk_at dksX8_tellsOf_0 9 rfl rfl)
theorem dX8_tellsOf_10 : decode cX8_tellsOf 10 = .ok (.aload_n 0, 1) := dk_42 (dk_at dksX8_tellsOf_0 10 rfl rfl)
theorem dX8_tellsOf_11 : decode cX8_tellsOf 11 = .ok (.getfield 67, 3) := dk_180 0 67 (dk_at dksX8_tellsOf_0 11 rfl rfl)
theorem dX8_tellsOf_14 : decode cX8_tellsOf 14 = .ok (.if_icmp .ge 30, 3) := dk_162 0 30 (dk_at dksX8_tellsOf_0 14 rfl rfl)
theorem dX8_tellsOf_17 : decode cX8_tellsOf 17 = .ok (.iload_n 2, 1) := dk_28 (dk_at dksX8_tellsOf_0 17 rfl rfl)
theorem dX8_tellsOf_18 : decode cX8_tellsOf 18 = .ok (.aload_n 0, 1) := dk_42 (dk_at dksX8_tellsOf_0 18 rfl rfl)
theorem dX8_tellsOf_19 : decode cX8_tellsOf 19 = .ok (.getfield 32, 3) := dk_180 0 32 (dk_at dksX8_tellsOf_0 19 rfl rfl)
theorem dX8_tellsOf_22 : decode cX8_tellsOf 22 = .ok (.iconst 3, 1) := dk_6 (dk_at dksX8_tellsOf_0 22 rfl rfl)
theorem dX8_tellsOf_23 : decode cX8_tellsOf 23 = .ok (.iload_n 3, 1) := dk_29 (dk_at dksX8_tellsOf_0 23 rfl rfl)
theorem dX8_tellsOf_24 : decode cX8_tellsOf 24 = .ok (.imul, 1) := dk_104 (dk_at dksX8_tellsOf_1 0 rfl rfl)
theorem dX8_tellsOf_25 : decode cX8_tellsOf 25 = .ok (.iconst 2, 1) := dk_5 (dk_at dksX8_tellsOf_1 1 rfl rfl)
theorem dX8_tellsOf_26 : decode cX8_tellsOf 26 = .ok (.iadd, 1) := dk_96 (dk_at dksX8_tellsOf_1 2 rfl rfl)
theorem dX8_tellsOf_27 : decode cX8_tellsOf 27 = .ok (.iaload, 1) := dk_46 (dk_at dksX8_tellsOf_1 3 rfl rfl)
theorem dX8_tellsOf_28 : decode cX8_tellsOf 28 = .ok (.ifCond .le 7, 3) := dk_158 0 7 (dk_at dksX8_tellsOf_1 4 rfl rfl)
theorem dX8_tellsOf_31 : decode cX8_tellsOf 31 = .ok (.iconst 1, 1) := dk_4 (dk_at dksX8_tellsOf_1 7 rfl rfl)
theorem dX8_tellsOf_32 : decode cX8_tellsOf 32 = .ok (.goto 4, 3) := dk_167 0 4 (dk_at dksX8_tellsOf_1 8 rfl rfl)
theorem dX8_tellsOf_35 : decode cX8_tellsOf 35 = .ok (.iconst 0, 1) := dk_3 (dk_at dksX8_tellsOf_1 11 rfl rfl)
theorem dX8_tellsOf_36 : decode cX8_tellsOf 36 = .ok (.iadd, 1) := dk_96 (dk_at dksX8_tellsOf_1 12 rfl rfl)
theorem dX8_tellsOf_37 : decode cX8_tellsOf 37 = .ok (.istore_n 2, 1) := dk_61 (dk_at dksX8_tellsOf_1 13 rfl rfl)
theorem dX8_tellsOf_38 : decode cX8_tellsOf 38 = .ok (.iinc 3 1, 3) := dk_132 3 1 (dk_at dksX8_tellsOf_1 14 rfl rfl)
theorem dX8_tellsOf_41 : decode cX8_tellsOf 41 = .ok (.goto (-32), 3) := dk_167 255 224 (dk_at dksX8_tellsOf_1 17 rfl rfl)
theorem dX8_tellsOf_44 : decode cX8_tellsOf 44 = .ok (.iload_n 1, 1) := dk_27 (dk_at dksX8_tellsOf_1 20 rfl rfl)
theorem dX8_tellsOf_45 : decode cX8_tellsOf 45 = .ok (.ifCond .ne 10, 3) := dk_154 0 10 (dk_at dksX8_tellsOf_1 21 rfl rfl)
theorem dX8_tellsOf_48 : decode cX8_tellsOf 48 = .ok (.aload_n 0, 1) := dk_42 (dk_at dksX8_tellsOf_2 0 rfl rfl)
theorem dX8_tellsOf_49 : decode cX8_tellsOf 49 = .ok (.invokevirtual 350, 3) := dk_182 1 94 (dk_at dksX8_tellsOf_2 1 rfl rfl)
theorem dX8_tellsOf_52 : decode cX8_tellsOf 52 = .ok (.goto 28, 3) := dk_167 0 28 (dk_at dksX8_tellsOf_2 4 rfl rfl)
theorem dX8_tellsOf_55 : decode cX8_tellsOf 55 = .ok (.iload_n 1, 1) := dk_27 (dk_at dksX8_tellsOf_2 7 rfl rfl)
theorem dX8_tellsOf_56 : decode cX8_tellsOf 56 = .ok (.iconst 1, 1) := dk_4 (dk_at dksX8_tellsOf_2 8 rfl rfl)
theorem dX8_tellsOf_57 : decode cX8_tellsOf 57 = .ok (.if_icmp .ne 10, 3) := dk_160 0 10 (dk_at dksX8_tellsOf_2 9 rfl rfl)
theorem dX8_tellsOf_60 : decode cX8_tellsOf 60 = .ok (.aload_n 0, 1) := dk_42 (dk_at dksX8_tellsOf_2 12 rfl rfl)
theorem dX8_tellsOf_61 : decode cX8_tellsOf 61 = .ok (.invokevirtual 356, 3) := dk_182 1 100 (dk_at dksX8_tellsOf_2 13 rfl rfl)
theorem dX8_tellsOf_64 : decode cX8_tellsOf 64 = .ok (.goto 16, 3) := dk_167 0 16 (dk_at dksX8_tellsOf_2 16 rfl rfl)
theorem dX8_tellsOf_67 : decode cX8_tellsOf 67 = .ok (.iload_n 1, 1) := dk_27 (dk_at dksX8_tellsOf_2 19 rfl rfl)
theorem dX8_tellsOf_68 : decode cX8_tellsOf 68 = .ok (.iconst 2, 1) := dk_5 (dk_at dksX8_tellsOf_2 20 rfl rfl)
theorem dX8_tellsOf_69 : decode cX8_tellsOf 69 = .ok (.if_icmp .ne 7, 3) := dk_160 0 7 (dk_at dksX8_tellsOf_2 21 rfl rfl)
theorem dX8_tellsOf_72 : decode cX8_tellsOf 72 = .ok (.iload_n 2, 1) := dk_28 (dk_at dksX8_tellsOf_3 0 rfl rfl)
theorem dX8_tellsOf_73 : decode cX8_tellsOf 73 = .ok (.goto 7, 3) := dk_167 0 7 (dk_at dksX8_tellsOf_3 1 rfl rfl)
theorem dX8_tellsOf_76 : decode cX8_tellsOf 76 = .ok (.aload_n 0, 1) := dk_42 (dk_at dksX8_tellsOf_3 4 rfl rfl)
theorem dX8_tellsOf_77 : decode cX8_tellsOf 77 = .ok (.invokevirtual 359, 3) := dk_182 1 103 (dk_at dksX8_tellsOf_3 5 rfl rfl)
theorem dX8_tellsOf_80 : decode cX8_tellsOf 80 = .ok (.ireturn, 1) := dk_172 (dk_at dksX8_tellsOf_3 8 rfl rfl)
theorem dX8_tellsOf_81 : decode cX8_tellsOf 81 = .ok (.iload_n 1, 1) := dk_27 (dk_at dksX8_tellsOf_3 9 rfl rfl)
theorem dX8_tellsOf_82 : decode cX8_tellsOf 82 = .ok (.bipush 10, 2) := dk_16 10 (dk_at dksX8_tellsOf_3 10 rfl rfl)
theorem dX8_tellsOf_84 : decode cX8_tellsOf 84 = .ok (.irem, 1) := dk_112 (dk_at dksX8_tellsOf_3 12 rfl rfl)
theorem dX8_tellsOf_85 : decode cX8_tellsOf 85 = .ok (.istore_n 2, 1) := dk_61 (dk_at dksX8_tellsOf_3 13 rfl rfl)
theorem dX8_tellsOf_86 : decode cX8_tellsOf 86 = .ok (.iload_n 1, 1) := dk_27 (dk_at dksX8_tellsOf_3 14 rfl rfl)
theorem dX8_tellsOf_87 : decode cX8_tellsOf 87 = .ok (.bipush 20, 2) := dk_16 20 (dk_at dksX8_tellsOf_3 15 rfl rfl)
theorem dX8_tellsOf_89 : decode cX8_tellsOf 89 = .ok (.if_icmp .ge 16, 3) := dk_162 0 16 (dk_at dksX8_tellsOf_3 17 rfl rfl)
theorem dX8_tellsOf_92 : decode cX8_tellsOf 92 = .ok (.aload_n 0, 1) := dk_42 (dk_at dksX8_tellsOf_3 20 rfl rfl)
theorem dX8_tellsOf_93 : decode cX8_tellsOf 93 = .ok (.getfield 32, 3) := dk_180 0 32 (dk_at dksX8_tellsOf_3 21 rfl rfl)
theorem dX8_tellsOf_96 : decode cX8_tellsOf 96 = .ok (.iconst 3, 1) := dk_6 (dk_at dksX8_tellsOf_4 0 rfl rfl)
theorem dX8_tellsOf_97 : decode cX8_tellsOf 97 = .ok (.iload_n 2, 1) := dk_28 (dk_at dksX8_tellsOf_4 1 rfl rfl)
theorem dX8_tellsOf_98 : decode cX8_tellsOf 98 = .ok (.imul, 1) := dk_104 (dk_at dksX8_tellsOf_4 2 rfl rfl)
theorem dX8_tellsOf_99 : decode cX8_tellsOf 99 = .ok (.iconst 2, 1) := dk_5 (dk_at dksX8_tellsOf_4 3 rfl rfl)
theorem dX8_tellsOf_100 : decode cX8_tellsOf 100 = .ok (.iadd, 1) := dk_96 (dk_at dksX8_tellsOf_4 4 rfl rfl)
theorem dX8_tellsOf_101 : decode cX8_tellsOf 101 = .ok (.iaload, 1) := dk_46 (dk_at dksX8_tellsOf_4 5 rfl rfl)
theorem dX8_tellsOf_102 : decode cX8_tellsOf 102 = .ok (.goto 18, 3) := dk_167 0 18 (dk_at dksX8_tellsOf_4 6 rfl rfl)
theorem dX8_tellsOf_105 : decode cX8_tellsOf 105 = .ok (.aload_n 0, 1) := dk_42 (dk_at dksX8_tellsOf_4 9 rfl rfl)
theorem dX8_tellsOf_106 : decode cX8_tellsOf 106 = .ok (.iload_n 2, 1) := dk_28 (dk_at dksX8_tellsOf_4 10 rfl rfl)
theorem dX8_tellsOf_107 : decode cX8_tellsOf 107 = .ok (.aload_n 0, 1) := dk_42 (dk_at dksX8_tellsOf_4 11 rfl rfl)
theorem dX8_tellsOf_108 : decode cX8_tellsOf 108 = .ok (.getfield 32, 3) := dk_180 0 32 (dk_at dksX8_tellsOf_4 12 rfl rfl)
theorem dX8_tellsOf_111 : decode cX8_tellsOf 111 = .ok (.iconst 3, 1) := dk_6 (dk_at dksX8_tellsOf_4 15 rfl rfl)
theorem dX8_tellsOf_112 : decode cX8_tellsOf 112 = .ok (.iload_n 2, 1) := dk_28 (dk_at dksX8_tellsOf_4 16 rfl rfl)
theorem dX8_tellsOf_113 : decode cX8_tellsOf 113 = .ok (.imul, 1) := dk_104 (dk_at dksX8_tellsOf_4 17 rfl rfl)
theorem dX8_tellsOf_114 : decode cX8_tellsOf 114 = .ok (.iconst 2, 1) := dk_5 (dk_at dksX8_tellsOf_4 18 rfl rfl)
theorem dX8_tellsOf_115 : decode cX8_tellsOf 115 = .ok (.iadd, 1) := dk_96 (dk_at dksX8_tellsOf_4 19 rfl rfl)
theorem dX8_tellsOf_116 : decode cX8_tellsOf 116 = .ok (.iaload, 1) := dk_46 (dk_at dksX8_tellsOf_4 20 rfl rfl)
theorem dX8_tellsOf_117 : decode cX8_tellsOf 117 = .ok (.invokevirtual 121, 3) := dk_182 0 121 (dk_at dksX8_tellsOf_4 21 rfl rfl)
theorem dX8_tellsOf_120 : decode cX8_tellsOf 120 = .ok (.ireturn, 1) := dk_172 (dk_at dksX8_tellsOf_5 0 rfl rfl)
def dkwX8_bloom_1 : List UInt8 := [46, 182, 0, 121, 96, 60, 132, 2, 1, 167, 255, 227, 27, 172]
abbrev dktX8_bloom_1 : List UInt8 := dkwX8_bloom_1 ++ []
def dkwX8_bloom_0 : List UInt8 := [3, 60, 3, 61, 28, 42, 180, 0, 67, 162, 0, 27, 27, 42, 28, 42, 180, 0, 32, 6, 28, 104, 5, 96]
abbrev dktX8_bloom_0 : List UInt8 := dkwX8_bloom_0 ++ dktX8_bloom_1
theorem dksX8_bloom_0 : cX8_bloom.data.toList.drop 0 = dktX8_bloom_0 := by decide +kernel
theorem dksX8_bloom_1 : cX8_bloom.data.toList.drop 24 = dktX8_bloom_1 := dk_seg dksX8_bloom_0 24 rfl rfl
theorem dX8_bloom_0 : decode cX8_bloom 0 = .ok (.iconst 0, 1) := dk_3 (dk_at dksX8_bloom_0 0 rfl rfl)
theorem dX8_bloom_1 : decode cX8_bloom 1 = .ok (.istore_n 1, 1) := dk_60 (dk_at dksX8_bloom_0 1 rfl rfl)
theorem dX8_bloom_2 : decode cX8_bloom 2 = .ok (.iconst 0, 1) := dk_3 (dk_at dksX8_bloom_0 2 rfl rfl)
theorem dX8_bloom_3 : decode cX8_bloom 3 = .ok (.istore_n 2, 1) := dk_61 (dk_at dksX8_bloom_0 3 rfl rfl)
theorem dX8_bloom_4 : decode cX8_bloom 4 = .ok (.iload_n 2, 1) := dk_28 (dk_at dksX8_bloom_0 4 rfl rfl)
theorem dX8_bloom_5 : decode cX8_bloom 5 = .ok (.aload_n 0, 1) := dk_42 (dk_at dksX8_bloom_0 5 rfl rfl)
theorem dX8_bloom_6 : decode cX8_bloom 6 = .ok (.getfield 67, 3) := dk_180 0 67 (dk_at dksX8_bloom_0 6 rfl rfl)
theorem dX8_bloom_9 : decode cX8_bloom 9 = .ok (.if_icmp .ge 27, 3) := dk_162 0 27 (dk_at dksX8_bloom_0 9 rfl rfl)
theorem dX8_bloom_12 : decode cX8_bloom 12 = .ok (.iload_n 1, 1) := dk_27 (dk_at dksX8_bloom_0 12 rfl rfl)
theorem dX8_bloom_13 : decode cX8_bloom 13 = .ok (.aload_n 0, 1) := dk_42 (dk_at dksX8_bloom_0 13 rfl rfl)
theorem dX8_bloom_14 : decode cX8_bloom 14 = .ok (.iload_n 2, 1) := dk_28 (dk_at dksX8_bloom_0 14 rfl rfl)
theorem dX8_bloom_15 : decode cX8_bloom 15 = .ok (.aload_n 0, 1) := dk_42 (dk_at dksX8_bloom_0 15 rfl rfl)
theorem dX8_bloom_16 : decode cX8_bloom 16 = .ok (.getfield 32, 3) := dk_180 0 32 (dk_at dksX8_bloom_0 16 rfl rfl)
theorem dX8_bloom_19 : decode cX8_bloom 19 = .ok (.iconst 3, 1) := dk_6 (dk_at dksX8_bloom_0 19 rfl rfl)
theorem dX8_bloom_20 : decode cX8_bloom 20 = .ok (.iload_n 2, 1) := dk_28 (dk_at dksX8_bloom_0 20 rfl rfl)
theorem dX8_bloom_21 : decode cX8_bloom 21 = .ok (.imul, 1) := dk_104 (dk_at dksX8_bloom_0 21 rfl rfl)
theorem dX8_bloom_22 : decode cX8_bloom 22 = .ok (.iconst 2, 1) := dk_5 (dk_at dksX8_bloom_0 22 rfl rfl)
theorem dX8_bloom_23 : decode cX8_bloom 23 = .ok (.iadd, 1) := dk_96 (dk_at dksX8_bloom_0 23 rfl rfl)
theorem dX8_bloom_24 : decode cX8_bloom 24 = .ok (.iaload, 1) := dk_46 (dk_at dksX8_bloom_1 0 rfl rfl)
theorem dX8_bloom_25 : decode cX8_bloom 25 = .ok (.invokevirtual 121, 3) := dk_182 0 121 (dk_at dksX8_bloom_1 1 rfl rfl)
theorem dX8_bloom_28 : decode cX8_bloom 28 = .ok (.iadd, 1) := dk_96 (dk_at dksX8_bloom_1 4 rfl rfl)
theorem dX8_bloom_29 : decode cX8_bloom 29 = .ok (.istore_n 1, 1) := dk_60 (dk_at dksX8_bloom_1 5 rfl rfl)
theorem dX8_bloom_30 : decode cX8_bloom 30 = .ok (.iinc 2 1, 3) := dk_132 2 1 (dk_at dksX8_bloom_1 6 rfl rfl)
theorem dX8_bloom_33 : decode cX8_bloom 33 = .ok (.goto (-29), 3) := dk_167 255 227 (dk_at dksX8_bloom_1 9 rfl rfl)
theorem dX8_bloom_36 : decode cX8_bloom 36 = .ok (.iload_n 1, 1) := dk_27 (dk_at dksX8_bloom_1 12 rfl rfl)
theorem dX8_bloom_37 : decode cX8_bloom 37 = .ok (.ireturn, 1) := dk_172 (dk_at dksX8_bloom_1 13 rfl rfl)
def dkwX8_heir_2 : List UInt8 := [132, 2, 1, 167, 255, 211, 27, 172]
abbrev dktX8_heir_2 : List UInt8 := dkwX8_heir_2 ++ []
def dkwX8_heir_1 : List UInt8 := [5, 96, 46, 42, 180, 0, 32, 6, 27, 104, 5, 96, 46, 164, 0, 7, 28, 167, 0, 4, 27, 60]
abbrev dktX8_heir_1 : List UInt8 := dkwX8_heir_1 ++ dktX8_heir_2
def dkwX8_heir_0 : List UInt8 := [2, 60, 3, 61, 28, 42, 180, 0, 67, 162, 0, 43, 27, 2, 159, 0, 26, 42, 180, 0, 32, 6, 28, 104]
abbrev dktX8_heir_0 : List UInt8 := dkwX8_heir_0 ++ dktX8_heir_1
theorem dksX8_heir_0 : cX8_heir.data.toList.drop 0 = dktX8_heir_0 := by decide +kernel
theorem dksX8_heir_1 : cX8_heir.data.toList.drop 24 = dktX8_heir_1 := dk_seg dksX8_heir_0 24 rfl rfl
theorem dksX8_heir_2 : cX8_heir.data.toList.drop 46 = dktX8_heir_2 := dk_seg dksX8_heir_1 22 rfl rfl
theorem dX8_heir_0 : decode cX8_heir 0 = .ok (.iconst (-1), 1) := dk_2 (dk_at dksX8_heir_0 0 rfl rfl)
theorem dX8_heir_1 : decode cX8_heir 1 = .ok (.istore_n 1, 1) := dk_60 (dk_at dksX8_heir_0 1 rfl rfl)
theorem dX8_heir_2 : decode cX8_heir 2 = .ok (.iconst 0, 1) := dk_3 (dk_at dksX8_heir_0 2 rfl rfl)
theorem dX8_heir_3 : decode cX8_heir 3 = .ok (.istore_n 2, 1) := dk_61 (dk_at dksX8_heir_0 3 rfl rfl)
theorem dX8_heir_4 : decode cX8_heir 4 = .ok (.iload_n 2, 1) := dk_28 (dk_at dksX8_heir_0 4 rfl rfl)
theorem dX8_heir_5 : decode cX8_heir 5 = .ok (.aload_n 0, 1) := dk_42 (dk_at dksX8_heir_0 5 rfl rfl)
theorem dX8_heir_6 : decode cX8_heir 6 = .ok (.getfield 67, 3) := dk_180 0 67 (dk_at dksX8_heir_0 6 rfl rfl)
theorem dX8_heir_9 : decode cX8_heir 9 = .ok (.if_icmp .ge 43, 3) := dk_162 0 43 (dk_at dksX8_heir_0 9 rfl rfl)
theorem dX8_heir_12 : decode cX8_heir 12 = .ok (.iload_n 1, 1) := dk_27 (dk_at dksX8_heir_0 12 rfl rfl)
theorem dX8_heir_13 : decode cX8_heir 13 = .ok (.iconst (-1), 1) := dk_2 (dk_at dksX8_heir_0 13 rfl rfl)
theorem dX8_heir_14 : decode cX8_heir 14 = .ok (.if_icmp .eq 26, 3) := dk_159 0 26 (dk_at dksX8_heir_0 14 rfl rfl)
theorem dX8_heir_17 : decode cX8_heir 17 = .ok (.aload_n 0, 1) := dk_42 (dk_at dksX8_heir_0 17 rfl rfl)
theorem dX8_heir_18 : decode cX8_heir 18 = .ok (.getfield 32, 3) := dk_180 0 32 (dk_at dksX8_heir_0 18 rfl rfl)
theorem dX8_heir_21 : decode cX8_heir 21 = .ok (.iconst 3, 1) := dk_6 (dk_at dksX8_heir_0 21 rfl rfl)
theorem dX8_heir_22 : decode cX8_heir 22 = .ok (.iload_n 2, 1) := dk_28 (dk_at dksX8_heir_0 22 rfl rfl)
theorem dX8_heir_23 : decode cX8_heir 23 = .ok (.imul, 1) := dk_104 (dk_at dksX8_heir_0 23 rfl rfl)
theorem dX8_heir_24 : decode cX8_heir 24 = .ok (.iconst 2, 1) := dk_5 (dk_at dksX8_heir_1 0 rfl rfl)
theorem dX8_heir_25 : decode cX8_heir 25 = .ok (.iadd, 1) := dk_96 (dk_at dksX8_heir_1 1 rfl rfl)
theorem dX8_heir_26 : decode cX8_heir 26 = .ok (.iaload, 1) := dk_46 (dk_at dksX8_heir_1 2 rfl rfl)
theorem dX8_heir_27 : decode cX8_heir 27 = .ok (.aload_n 0, 1) := dk_42 (dk_at dksX8_heir_1 3 rfl rfl)
theorem dX8_heir_28 : decode cX8_heir 28 = .ok (.getfield 32, 3) := dk_180 0 32 (dk_at dksX8_heir_1 4 rfl rfl)
theorem dX8_heir_31 : decode cX8_heir 31 = .ok (.iconst 3, 1) := dk_6 (dk_at dksX8_heir_1 7 rfl rfl)
theorem dX8_heir_32 : decode cX8_heir 32 = .ok (.iload_n 1, 1) := dk_27 (dk_at dksX8_heir_1 8 rfl rfl)
theorem dX8_heir_33 : decode cX8_heir 33 = .ok (.imul, 1) := dk_104 (dk_at dksX8_heir_1 9 rfl rfl)
theorem dX8_heir_34 : decode cX8_heir 34 = .ok (.iconst 2, 1) := dk_5 (dk_at dksX8_heir_1 10 rfl rfl)
theorem dX8_heir_35 : decode cX8_heir 35 = .ok (.iadd, 1) := dk_96 (dk_at dksX8_heir_1 11 rfl rfl)
theorem dX8_heir_36 : decode cX8_heir 36 = .ok (.iaload, 1) := dk_46 (dk_at dksX8_heir_1 12 rfl rfl)
theorem dX8_heir_37 : decode cX8_heir 37 = .ok (.if_icmp .le 7, 3) := dk_164 0 7 (dk_at dksX8_heir_1 13 rfl rfl)
theorem dX8_heir_40 : decode cX8_heir 40 = .ok (.iload_n 2, 1) := dk_28 (dk_at dksX8_heir_1 16 rfl rfl)
theorem dX8_heir_41 : decode cX8_heir 41 = .ok (.goto 4, 3) := dk_167 0 4 (dk_at dksX8_heir_1 17 rfl rfl)
theorem dX8_heir_44 : decode cX8_heir 44 = .ok (.iload_n 1, 1) := dk_27 (dk_at dksX8_heir_1 20 rfl rfl)
theorem dX8_heir_45 : decode cX8_heir 45 = .ok (.istore_n 1, 1) := dk_60 (dk_at dksX8_heir_1 21 rfl rfl)
theorem dX8_heir_46 : decode cX8_heir 46 = .ok (.iinc 2 1, 3) := dk_132 2 1 (dk_at dksX8_heir_2 0 rfl rfl)
theorem dX8_heir_49 : decode cX8_heir 49 = .ok (.goto (-45), 3) := dk_167 255 211 (dk_at dksX8_heir_2 3 rfl rfl)
theorem dX8_heir_52 : decode cX8_heir 52 = .ok (.iload_n 1, 1) := dk_27 (dk_at dksX8_heir_2 6 rfl rfl)
theorem dX8_heir_53 : decode cX8_heir 53 = .ok (.ireturn, 1) := dk_172 (dk_at dksX8_heir_2 7 rfl rfl)
def dkwX8_laysBack_1 : List UInt8 := [167, 255, 235, 42, 42, 180, 1, 97, 181, 0, 101, 177]
abbrev dktX8_laysBack_1 : List UInt8 := dkwX8_laysBack_1 ++ []
def dkwX8_laysBack_0 : List UInt8 := [3, 60, 27, 16, 24, 162, 0, 21, 42, 180, 0, 32, 27, 42, 180, 0, 35, 27, 46, 79, 132, 1, 1]
abbrev dktX8_laysBack_0 : List UInt8 := dkwX8_laysBack_0 ++ dktX8_laysBack_1
theorem dksX8_laysBack_0 : cX8_laysBack.data.toList.drop 0 = dktX8_laysBack_0 := by decide +kernel
theorem dksX8_laysBack_1 : cX8_laysBack.data.toList.drop 23 = dktX8_laysBack_1 := dk_seg dksX8_laysBack_0 23 rfl rfl
theorem dX8_laysBack_0 : decode cX8_laysBack 0 = .ok (.iconst 0, 1) := dk_3 (dk_at dksX8_laysBack_0 0 rfl rfl)
theorem dX8_laysBack_1 : decode cX8_laysBack 1 = .ok (.istore_n 1, 1) := dk_60 (dk_at dksX8_laysBack_0 1 rfl rfl)
theorem dX8_laysBack_2 : decode cX8_laysBack 2 = .ok (.iload_n 1, 1) := dk_27 (dk_at dksX8_laysBack_0 2 rfl rfl)
theorem dX8_laysBack_3 : decode cX8_laysBack 3 = .ok (.bipush 24, 2) := dk_16 24 (dk_at dksX8_laysBack_0 3 rfl rfl)
theorem dX8_laysBack_5 : decode cX8_laysBack 5 = .ok (.if_icmp .ge 21, 3) := dk_162 0 21 (dk_at dksX8_laysBack_0 5 rfl rfl)
theorem dX8_laysBack_8 : decode cX8_laysBack 8 = .ok (.aload_n 0, 1) := dk_42 (dk_at dksX8_laysBack_0 8 rfl rfl)
theorem dX8_laysBack_9 : decode cX8_laysBack 9 = .ok (.getfield 32, 3) := dk_180 0 32 (dk_at dksX8_laysBack_0 9 rfl rfl)
theorem dX8_laysBack_12 : decode cX8_laysBack 12 = .ok (.iload_n 1, 1) := dk_27 (dk_at dksX8_laysBack_0 12 rfl rfl)
theorem dX8_laysBack_13 : decode cX8_laysBack 13 = .ok (.aload_n 0, 1) := dk_42 (dk_at dksX8_laysBack_0 13 rfl rfl)
theorem dX8_laysBack_14 : decode cX8_laysBack 14 = .ok (.getfield 35, 3) := dk_180 0 35 (dk_at dksX8_laysBack_0 14 rfl rfl)
theorem dX8_laysBack_17 : decode cX8_laysBack 17 = .ok (.iload_n 1, 1) := dk_27 (dk_at dksX8_laysBack_0 17 rfl rfl)
theorem dX8_laysBack_18 : decode cX8_laysBack 18 = .ok (.iaload, 1) := dk_46 (dk_at dksX8_laysBack_0 18 rfl rfl)
theorem dX8_laysBack_19 : decode cX8_laysBack 19 = .ok (.iastore, 1) := dk_79 (dk_at dksX8_laysBack_0 19 rfl rfl)
theorem dX8_laysBack_20 : decode cX8_laysBack 20 = .ok (.iinc 1 1, 3) := dk_132 1 1 (dk_at dksX8_laysBack_0 20 rfl rfl)
theorem dX8_laysBack_23 : decode cX8_laysBack 23 = .ok (.goto (-21), 3) := dk_167 255 235 (dk_at dksX8_laysBack_1 0 rfl rfl)
theorem dX8_laysBack_26 : decode cX8_laysBack 26 = .ok (.aload_n 0, 1) := dk_42 (dk_at dksX8_laysBack_1 3 rfl rfl)
theorem dX8_laysBack_27 : decode cX8_laysBack 27 = .ok (.aload_n 0, 1) := dk_42 (dk_at dksX8_laysBack_1 4 rfl rfl)
theorem dX8_laysBack_28 : decode cX8_laysBack 28 = .ok (.getfield 353, 3) := dk_180 1 97 (dk_at dksX8_laysBack_1 5 rfl rfl)
theorem dX8_laysBack_31 : decode cX8_laysBack 31 = .ok (.putfield 101, 3) := dk_181 0 101 (dk_at dksX8_laysBack_1 8 rfl rfl)
theorem dX8_laysBack_34 : decode cX8_laysBack 34 = .ok (.return_, 1) := dk_177 (dk_at dksX8_laysBack_1 11 rfl rfl)
def dkwX8_first_3 : List UInt8 := [42, 182, 1, 118, 29, 172]
abbrev dktX8_first_3 : List UInt8 := dkwX8_first_3 ++ []
def dkwX8_first_2 : List UInt8 := [182, 1, 91, 42, 182, 1, 100, 28, 161, 0, 8, 21, 4, 167, 0, 4, 2, 62, 132, 4, 1, 167, 255, 223]
abbrev dktX8_first_2 : List UInt8 := dkwX8_first_2 ++ dktX8_first_3
def dkwX8_first_1 : List UInt8 := [16, 254, 172, 42, 182, 1, 112, 2, 62, 3, 54, 4, 21, 4, 27, 162, 0, 33, 29, 2, 160, 0, 28, 42]
abbrev dktX8_first_1 : List UInt8 := dkwX8_first_1 ++ dktX8_first_2
def dkwX8_first_0 : List UInt8 := [27, 133, 9, 20, 1, 106, 184, 0, 70, 153, 0, 15, 28, 133, 9, 20, 1, 121, 184, 0, 70, 154, 0, 6]
abbrev dktX8_first_0 : List UInt8 := dkwX8_first_0 ++ dktX8_first_1
theorem dksX8_first_0 : cX8_first.data.toList.drop 0 = dktX8_first_0 := by decide +kernel
theorem dksX8_first_1 : cX8_first.data.toList.drop 24 = dktX8_first_1 := dk_seg dksX8_first_0 24 rfl rfl
theorem dksX8_first_2 : cX8_first.data.toList.drop 48 = dktX8_first_2 := dk_seg dksX8_first_1 24 rfl rfl
theorem dksX8_first_3 : cX8_first.data.toList.drop 72 = dktX8_first_3 := dk_seg dksX8_first_2 24 rfl rfl
theorem dX8_first_0 : decode cX8_first 0 = .ok (.iload_n 1, 1) := dk_27 (dk_at dksX8_first_0 0 rfl rfl)
theorem dX8_first_1 : decode cX8_first 1 = .ok (.i2l, 1) := dk_133 (dk_at dksX8_first_0 1 rfl rfl)
theorem dX8_first_2 : decode cX8_first 2 = .ok (.lconst 0, 1) := dk_9 (dk_at dksX8_first_0 2 rfl rfl)
theorem dX8_first_3 : decode cX8_first 3 = .ok (.ldc2_w 362, 3) := dk_20 1 106 (dk_at dksX8_first_0 3 rfl rfl)
theorem dX8_first_6 : decode cX8_first 6 = .ok (.invokestatic 70, 3) := dk_184 0 70 (dk_at dksX8_first_0 6 rfl rfl)
theorem dX8_first_9 : decode cX8_first 9 = .ok (.ifCond .eq 15, 3) := dk_153 0 15 (dk_at dksX8_first_0 9 rfl rfl)
theorem dX8_first_12 : decode cX8_first 12 = .ok (.iload_n 2, 1) := dk_28 (dk_at dksX8_first_0 12 rfl rfl)
theorem dX8_first_13 : decode cX8_first 13 = .ok (.i2l, 1) := dk_133 (dk_at dksX8_first_0 13 rfl rfl)
theorem dX8_first_14 : decode cX8_first 14 = .ok (.lconst 0, 1) := dk_9 (dk_at dksX8_first_0 14 rfl rfl)
theorem dX8_first_15 : decode cX8_first 15 = .ok (.ldc2_w 377, 3) := dk_20 1 121 (dk_at dksX8_first_0 15 rfl rfl)
theorem dX8_first_18 : decode cX8_first 18 = .ok (.invokestatic 70, 3) := dk_184 0 70 (dk_at dksX8_first_0 18 rfl rfl)
theorem dX8_first_21 : decode cX8_first 21 = .ok (.ifCond .ne 6, 3) := dk_154 0 6 (dk_at dksX8_first_0 21 rfl rfl)
theorem dX8_first_24 : decode cX8_first 24 = .ok (.bipush (-2), 2) := dk_16 254 (dk_at dksX8_first_1 0 rfl rfl)
theorem dX8_first_26 : decode cX8_first 26 = .ok (.ireturn, 1) := dk_172 (dk_at dksX8_first_1 2 rfl rfl)
theorem dX8_first_27 : decode cX8_first 27 = .ok (.aload_n 0, 1) := dk_42 (dk_at dksX8_first_1 3 rfl rfl)
theorem dX8_first_28 : decode cX8_first 28 = .ok (.invokevirtual 368, 3) := dk_182 1 112 (dk_at dksX8_first_1 4 rfl rfl)
theorem dX8_first_31 : decode cX8_first 31 = .ok (.iconst (-1), 1) := dk_2 (dk_at dksX8_first_1 7 rfl rfl)
theorem dX8_first_32 : decode cX8_first 32 = .ok (.istore_n 3, 1) := dk_62 (dk_at dksX8_first_1 8 rfl rfl)
theorem dX8_first_33 : decode cX8_first 33 = .ok (.iconst 0, 1) := dk_3 (dk_at dksX8_first_1 9 rfl rfl)
theorem dX8_first_34 : decode cX8_first 34 = .ok (.istore 4, 2) := dk_54 4 (dk_at dksX8_first_1 10 rfl rfl)
theorem dX8_first_36 : decode cX8_first 36 = .ok (.iload 4, 2) := dk_21 4 (dk_at dksX8_first_1 12 rfl rfl)
theorem dX8_first_38 : decode cX8_first 38 = .ok (.iload_n 1, 1) := dk_27 (dk_at dksX8_first_1 14 rfl rfl)
theorem dX8_first_39 : decode cX8_first 39 = .ok (.if_icmp .ge 33, 3) := dk_162 0 33 (dk_at dksX8_first_1 15 rfl rfl)
theorem dX8_first_42 : decode cX8_first 42 = .ok (.iload_n 3, 1) := dk_29 (dk_at dksX8_first_1 18 rfl rfl)
theorem dX8_first_43 : decode cX8_first 43 = .ok (.iconst (-1), 1) := dk_2 (dk_at dksX8_first_1 19 rfl rfl)
theorem dX8_first_44 : decode cX8_first 44 = .ok (.if_icmp .ne 28, 3) := dk_160 0 28 (dk_at dksX8_first_1 20 rfl rfl)
theorem dX8_first_47 : decode cX8_first 47 = .ok (.aload_n 0, 1) := dk_42 (dk_at dksX8_first_1 23 rfl rfl)
theorem dX8_first_48 : decode cX8_first 48 = .ok (.invokevirtual 347, 3) := dk_182 1 91 (dk_at dksX8_first_2 0 rfl rfl)
theorem dX8_first_51 : decode cX8_first 51 = .ok (.aload_n 0, 1) := dk_42 (dk_at dksX8_first_2 3 rfl rfl)
theorem dX8_first_52 : decode cX8_first 52 = .ok (.invokevirtual 356, 3) := dk_182 1 100 (dk_at dksX8_first_2 4 rfl rfl)
theorem dX8_first_55 : decode cX8_first 55 = .ok (.iload_n 2, 1) := dk_28 (dk_at dksX8_first_2 7 rfl rfl)
theorem dX8_first_56 : decode cX8_first 56 = .ok (.if_icmp .lt 8, 3) := dk_161 0 8 (dk_at dksX8_first_2 8 rfl rfl)
theorem dX8_first_59 : decode cX8_first 59 = .ok (.iload 4, 2) := dk_21 4 (dk_at dksX8_first_2 11 rfl rfl)
theorem dX8_first_61 : decode cX8_first 61 = .ok (.goto 4, 3) := dk_167 0 4 (dk_at dksX8_first_2 13 rfl rfl)
theorem dX8_first_64 : decode cX8_first 64 = .ok (.iconst (-1), 1) := dk_2 (dk_at dksX8_first_2 16 rfl rfl)
theorem dX8_first_65 : decode cX8_first 65 = .ok (.istore_n 3, 1) := dk_62 (dk_at dksX8_first_2 17 rfl rfl)
theorem dX8_first_66 : decode cX8_first 66 = .ok (.iinc 4 1, 3) := dk_132 4 1 (dk_at dksX8_first_2 18 rfl rfl)
theorem dX8_first_69 : decode cX8_first 69 = .ok (.goto (-33), 3) := dk_167 255 223 (dk_at dksX8_first_2 21 rfl rfl)
theorem dX8_first_72 : decode cX8_first 72 = .ok (.aload_n 0, 1) := dk_42 (dk_at dksX8_first_3 0 rfl rfl)
theorem dX8_first_73 : decode cX8_first 73 = .ok (.invokevirtual 374, 3) := dk_182 1 118 (dk_at dksX8_first_3 1 rfl rfl)
theorem dX8_first_76 : decode cX8_first 76 = .ok (.iload_n 3, 1) := dk_29 (dk_at dksX8_first_3 4 rfl rfl)
theorem dX8_first_77 : decode cX8_first 77 = .ok (.ireturn, 1) := dk_172 (dk_at dksX8_first_3 5 rfl rfl)
def dkwX8_found_4 : List UInt8 := [55, 10, 167, 255, 234, 29, 154, 0, 11, 22, 4, 22, 8, 109, 167, 0, 8, 22, 6, 22, 8, 109, 173]
abbrev dktX8_found_4 : List UInt8 := dkwX8_found_4 ++ []
def dkwX8_found_3 : List UInt8 := [22, 6, 55, 10, 22, 10, 9, 148, 153, 0, 21, 22, 8, 22, 10, 113, 55, 12, 22, 10, 55, 8, 22, 12]
abbrev dktX8_found_3 : List UInt8 := dkwX8_found_3 ++ dktX8_found_4
def dkwX8_found_2 : List UInt8 := [21, 8, 28, 162, 0, 17, 22, 6, 20, 1, 131, 105, 55, 6, 132, 8, 1, 167, 255, 239, 22, 4, 55, 8]
abbrev dktX8_found_2 : List UInt8 := dkwX8_found_2 ++ dktX8_found_3
def dkwX8_found_1 : List UInt8 := [184, 0, 70, 154, 0, 7, 20, 1, 125, 173, 42, 27, 28, 182, 1, 127, 55, 4, 10, 55, 6, 3, 54, 8]
abbrev dktX8_found_1 : List UInt8 := dkwX8_found_1 ++ dktX8_found_2
def dkwX8_found_0 : List UInt8 := [42, 27, 182, 0, 80, 153, 0, 25, 28, 133, 9, 20, 1, 123, 184, 0, 70, 153, 0, 13, 29, 133, 9, 10]
abbrev dktX8_found_0 : List UInt8 := dkwX8_found_0 ++ dktX8_found_1
theorem dksX8_found_0 : cX8_found.data.toList.drop 0 = dktX8_found_0 := by decide +kernel
theorem dksX8_found_1 : cX8_found.data.toList.drop 24 = dktX8_found_1 := dk_seg dksX8_found_0 24 rfl rfl
theorem dksX8_found_2 : cX8_found.data.toList.drop 48 = dktX8_found_2 := dk_seg dksX8_found_1 24 rfl rfl
theorem dksX8_found_3 : cX8_found.data.toList.drop 72 = dktX8_found_3 := dk_seg dksX8_found_2 24 rfl rfl
theorem dksX8_found_4 : cX8_found.data.toList.drop 96 = dktX8_found_4 := dk_seg dksX8_found_3 24 rfl rfl
theorem dX8_found_0 : decode cX8_found 0 = .ok (.aload_n 0, 1) := dk_42 (dk_at dksX8_found_0 0 rfl rfl)
theorem dX8_found_1 : decode cX8_found 1 = .ok (.iload_n 1, 1) := dk_27 (dk_at dksX8_found_0 1 rfl rfl)
theorem dX8_found_2 : decode cX8_found 2 = .ok (.invokevirtual 80, 3) := dk_182 0 80 (dk_at dksX8_found_0 2 rfl rfl)
theorem dX8_found_5 : decode cX8_found 5 = .ok (.ifCond .eq 25, 3) := dk_153 0 25 (dk_at dksX8_found_0 5 rfl rfl)
theorem dX8_found_8 : decode cX8_found 8 = .ok (.iload_n 2, 1) := dk_28 (dk_at dksX8_found_0 8 rfl rfl)
theorem dX8_found_9 : decode cX8_found 9 = .ok (.i2l, 1) := dk_133 (dk_at dksX8_found_0 9 rfl rfl)
theorem dX8_found_10 : decode cX8_found 10 = .ok (.lconst 0, 1) := dk_9 (dk_at dksX8_found_0 10 rfl rfl)
theorem dX8_found_11 : decode cX8_found 11 = .ok (.ldc2_w 379, 3) := dk_20 1 123 (dk_at dksX8_found_0 11 rfl rfl)
theorem dX8_found_14 : decode cX8_found 14 = .ok (.invokestatic 70, 3) := dk_184 0 70 (dk_at dksX8_found_0 14 rfl rfl)
theorem dX8_found_17 : decode cX8_found 17 = .ok (.ifCond .eq 13, 3) := dk_153 0 13 (dk_at dksX8_found_0 17 rfl rfl)
theorem dX8_found_20 : decode cX8_found 20 = .ok (.iload_n 3, 1) := dk_29 (dk_at dksX8_found_0 20 rfl rfl)
theorem dX8_found_21 : decode cX8_found 21 = .ok (.i2l, 1) := dk_133 (dk_at dksX8_found_0 21 rfl rfl)
theorem dX8_found_22 : decode cX8_found 22 = .ok (.lconst 0, 1) := dk_9 (dk_at dksX8_found_0 22 rfl rfl)
theorem dX8_found_23 : decode cX8_found 23 = .ok (.lconst 1, 1) := dk_10 (dk_at dksX8_found_0 23 rfl rfl)
theorem dX8_found_24 : decode cX8_found 24 = .ok (.invokestatic 70, 3) := dk_184 0 70 (dk_at dksX8_found_1 0 rfl rfl)
theorem dX8_found_27 : decode cX8_found 27 = .ok (.ifCond .ne 7, 3) := dk_154 0 7 (dk_at dksX8_found_1 3 rfl rfl)
theorem dX8_found_30 : decode cX8_found 30 = .ok (.ldc2_w 381, 3) := dk_20 1 125 (dk_at dksX8_found_1 6 rfl rfl)
theorem dX8_found_33 : decode cX8_found 33 = .ok (.lreturn, 1) := dk_173 (dk_at dksX8_found_1 9 rfl rfl)
theorem dX8_found_34 : decode cX8_found 34 = .ok (.aload_n 0, 1) := dk_42 (dk_at dksX8_found_1 10 rfl rfl)
theorem dX8_found_35 : decode cX8_found 35 = .ok (.iload_n 1, 1) := dk_27 (dk_at dksX8_found_1 11 rfl rfl)
theorem dX8_found_36 : decode cX8_found 36 = .ok (.iload_n 2, 1) := dk_28 (dk_at dksX8_found_1 12 rfl rfl)
theorem dX8_found_37 : decode cX8_found 37 = .ok (.invokevirtual 383, 3) := dk_182 1 127 (dk_at dksX8_found_1 13 rfl rfl)
theorem dX8_found_40 : decode cX8_found 40 = .ok (.lstore 4, 2) := dk_55 4 (dk_at dksX8_found_1 16 rfl rfl)
theorem dX8_found_42 : decode cX8_found 42 = .ok (.lconst 1, 1) := dk_10 (dk_at dksX8_found_1 18 rfl rfl)
theorem dX8_found_43 : decode cX8_found 43 = .ok (.lstore 6, 2) := dk_55 6 (dk_at dksX8_found_1 19 rfl rfl)
theorem dX8_found_45 : decode cX8_found 45 = .ok (.iconst 0, 1) := dk_3 (dk_at dksX8_found_1 21 rfl rfl)
theorem dX8_found_46 : decode cX8_found 46 = .ok (.istore 8, 2) := dk_54 8 (dk_at dksX8_found_1 22 rfl rfl)
theorem dX8_found_48 : decode cX8_found 48 = .ok (.iload 8, 2) := dk_21 8 (dk_at dksX8_found_2 0 rfl rfl)
theorem dX8_found_50 : decode cX8_found 50 = .ok (.iload_n 2, 1) := dk_28 (dk_at dksX8_found_2 2 rfl rfl)
theorem dX8_found_51 : decode cX8_found 51 = .ok (.if_icmp .ge 17, 3) := dk_162 0 17 (dk_at dksX8_found_2 3 rfl rfl)
theorem dX8_found_54 : decode cX8_found 54 = .ok (.lload 6, 2) := dk_22 6 (dk_at dksX8_found_2 6 rfl rfl)
theorem dX8_found_56 : decode cX8_found 56 = .ok (.ldc2_w 387, 3) := dk_20 1 131 (dk_at dksX8_found_2 8 rfl rfl)
theorem dX8_found_59 : decode cX8_found 59 = .ok (.lmul, 1) := dk_105 (dk_at dksX8_found_2 11 rfl rfl)
theorem dX8_found_60 : decode cX8_found 60 = .ok (.lstore 6, 2) := dk_55 6 (dk_at dksX8_found_2 12 rfl rfl)
theorem dX8_found_62 : decode cX8_found 62 = .ok (.iinc 8 1, 3) := dk_132 8 1 (dk_at dksX8_found_2 14 rfl rfl)
theorem dX8_found_65 : decode cX8_found 65 = .ok (.goto (-17), 3) := dk_167 255 239 (dk_at dksX8_found_2 17 rfl rfl)
theorem dX8_found_68 : decode cX8_found 68 = .ok (.lload 4, 2) := dk_22 4 (dk_at dksX8_found_2 20 rfl rfl)
theorem dX8_found_70 : decode cX8_found 70 = .ok (.lstore 8, 2) := dk_55 8 (dk_at dksX8_found_2 22 rfl rfl)
theorem dX8_found_72 : decode cX8_found 72 = .ok (.lload 6, 2) := dk_22 6 (dk_at dksX8_found_3 0 rfl rfl)
theorem dX8_found_74 : decode cX8_found 74 = .ok (.lstore 10, 2) := dk_55 10 (dk_at dksX8_found_3 2 rfl rfl)
theorem dX8_found_76 : decode cX8_found 76 = .ok (.lload 10, 2) := dk_22 10 (dk_at dksX8_found_3 4 rfl rfl)
theorem dX8_found_78 : decode cX8_found 78 = .ok (.lconst 0, 1) := dk_9 (dk_at dksX8_found_3 6 rfl rfl)
theorem dX8_found_79 : decode cX8_found 79 = .ok (.lcmp, 1) := dk_148 (dk_at dksX8_found_3 7 rfl rfl)
theorem dX8_found_80 : decode cX8_found 80 = .ok (.ifCond .eq 21, 3) := dk_153 0 21 (dk_at dksX8_found_3 8 rfl rfl)
theorem dX8_found_83 : decode cX8_found 83 = .ok (.lload 8, 2) := dk_22 8 (dk_at dksX8_found_3 11 rfl rfl)
theorem dX8_found_85 : decode cX8_found 85 = .ok (.lload 10, 2) := dk_22 10 (dk_at dksX8_found_3 13 rfl rfl)
theorem dX8_found_87 : decode cX8_found 87 = .ok (.lrem, 1) := dk_113 (dk_at dksX8_found_3 15 rfl rfl)
theorem dX8_found_88 : decode cX8_found 88 = .ok (.lstore 12, 2) := dk_55 12 (dk_at dksX8_found_3 16 rfl rfl)
theorem dX8_found_90 : decode cX8_found 90 = .ok (.lload 10, 2) := dk_22 10 (dk_at dksX8_found_3 18 rfl rfl)
theorem dX8_found_92 : decode cX8_found 92 = .ok (.lstore 8, 2) := dk_55 8 (dk_at dksX8_found_3 20 rfl rfl)
theorem dX8_found_94 : decode cX8_found 94 = .ok (.lload 12, 2) := dk_22 12 (dk_at dksX8_found_3 22 rfl rfl)
theorem dX8_found_96 : decode cX8_found 96 = .ok (.lstore 10, 2) := dk_55 10 (dk_at dksX8_found_4 0 rfl rfl)
theorem dX8_found_98 : decode cX8_found 98 = .ok (.goto (-22), 3) := dk_167 255 234 (dk_at dksX8_found_4 2 rfl rfl)
theorem dX8_found_101 : decode cX8_found 101 = .ok (.iload_n 3, 1) := dk_29 (dk_at dksX8_found_4 5 rfl rfl)
theorem dX8_found_102 : decode cX8_found 102 = .ok (.ifCond .ne 11, 3) := dk_154 0 11 (dk_at dksX8_found_4 6 rfl rfl)
theorem dX8_found_105 : decode cX8_found 105 = .ok (.lload 4, 2) := dk_22 4 (dk_at dksX8_found_4 9 rfl rfl)
theorem dX8_found_107 : decode cX8_found 107 = .ok (.lload 8, 2) := dk_22 8 (dk_at dksX8_found_4 11 rfl rfl)
theorem dX8_found_109 : decode cX8_found 109 = .ok (.ldiv, 1) := dk_109 (dk_at dksX8_found_4 13 rfl rfl)
theorem dX8_found_110 : decode cX8_found 110 = .ok (.goto 8, 3) := dk_167 0 8 (dk_at dksX8_found_4 14 rfl rfl)
theorem dX8_found_113 : decode cX8_found 113 = .ok (.lload 6, 2) := dk_22 6 (dk_at dksX8_found_4 17 rfl rfl)
theorem dX8_found_115 : decode cX8_found 115 = .ok (.lload 8, 2) := dk_22 8 (dk_at dksX8_found_4 19 rfl rfl)
theorem dX8_found_117 : decode cX8_found 117 = .ok (.ldiv, 1) := dk_109 (dk_at dksX8_found_4 21 rfl rfl)
theorem dX8_found_118 : decode cX8_found 118 = .ok (.lreturn, 1) := dk_173 (dk_at dksX8_found_4 22 rfl rfl)
def dkwX8_hidden_1 : List UInt8 := [100, 133, 105, 66, 42, 182, 1, 91, 132, 5, 1, 167, 255, 230, 42, 182, 1, 118, 33, 173]
abbrev dktX8_hidden_1 : List UInt8 := dkwX8_hidden_1 ++ []
def dkwX8_hidden_0 : List UInt8 := [42, 182, 1, 112, 10, 66, 3, 54, 5, 21, 5, 28, 162, 0, 26, 33, 16, 100, 42, 5, 27, 182, 0, 124]
abbrev dktX8_hidden_0 : List UInt8 := dkwX8_hidden_0 ++ dktX8_hidden_1
theorem dksX8_hidden_0 : cX8_hidden.data.toList.drop 0 = dktX8_hidden_0 := by decide +kernel
theorem dksX8_hidden_1 : cX8_hidden.data.toList.drop 24 = dktX8_hidden_1 := dk_seg dksX8_hidden_0 24 rfl rfl
theorem dX8_hidden_0 : decode cX8_hidden 0 = .ok (.aload_n 0, 1) := dk_42 (dk_at dksX8_hidden_0 0 rfl rfl)
theorem dX8_hidden_1 : decode cX8_hidden 1 = .ok (.invokevirtual 368, 3) := dk_182 1 112 (dk_at dksX8_hidden_0 1 rfl rfl)
theorem dX8_hidden_4 : decode cX8_hidden 4 = .ok (.lconst 1, 1) := dk_10 (dk_at dksX8_hidden_0 4 rfl rfl)
theorem dX8_hidden_5 : decode cX8_hidden 5 = .ok (.lstore_n 3, 1) := dk_66 (dk_at dksX8_hidden_0 5 rfl rfl)
theorem dX8_hidden_6 : decode cX8_hidden 6 = .ok (.iconst 0, 1) := dk_3 (dk_at dksX8_hidden_0 6 rfl rfl)
theorem dX8_hidden_7 : decode cX8_hidden 7 = .ok (.istore 5, 2) := dk_54 5 (dk_at dksX8_hidden_0 7 rfl rfl)
theorem dX8_hidden_9 : decode cX8_hidden 9 = .ok (.iload 5, 2) := dk_21 5 (dk_at dksX8_hidden_0 9 rfl rfl)
theorem dX8_hidden_11 : decode cX8_hidden 11 = .ok (.iload_n 2, 1) := dk_28 (dk_at dksX8_hidden_0 11 rfl rfl)
theorem dX8_hidden_12 : decode cX8_hidden 12 = .ok (.if_icmp .ge 26, 3) := dk_162 0 26 (dk_at dksX8_hidden_0 12 rfl rfl)
theorem dX8_hidden_15 : decode cX8_hidden 15 = .ok (.lload_n 3, 1) := dk_33 (dk_at dksX8_hidden_0 15 rfl rfl)
theorem dX8_hidden_16 : decode cX8_hidden 16 = .ok (.bipush 100, 2) := dk_16 100 (dk_at dksX8_hidden_0 16 rfl rfl)
theorem dX8_hidden_18 : decode cX8_hidden 18 = .ok (.aload_n 0, 1) := dk_42 (dk_at dksX8_hidden_0 18 rfl rfl)
theorem dX8_hidden_19 : decode cX8_hidden 19 = .ok (.iconst 2, 1) := dk_5 (dk_at dksX8_hidden_0 19 rfl rfl)
theorem dX8_hidden_20 : decode cX8_hidden 20 = .ok (.iload_n 1, 1) := dk_27 (dk_at dksX8_hidden_0 20 rfl rfl)
theorem dX8_hidden_21 : decode cX8_hidden 21 = .ok (.invokevirtual 124, 3) := dk_182 0 124 (dk_at dksX8_hidden_0 21 rfl rfl)
theorem dX8_hidden_24 : decode cX8_hidden 24 = .ok (.isub, 1) := dk_100 (dk_at dksX8_hidden_1 0 rfl rfl)
theorem dX8_hidden_25 : decode cX8_hidden 25 = .ok (.i2l, 1) := dk_133 (dk_at dksX8_hidden_1 1 rfl rfl)
theorem dX8_hidden_26 : decode cX8_hidden 26 = .ok (.lmul, 1) := dk_105 (dk_at dksX8_hidden_1 2 rfl rfl)
theorem dX8_hidden_27 : decode cX8_hidden 27 = .ok (.lstore_n 3, 1) := dk_66 (dk_at dksX8_hidden_1 3 rfl rfl)
theorem dX8_hidden_28 : decode cX8_hidden 28 = .ok (.aload_n 0, 1) := dk_42 (dk_at dksX8_hidden_1 4 rfl rfl)
theorem dX8_hidden_29 : decode cX8_hidden 29 = .ok (.invokevirtual 347, 3) := dk_182 1 91 (dk_at dksX8_hidden_1 5 rfl rfl)
theorem dX8_hidden_32 : decode cX8_hidden 32 = .ok (.iinc 5 1, 3) := dk_132 5 1 (dk_at dksX8_hidden_1 8 rfl rfl)
theorem dX8_hidden_35 : decode cX8_hidden 35 = .ok (.goto (-26), 3) := dk_167 255 230 (dk_at dksX8_hidden_1 11 rfl rfl)
theorem dX8_hidden_38 : decode cX8_hidden 38 = .ok (.aload_n 0, 1) := dk_42 (dk_at dksX8_hidden_1 14 rfl rfl)
theorem dX8_hidden_39 : decode cX8_hidden 39 = .ok (.invokevirtual 374, 3) := dk_182 1 118 (dk_at dksX8_hidden_1 15 rfl rfl)
theorem dX8_hidden_42 : decode cX8_hidden 42 = .ok (.lload_n 3, 1) := dk_33 (dk_at dksX8_hidden_1 18 rfl rfl)
theorem dX8_hidden_43 : decode cX8_hidden 43 = .ok (.lreturn, 1) := dk_173 (dk_at dksX8_hidden_1 19 rfl rfl)
def dkwX8_soil_5 : List UInt8 := [167, 0, 5, 21, 6, 172]
abbrev dktX8_soil_5 : List UInt8 := dkwX8_soil_5 ++ []
def dkwX8_soil_4 : List UInt8 := [132, 7, 1, 167, 255, 211, 42, 180, 0, 32, 6, 27, 104, 4, 96, 21, 4, 79, 29, 154, 0, 8, 21, 5]
abbrev dktX8_soil_4 : List UInt8 := dkwX8_soil_4 ++ dktX8_soil_5
def dkwX8_soil_3 : List UInt8 := [79, 42, 27, 28, 182, 1, 133, 54, 8, 21, 8, 21, 6, 164, 0, 11, 21, 7, 54, 5, 21, 8, 54, 6]
abbrev dktX8_soil_3 : List UInt8 := dkwX8_soil_3 ++ dktX8_soil_4
def dkwX8_soil_2 : List UInt8 := [2, 54, 6, 3, 54, 7, 21, 7, 16, 8, 162, 0, 44, 42, 180, 0, 32, 6, 27, 104, 4, 96, 21, 7]
abbrev dktX8_soil_2 : List UInt8 := dkwX8_soil_2 ++ dktX8_soil_3
def dkwX8_soil_1 : List UInt8 := [184, 0, 70, 154, 0, 6, 16, 254, 172, 42, 180, 0, 32, 6, 27, 104, 4, 96, 46, 54, 4, 2, 54, 5]
abbrev dktX8_soil_1 : List UInt8 := dkwX8_soil_1 ++ dktX8_soil_2
def dkwX8_soil_0 : List UInt8 := [42, 27, 182, 0, 80, 153, 0, 25, 28, 133, 9, 20, 1, 106, 184, 0, 70, 153, 0, 13, 29, 133, 9, 10]
abbrev dktX8_soil_0 : List UInt8 := dkwX8_soil_0 ++ dktX8_soil_1
theorem dksX8_soil_0 : cX8_soil.data.toList.drop 0 = dktX8_soil_0 := by decide +kernel
theorem dksX8_soil_1 : cX8_soil.data.toList.drop 24 = dktX8_soil_1 := dk_seg dksX8_soil_0 24 rfl rfl
theorem dksX8_soil_2 : cX8_soil.data.toList.drop 48 = dktX8_soil_2 := dk_seg dksX8_soil_1 24 rfl rfl
theorem dksX8_soil_3 : cX8_soil.data.toList.drop 72 = dktX8_soil_3 := dk_seg dksX8_soil_2 24 rfl rfl
theorem dksX8_soil_4 : cX8_soil.data.toList.drop 96 = dktX8_soil_4 := dk_seg dksX8_soil_3 24 rfl rfl
theorem dksX8_soil_5 : cX8_soil.data.toList.drop 120 = dktX8_soil_5 := dk_seg dksX8_soil_4 24 rfl rfl
theorem dX8_soil_0 : decode cX8_soil 0 = .ok (.aload_n 0, 1) := dk_42 (dk_at dksX8_soil_0 0 rfl rfl)
theorem dX8_soil_1 : decode cX8_soil 1 = .ok (.iload_n 1, 1) := dk_27 (dk_at dksX8_soil_0 1 rfl rfl)
theorem dX8_soil_2 : decode cX8_soil 2 = .ok (.invokevirtual 80, 3) := dk_182 0 80 (dk_at dksX8_soil_0 2 rfl rfl)
theorem dX8_soil_5 : decode cX8_soil 5 = .ok (.ifCond .eq 25, 3) := dk_153 0 25 (dk_at dksX8_soil_0 5 rfl rfl)
theorem dX8_soil_8 : decode cX8_soil 8 = .ok (.iload_n 2, 1) := dk_28 (dk_at dksX8_soil_0 8 rfl rfl)
theorem dX8_soil_9 : decode cX8_soil 9 = .ok (.i2l, 1) := dk_133 (dk_at dksX8_soil_0 9 rfl rfl)
theorem dX8_soil_10 : decode cX8_soil 10 = .ok (.lconst 0, 1) := dk_9 (dk_at dksX8_soil_0 10 rfl rfl)
theorem dX8_soil_11 : decode cX8_soil 11 = .ok (.ldc2_w 362, 3) := dk_20 1 106 (dk_at dksX8_soil_0 11 rfl rfl)
theorem dX8_soil_14 : decode cX8_soil 14 = .ok (.invokestatic 70, 3) := dk_184 0 70 (dk_at dksX8_soil_0 14 rfl rfl)
theorem dX8_soil_17 : decode cX8_soil 17 = .ok (.ifCond .eq 13, 3) := dk_153 0 13 (dk_at dksX8_soil_0 17 rfl rfl)
theorem dX8_soil_20 : decode cX8_soil 20 = .ok (.iload_n 3, 1) := dk_29 (dk_at dksX8_soil_0 20 rfl rfl)
theorem dX8_soil_21 : decode cX8_soil 21 = .ok (.i2l, 1) := dk_133 (dk_at dksX8_soil_0 21 rfl rfl)
theorem dX8_soil_22 : decode cX8_soil 22 = .ok (.lconst 0, 1) := dk_9 (dk_at dksX8_soil_0 22 rfl rfl)
theorem dX8_soil_23 : decode cX8_soil 23 = .ok (.lconst 1, 1) := dk_10 (dk_at dksX8_soil_0 23 rfl rfl)
theorem dX8_soil_24 : decode cX8_soil 24 = .ok (.invokestatic 70, 3) := dk_184 0 70 (dk_at dksX8_soil_1 0 rfl rfl)
theorem dX8_soil_27 : decode cX8_soil 27 = .ok (.ifCond .ne 6, 3) := dk_154 0 6 (dk_at dksX8_soil_1 3 rfl rfl)
theorem dX8_soil_30 : decode cX8_soil 30 = .ok (.bipush (-2), 2) := dk_16 254 (dk_at dksX8_soil_1 6 rfl rfl)
theorem dX8_soil_32 : decode cX8_soil 32 = .ok (.ireturn, 1) := dk_172 (dk_at dksX8_soil_1 8 rfl rfl)
theorem dX8_soil_33 : decode cX8_soil 33 = .ok (.aload_n 0, 1) := dk_42 (dk_at dksX8_soil_1 9 rfl rfl)
theorem dX8_soil_34 : decode cX8_soil 34 = .ok (.getfield 32, 3) := dk_180 0 32 (dk_at dksX8_soil_1 10 rfl rfl)
theorem dX8_soil_37 : decode cX8_soil 37 = .ok (.iconst 3, 1) := dk_6 (dk_at dksX8_soil_1 13 rfl rfl)
theorem dX8_soil_38 : decode cX8_soil 38 = .ok (.iload_n 1, 1) := dk_27 (dk_at dksX8_soil_1 14 rfl rfl)
theorem dX8_soil_39 : decode cX8_soil 39 = .ok (.imul, 1) := dk_104 (dk_at dksX8_soil_1 15 rfl rfl)
theorem dX8_soil_40 : decode cX8_soil 40 = .ok (.iconst 1, 1) := dk_4 (dk_at dksX8_soil_1 16 rfl rfl)
theorem dX8_soil_41 : decode cX8_soil 41 = .ok (.iadd, 1) := dk_96 (dk_at dksX8_soil_1 17 rfl rfl)
theorem dX8_soil_42 : decode cX8_soil 42 = .ok (.iaload, 1) := dk_46 (dk_at dksX8_soil_1 18 rfl rfl)
theorem dX8_soil_43 : decode cX8_soil 43 = .ok (.istore 4, 2) := dk_54 4 (dk_at dksX8_soil_1 19 rfl rfl)
theorem dX8_soil_45 : decode cX8_soil 45 = .ok (.iconst (-1), 1) := dk_2 (dk_at dksX8_soil_1 21 rfl rfl)
theorem dX8_soil_46 : decode cX8_soil 46 = .ok (.istore 5, 2) := dk_54 5 (dk_at dksX8_soil_1 22 rfl rfl)
theorem dX8_soil_48 : decode cX8_soil 48 = .ok (.iconst (-1), 1) := dk_2 (dk_at dksX8_soil_2 0 rfl rfl)
theorem dX8_soil_49 : decode cX8_soil 49 = .ok (.istore 6, 2) := dk_54 6 (dk_at dksX8_soil_2 1 rfl rfl)
theorem dX8_soil_51 : decode cX8_soil 51 = .ok (.iconst 0, 1) := dk_3 (dk_at dksX8_soil_2 3 rfl rfl)
theorem dX8_soil_52 : decode cX8_soil 52 = .ok (.istore 7, 2) := dk_54 7 (dk_at dksX8_soil_2 4 rfl rfl)
theorem dX8_soil_54 : decode cX8_soil 54 = .ok (.iload 7, 2) := dk_21 7 (dk_at dksX8_soil_2 6 rfl rfl)
theorem dX8_soil_56 : decode cX8_soil 56 = .ok (.bipush 8, 2) := dk_16 8 (dk_at dksX8_soil_2 8 rfl rfl)
theorem dX8_soil_58 : decode cX8_soil 58 = .ok (.if_icmp .ge 44, 3) := dk_162 0 44 (dk_at dksX8_soil_2 10 rfl rfl)
theorem dX8_soil_61 : decode cX8_soil 61 = .ok (.aload_n 0, 1) := dk_42 (dk_at dksX8_soil_2 13 rfl rfl)
theorem dX8_soil_62 : decode cX8_soil 62 = .ok (.getfield 32, 3) := dk_180 0 32 (dk_at dksX8_soil_2 14 rfl rfl)
theorem dX8_soil_65 : decode cX8_soil 65 = .ok (.iconst 3, 1) := dk_6 (dk_at dksX8_soil_2 17 rfl rfl)
theorem dX8_soil_66 : decode cX8_soil 66 = .ok (.iload_n 1, 1) := dk_27 (dk_at dksX8_soil_2 18 rfl rfl)
theorem dX8_soil_67 : decode cX8_soil 67 = .ok (.imul, 1) := dk_104 (dk_at dksX8_soil_2 19 rfl rfl)
theorem dX8_soil_68 : decode cX8_soil 68 = .ok (.iconst 1, 1) := dk_4 (dk_at dksX8_soil_2 20 rfl rfl)
theorem dX8_soil_69 : decode cX8_soil 69 = .ok (.iadd, 1) := dk_96 (dk_at dksX8_soil_2 21 rfl rfl)
theorem dX8_soil_70 : decode cX8_soil 70 = .ok (.iload 7, 2) := dk_21 7 (dk_at dksX8_soil_2 22 rfl rfl)
theorem dX8_soil_72 : decode cX8_soil 72 = .ok (.iastore, 1) := dk_79 (dk_at dksX8_soil_3 0 rfl rfl)
theorem dX8_soil_73 : decode cX8_soil 73 = .ok (.aload_n 0, 1) := dk_42 (dk_at dksX8_soil_3 1 rfl rfl)
theorem dX8_soil_74 : decode cX8_soil 74 = .ok (.iload_n 1, 1) := dk_27 (dk_at dksX8_soil_3 2 rfl rfl)
theorem dX8_soil_75 : decode cX8_soil 75 = .ok (.iload_n 2, 1) := dk_28 (dk_at dksX8_soil_3 3 rfl rfl)
theorem dX8_soil_76 : decode cX8_soil 76 = .ok (.invokevirtual 389, 3) := dk_182 1 133 (dk_at dksX8_soil_3 4 rfl rfl)
theorem dX8_soil_79 : decode cX8_soil 79 = .ok (.istore 8, 2) := dk_54 8 (dk_at dksX8_soil_3 7 rfl rfl)
theorem dX8_soil_81 : decode cX8_soil 81 = .ok (.iload 8, 2) := dk_21 8 (dk_at dksX8_soil_3 9 rfl rfl)
theorem dX8_soil_83 : decode cX8_soil 83 = .ok (.iload 6, 2) := dk_21 6 (dk_at dksX8_soil_3 11 rfl rfl)
theorem dX8_soil_85 : decode cX8_soil 85 = .ok (.if_icmp .le 11, 3) := dk_164 0 11 (dk_at dksX8_soil_3 13 rfl rfl)
theorem dX8_soil_88 : decode cX8_soil 88 = .ok (.iload 7, 2) := dk_21 7 (dk_at dksX8_soil_3 16 rfl rfl)
theorem dX8_soil_90 : decode cX8_soil 90 = .ok (.istore 5, 2) := dk_54 5 (dk_at dksX8_soil_3 18 rfl rfl)
theorem dX8_soil_92 : decode cX8_soil 92 = .ok (.iload 8, 2) := dk_21 8 (dk_at dksX8_soil_3 20 rfl rfl)
theorem dX8_soil_94 : decode cX8_soil 94 = .ok (.istore 6, 2) := dk_54 6 (dk_at dksX8_soil_3 22 rfl rfl)
theorem dX8_soil_96 : decode cX8_soil 96 = .ok (.iinc 7 1, 3) := dk_132 7 1 (dk_at dksX8_soil_4 0 rfl rfl)
theorem dX8_soil_99 : decode cX8_soil 99 = .ok (.goto (-45), 3) := dk_167 255 211 (dk_at dksX8_soil_4 3 rfl rfl)
theorem dX8_soil_102 : decode cX8_soil 102 = .ok (.aload_n 0, 1) := dk_42 (dk_at dksX8_soil_4 6 rfl rfl)
theorem dX8_soil_103 : decode cX8_soil 103 = .ok (.getfield 32, 3) := dk_180 0 32 (dk_at dksX8_soil_4 7 rfl rfl)
theorem dX8_soil_106 : decode cX8_soil 106 = .ok (.iconst 3, 1) := dk_6 (dk_at dksX8_soil_4 10 rfl rfl)
theorem dX8_soil_107 : decode cX8_soil 107 = .ok (.iload_n 1, 1) := dk_27 (dk_at dksX8_soil_4 11 rfl rfl)
theorem dX8_soil_108 : decode cX8_soil 108 = .ok (.imul, 1) := dk_104 (dk_at dksX8_soil_4 12 rfl rfl)
theorem dX8_soil_109 : decode cX8_soil 109 = .ok (.iconst 1, 1) := dk_4 (dk_at dksX8_soil_4 13 rfl rfl)
theorem dX8_soil_110 : decode cX8_soil 110 = .ok (.iadd, 1) := dk_96 (dk_at dksX8_soil_4 14 rfl rfl)
theorem dX8_soil_111 : decode cX8_soil 111 = .ok (.iload 4, 2) := dk_21 4 (dk_at dksX8_soil_4 15 rfl rfl)
theorem dX8_soil_113 : decode cX8_soil 113 = .ok (.iastore, 1) := dk_79 (dk_at dksX8_soil_4 17 rfl rfl)
theorem dX8_soil_114 : decode cX8_soil 114 = .ok (.iload_n 3, 1) := dk_29 (dk_at dksX8_soil_4 18 rfl rfl)
theorem dX8_soil_115 : decode cX8_soil 115 = .ok (.ifCond .ne 8, 3) := dk_154 0 8 (dk_at dksX8_soil_4 19 rfl rfl)
theorem dX8_soil_118 : decode cX8_soil 118 = .ok (.iload 5, 2) := dk_21 5 (dk_at dksX8_soil_4 22 rfl rfl)
theorem dX8_soil_120 : decode cX8_soil 120 = .ok (.goto 5, 3) := dk_167 0 5 (dk_at dksX8_soil_5 0 rfl rfl)
theorem dX8_soil_123 : decode cX8_soil 123 = .ok (.iload 6, 2) := dk_21 6 (dk_at dksX8_soil_5 3 rfl rfl)
theorem dX8_soil_125 : decode cX8_soil 125 = .ok (.ireturn, 1) := dk_172 (dk_at dksX8_soil_5 5 rfl rfl)
def dkwX8_manyBehind_1 : List UInt8 := [180, 0, 32, 6, 27, 104, 5, 96, 46, 62, 42, 182, 1, 118, 29, 172]
abbrev dktX8_manyBehind_1 : List UInt8 := dkwX8_manyBehind_1 ++ []
def dkwX8_manyBehind_0 : List UInt8 := [42, 182, 1, 112, 3, 62, 29, 28, 162, 0, 13, 42, 182, 1, 91, 132, 3, 1, 167, 255, 244, 42]
abbrev dktX8_manyBehind_0 : List UInt8 := dkwX8_manyBehind_0 ++ dktX8_manyBehind_1
theorem dksX8_manyBehind_0 : cX8_manyBehind.data.toList.drop 0 = dktX8_manyBehind_0 := by decide +kernel
theorem dksX8_manyBehind_1 : cX8_manyBehind.data.toList.drop 22 = dktX8_manyBehind_1 := dk_seg dksX8_manyBehind_0 22 rfl rfl
theorem dX8_manyBehind_0 : decode cX8_manyBehind 0 = .ok (.aload_n 0, 1) := dk_42 (dk_at dksX8_manyBehind_0 0 rfl rfl)
theorem dX8_manyBehind_1 : decode cX8_manyBehind 1 = .ok (.invokevirtual 368, 3) := dk_182 1 112 (dk_at dksX8_manyBehind_0 1 rfl rfl)
theorem dX8_manyBehind_4 : decode cX8_manyBehind 4 = .ok (.iconst 0, 1) := dk_3 (dk_at dksX8_manyBehind_0 4 rfl rfl)
theorem dX8_manyBehind_5 : decode cX8_manyBehind 5 = .ok (.istore_n 3, 1) := dk_62 (dk_at dksX8_manyBehind_0 5 rfl rfl)
theorem dX8_manyBehind_6 : decode cX8_manyBehind 6 = .ok (.iload_n 3, 1) := dk_29 (dk_at dksX8_manyBehind_0 6 rfl rfl)
theorem dX8_manyBehind_7 : decode cX8_manyBehind 7 = .ok (.iload_n 2, 1) := dk_28 (dk_at dksX8_manyBehind_0 7 rfl rfl)
theorem dX8_manyBehind_8 : decode cX8_manyBehind 8 = .ok (.if_icmp .ge 13, 3) := dk_162 0 13 (dk_at dksX8_manyBehind_0 8 rfl rfl)
theorem dX8_manyBehind_11 : decode cX8_manyBehind 11 = .ok (.aload_n 0, 1) := dk_42 (dk_at dksX8_manyBehind_0 11 rfl rfl)
theorem dX8_manyBehind_12 : decode cX8_manyBehind 12 = .ok (.invokevirtual 347, 3) := dk_182 1 91 (dk_at dksX8_manyBehind_0 12 rfl rfl)
theorem dX8_manyBehind_15 : decode cX8_manyBehind 15 = .ok (.iinc 3 1, 3) := dk_132 3 1 (dk_at dksX8_manyBehind_0 15 rfl rfl)
theorem dX8_manyBehind_18 : decode cX8_manyBehind 18 = .ok (.goto (-12), 3) := dk_167 255 244 (dk_at dksX8_manyBehind_0 18 rfl rfl)
theorem dX8_manyBehind_21 : decode cX8_manyBehind 21 = .ok (.aload_n 0, 1) := dk_42 (dk_at dksX8_manyBehind_0 21 rfl rfl)
theorem dX8_manyBehind_22 : decode cX8_manyBehind 22 = .ok (.getfield 32, 3) := dk_180 0 32 (dk_at dksX8_manyBehind_1 0 rfl rfl)
theorem dX8_manyBehind_25 : decode cX8_manyBehind 25 = .ok (.iconst 3, 1) := dk_6 (dk_at dksX8_manyBehind_1 3 rfl rfl)
theorem dX8_manyBehind_26 : decode cX8_manyBehind 26 = .ok (.iload_n 1, 1) := dk_27 (dk_at dksX8_manyBehind_1 4 rfl rfl)
theorem dX8_manyBehind_27 : decode cX8_manyBehind 27 = .ok (.imul, 1) := dk_104 (dk_at dksX8_manyBehind_1 5 rfl rfl)
theorem dX8_manyBehind_28 : decode cX8_manyBehind 28 = .ok (.iconst 2, 1) := dk_5 (dk_at dksX8_manyBehind_1 6 rfl rfl)
theorem dX8_manyBehind_29 : decode cX8_manyBehind 29 = .ok (.iadd, 1) := dk_96 (dk_at dksX8_manyBehind_1 7 rfl rfl)
theorem dX8_manyBehind_30 : decode cX8_manyBehind 30 = .ok (.iaload, 1) := dk_46 (dk_at dksX8_manyBehind_1 8 rfl rfl)
theorem dX8_manyBehind_31 : decode cX8_manyBehind 31 = .ok (.istore_n 3, 1) := dk_62 (dk_at dksX8_manyBehind_1 9 rfl rfl)
theorem dX8_manyBehind_32 : decode cX8_manyBehind 32 = .ok (.aload_n 0, 1) := dk_42 (dk_at dksX8_manyBehind_1 10 rfl rfl)
theorem dX8_manyBehind_33 : decode cX8_manyBehind 33 = .ok (.invokevirtual 374, 3) := dk_182 1 118 (dk_at dksX8_manyBehind_1 11 rfl rfl)
theorem dX8_manyBehind_36 : decode cX8_manyBehind 36 = .ok (.iload_n 3, 1) := dk_29 (dk_at dksX8_manyBehind_1 14 rfl rfl)
theorem dX8_manyBehind_37 : decode cX8_manyBehind 37 = .ok (.ireturn, 1) := dk_172 (dk_at dksX8_manyBehind_1 15 rfl rfl)
def dkwX8_sown_4 : List UInt8 := [4, 100, 181, 0, 67, 132, 4, 1, 167, 255, 196, 29, 172]
abbrev dktX8_sown_4 : List UInt8 := dkwX8_sown_4 ++ []
def dkwX8_sown_3 : List UInt8 := [4, 100, 28, 182, 1, 133, 158, 0, 7, 4, 167, 0, 4, 3, 21, 4, 120, 128, 62, 42, 89, 180, 0, 67]
abbrev dktX8_sown_3 : List UInt8 := dkwX8_sown_3 ++ dktX8_sown_4
def dkwX8_sown_2 : List UInt8 := [162, 0, 59, 42, 27, 16, 10, 108, 27, 16, 10, 112, 21, 4, 4, 182, 0, 109, 29, 42, 42, 180, 0, 67]
abbrev dktX8_sown_2 : List UInt8 := dkwX8_sown_2 ++ dktX8_sown_3
def dkwX8_sown_1 : List UInt8 := [16, 254, 172, 42, 180, 0, 67, 16, 8, 160, 0, 6, 16, 252, 172, 3, 62, 3, 54, 4, 21, 4, 16, 8]
abbrev dktX8_sown_1 : List UInt8 := dkwX8_sown_1 ++ dktX8_sown_2
def dkwX8_sown_0 : List UInt8 := [27, 133, 9, 20, 1, 136, 184, 0, 70, 153, 0, 15, 28, 133, 9, 20, 1, 106, 184, 0, 70, 154, 0, 6]
abbrev dktX8_sown_0 : List UInt8 := dkwX8_sown_0 ++ dktX8_sown_1
theorem dksX8_sown_0 : cX8_sown.data.toList.drop 0 = dktX8_sown_0 := by decide +kernel
theorem dksX8_sown_1 : cX8_sown.data.toList.drop 24 = dktX8_sown_1 := dk_seg dksX8_sown_0 24 rfl rfl
theorem dksX8_sown_2 : cX8_sown.data.toList.drop 48 = dktX8_sown_2 := dk_seg dksX8_sown_1 24 rfl rfl
theorem dksX8_sown_3 : cX8_sown.data.toList.drop 72 = dktX8_sown_3 := dk_seg dksX8_sown_2 24 rfl rfl
theorem dksX8_sown_4 : cX8_sown.data.toList.drop 96 = dktX8_sown_4 := dk_seg dksX8_sown_3 24 rfl rfl
theorem dX8_sown_0 : decode cX8_sown 0 = .ok (.iload_n 1, 1) := dk_27 (dk_at dksX8_sown_0 0 rfl rfl)
theorem dX8_sown_1 : decode cX8_sown 1 = .ok (.i2l, 1) := dk_133 (dk_at dksX8_sown_0 1 rfl rfl)
theorem dX8_sown_2 : decode cX8_sown 2 = .ok (.lconst 0, 1) := dk_9 (dk_at dksX8_sown_0 2 rfl rfl)
theorem dX8_sown_3 : decode cX8_sown 3 = .ok (.ldc2_w 392, 3) := dk_20 1 136 (dk_at dksX8_sown_0 3 rfl rfl)
theorem dX8_sown_6 : decode cX8_sown 6 = .ok (.invokestatic 70, 3) := dk_184 0 70 (dk_at dksX8_sown_0 6 rfl rfl)
theorem dX8_sown_9 : decode cX8_sown 9 = .ok (.ifCond .eq 15, 3) := dk_153 0 15 (dk_at dksX8_sown_0 9 rfl rfl)
theorem dX8_sown_12 : decode cX8_sown 12 = .ok (.iload_n 2, 1) := dk_28 (dk_at dksX8_sown_0 12 rfl rfl)
theorem dX8_sown_13 : decode cX8_sown 13 = .ok (.i2l, 1) := dk_133 (dk_at dksX8_sown_0 13 rfl rfl)
theorem dX8_sown_14 : decode cX8_sown 14 = .ok (.lconst 0, 1) := dk_9 (dk_at dksX8_sown_0 14 rfl rfl)
theorem dX8_sown_15 : decode cX8_sown 15 = .ok (.ldc2_w 362, 3) := dk_20 1 106 (dk_at dksX8_sown_0 15 rfl rfl)
theorem dX8_sown_18 : decode cX8_sown 18 = .ok (.invokestatic 70, 3) := dk_184 0 70 (dk_at dksX8_sown_0 18 rfl rfl)
theorem dX8_sown_21 : decode cX8_sown 21 = .ok (.ifCond .ne 6, 3) := dk_154 0 6 (dk_at dksX8_sown_0 21 rfl rfl)
theorem dX8_sown_24 : decode cX8_sown 24 = .ok (.bipush (-2), 2) := dk_16 254 (dk_at dksX8_sown_1 0 rfl rfl)
theorem dX8_sown_26 : decode cX8_sown 26 = .ok (.ireturn, 1) := dk_172 (dk_at dksX8_sown_1 2 rfl rfl)
theorem dX8_sown_27 : decode cX8_sown 27 = .ok (.aload_n 0, 1) := dk_42 (dk_at dksX8_sown_1 3 rfl rfl)
theorem dX8_sown_28 : decode cX8_sown 28 = .ok (.getfield 67, 3) := dk_180 0 67 (dk_at dksX8_sown_1 4 rfl rfl)
theorem dX8_sown_31 : decode cX8_sown 31 = .ok (.bipush 8, 2) := dk_16 8 (dk_at dksX8_sown_1 7 rfl rfl)
theorem dX8_sown_33 : decode cX8_sown 33 = .ok (.if_icmp .ne 6, 3) := dk_160 0 6 (dk_at dksX8_sown_1 9 rfl rfl)
theorem dX8_sown_36 : decode cX8_sown 36 = .ok (.bipush (-4), 2) := dk_16 252 (dk_at dksX8_sown_1 12 rfl rfl)
theorem dX8_sown_38 : decode cX8_sown 38 = .ok (.ireturn, 1) := dk_172 (dk_at dksX8_sown_1 14 rfl rfl)
theorem dX8_sown_39 : decode cX8_sown 39 = .ok (.iconst 0, 1) := dk_3 (dk_at dksX8_sown_1 15 rfl rfl)
theorem dX8_sown_40 : decode cX8_sown 40 = .ok (.istore_n 3, 1) := dk_62 (dk_at dksX8_sown_1 16 rfl rfl)
theorem dX8_sown_41 : decode cX8_sown 41 = .ok (.iconst 0, 1) := dk_3 (dk_at dksX8_sown_1 17 rfl rfl)
theorem dX8_sown_42 : decode cX8_sown 42 = .ok (.istore 4, 2) := dk_54 4 (dk_at dksX8_sown_1 18 rfl rfl)
theorem dX8_sown_44 : decode cX8_sown 44 = .ok (.iload 4, 2) := dk_21 4 (dk_at dksX8_sown_1 20 rfl rfl)
theorem dX8_sown_46 : decode cX8_sown 46 = .ok (.bipush 8, 2) := dk_16 8 (dk_at dksX8_sown_1 22 rfl rfl)
theorem dX8_sown_48 : decode cX8_sown 48 = .ok (.if_icmp .ge 59, 3) := dk_162 0 59 (dk_at dksX8_sown_2 0 rfl rfl)
theorem dX8_sown_51 : decode cX8_sown 51 = .ok (.aload_n 0, 1) := dk_42 (dk_at dksX8_sown_2 3 rfl rfl)
theorem dX8_sown_52 : decode cX8_sown 52 = .ok (.iload_n 1, 1) := dk_27 (dk_at dksX8_sown_2 4 rfl rfl)
theorem dX8_sown_53 : decode cX8_sown 53 = .ok (.bipush 10, 2) := dk_16 10 (dk_at dksX8_sown_2 5 rfl rfl)
theorem dX8_sown_55 : decode cX8_sown 55 = .ok (.idiv, 1) := dk_108 (dk_at dksX8_sown_2 7 rfl rfl)
theorem dX8_sown_56 : decode cX8_sown 56 = .ok (.iload_n 1, 1) := dk_27 (dk_at dksX8_sown_2 8 rfl rfl)
theorem dX8_sown_57 : decode cX8_sown 57 = .ok (.bipush 10, 2) := dk_16 10 (dk_at dksX8_sown_2 9 rfl rfl)
theorem dX8_sown_59 : decode cX8_sown 59 = .ok (.irem, 1) := dk_112 (dk_at dksX8_sown_2 11 rfl rfl)
theorem dX8_sown_60 : decode cX8_sown 60 = .ok (.iload 4, 2) := dk_21 4 (dk_at dksX8_sown_2 12 rfl rfl)
theorem dX8_sown_62 : decode cX8_sown 62 = .ok (.iconst 1, 1) := dk_4 (dk_at dksX8_sown_2 14 rfl rfl)
theorem dX8_sown_63 : decode cX8_sown 63 = .ok (.invokevirtual 109, 3) := dk_182 0 109 (dk_at dksX8_sown_2 15 rfl rfl)
theorem dX8_sown_66 : decode cX8_sown 66 = .ok (.iload_n 3, 1) := dk_29 (dk_at dksX8_sown_2 18 rfl rfl)
theorem dX8_sown_67 : decode cX8_sown 67 = .ok (.aload_n 0, 1) := dk_42 (dk_at dksX8_sown_2 19 rfl rfl)
theorem dX8_sown_68 : decode cX8_sown 68 = .ok (.aload_n 0, 1) := dk_42 (dk_at dksX8_sown_2 20 rfl rfl)
theorem dX8_sown_69 : decode cX8_sown 69 = .ok (.getfield 67, 3) := dk_180 0 67 (dk_at dksX8_sown_2 21 rfl rfl)
theorem dX8_sown_72 : decode cX8_sown 72 = .ok (.iconst 1, 1) := dk_4 (dk_at dksX8_sown_3 0 rfl rfl)
theorem dX8_sown_73 : decode cX8_sown 73 = .ok (.isub, 1) := dk_100 (dk_at dksX8_sown_3 1 rfl rfl)
theorem dX8_sown_74 : decode cX8_sown 74 = .ok (.iload_n 2, 1) := dk_28 (dk_at dksX8_sown_3 2 rfl rfl)
theorem dX8_sown_75 : decode cX8_sown 75 = .ok (.invokevirtual 389, 3) := dk_182 1 133 (dk_at dksX8_sown_3 3 rfl rfl)
theorem dX8_sown_78 : decode cX8_sown 78 = .ok (.ifCond .le 7, 3) := dk_158 0 7 (dk_at dksX8_sown_3 6 rfl rfl)
theorem dX8_sown_81 : decode cX8_sown 81 = .ok (.iconst 1, 1) := dk_4 (dk_at dksX8_sown_3 9 rfl rfl)
theorem dX8_sown_82 : decode cX8_sown 82 = .ok (.goto 4, 3) := dk_167 0 4 (dk_at dksX8_sown_3 10 rfl rfl)
theorem dX8_sown_85 : decode cX8_sown 85 = .ok (.iconst 0, 1) := dk_3 (dk_at dksX8_sown_3 13 rfl rfl)
theorem dX8_sown_86 : decode cX8_sown 86 = .ok (.iload 4, 2) := dk_21 4 (dk_at dksX8_sown_3 14 rfl rfl)
theorem dX8_sown_88 : decode cX8_sown 88 = .ok (.ishl, 1) := dk_120 (dk_at dksX8_sown_3 16 rfl rfl)
theorem dX8_sown_89 : decode cX8_sown 89 = .ok (.ior, 1) := dk_128 (dk_at dksX8_sown_3 17 rfl rfl)
theorem dX8_sown_90 : decode cX8_sown 90 = .ok (.istore_n 3, 1) := dk_62 (dk_at dksX8_sown_3 18 rfl rfl)
theorem dX8_sown_91 : decode cX8_sown 91 = .ok (.aload_n 0, 1) := dk_42 (dk_at dksX8_sown_3 19 rfl rfl)
theorem dX8_sown_92 : decode cX8_sown 92 = .ok (.dup, 1) := dk_89 (dk_at dksX8_sown_3 20 rfl rfl)
theorem dX8_sown_93 : decode cX8_sown 93 = .ok (.getfield 67, 3) := dk_180 0 67 (dk_at dksX8_sown_3 21 rfl rfl)
theorem dX8_sown_96 : decode cX8_sown 96 = .ok (.iconst 1, 1) := dk_4 (dk_at dksX8_sown_4 0 rfl rfl)
theorem dX8_sown_97 : decode cX8_sown 97 = .ok (.isub, 1) := dk_100 (dk_at dksX8_sown_4 1 rfl rfl)
theorem dX8_sown_98 : decode cX8_sown 98 = .ok (.putfield 67, 3) := dk_181 0 67 (dk_at dksX8_sown_4 2 rfl rfl)
theorem dX8_sown_101 : decode cX8_sown 101 = .ok (.iinc 4 1, 3) := dk_132 4 1 (dk_at dksX8_sown_4 5 rfl rfl)
theorem dX8_sown_104 : decode cX8_sown 104 = .ok (.goto (-60), 3) := dk_167 255 196 (dk_at dksX8_sown_4 8 rfl rfl)
theorem dX8_sown_107 : decode cX8_sown 107 = .ok (.iload_n 3, 1) := dk_29 (dk_at dksX8_sown_4 11 rfl rfl)
theorem dX8_sown_108 : decode cX8_sown 108 = .ok (.ireturn, 1) := dk_172 (dk_at dksX8_sown_4 12 rfl rfl)
def dkwX8_safest_2 : List UInt8 := [158, 0, 9, 21, 5, 61, 22, 6, 66, 132, 5, 1, 167, 255, 222, 28, 172]
abbrev dktX8_safest_2 : List UInt8 := dkwX8_safest_2 ++ []
def dkwX8_safest_1 : List UInt8 := [21, 5, 42, 180, 0, 67, 162, 0, 31, 42, 21, 5, 27, 182, 1, 127, 55, 6, 22, 6, 33, 148]
abbrev dktX8_safest_1 : List UInt8 := dkwX8_safest_1 ++ dktX8_safest_2
def dkwX8_safest_0 : List UInt8 := [27, 133, 9, 20, 1, 123, 184, 0, 70, 154, 0, 6, 16, 254, 172, 2, 61, 20, 1, 138, 66, 3, 54, 5]
abbrev dktX8_safest_0 : List UInt8 := dkwX8_safest_0 ++ dktX8_safest_1
theorem dksX8_safest_0 : cX8_safest.data.toList.drop 0 = dktX8_safest_0 := by decide +kernel
theorem dksX8_safest_1 : cX8_safest.data.toList.drop 24 = dktX8_safest_1 := dk_seg dksX8_safest_0 24 rfl rfl
theorem dksX8_safest_2 : cX8_safest.data.toList.drop 46 = dktX8_safest_2 := dk_seg dksX8_safest_1 22 rfl rfl
theorem dX8_safest_0 : decode cX8_safest 0 = .ok (.iload_n 1, 1) := dk_27 (dk_at dksX8_safest_0 0 rfl rfl)
theorem dX8_safest_1 : decode cX8_safest 1 = .ok (.i2l, 1) := dk_133 (dk_at dksX8_safest_0 1 rfl rfl)
theorem dX8_safest_2 : decode cX8_safest 2 = .ok (.lconst 0, 1) := dk_9 (dk_at dksX8_safest_0 2 rfl rfl)
theorem dX8_safest_3 : decode cX8_safest 3 = .ok (.ldc2_w 379, 3) := dk_20 1 123 (dk_at dksX8_safest_0 3 rfl rfl)
theorem dX8_safest_6 : decode cX8_safest 6 = .ok (.invokestatic 70, 3) := dk_184 0 70 (dk_at dksX8_safest_0 6 rfl rfl)
theorem dX8_safest_9 : decode cX8_safest 9 = .ok (.ifCond .ne 6, 3) := dk_154 0 6 (dk_at dksX8_safest_0 9 rfl rfl)
theorem dX8_safest_12 : decode cX8_safest 12 = .ok (.bipush (-2), 2) := dk_16 254 (dk_at dksX8_safest_0 12 rfl rfl)
theorem dX8_safest_14 : decode cX8_safest 14 = .ok (.ireturn, 1) := dk_172 (dk_at dksX8_safest_0 14 rfl rfl)
theorem dX8_safest_15 : decode cX8_safest 15 = .ok (.iconst (-1), 1) := dk_2 (dk_at dksX8_safest_0 15 rfl rfl)
theorem dX8_safest_16 : decode cX8_safest 16 = .ok (.istore_n 2, 1) := dk_61 (dk_at dksX8_safest_0 16 rfl rfl)
theorem dX8_safest_17 : decode cX8_safest 17 = .ok (.ldc2_w 394, 3) := dk_20 1 138 (dk_at dksX8_safest_0 17 rfl rfl)
theorem dX8_safest_20 : decode cX8_safest 20 = .ok (.lstore_n 3, 1) := dk_66 (dk_at dksX8_safest_0 20 rfl rfl)
theorem dX8_safest_21 : decode cX8_safest 21 = .ok (.iconst 0, 1) := dk_3 (dk_at dksX8_safest_0 21 rfl rfl)
theorem dX8_safest_22 : decode cX8_safest 22 = .ok (.istore 5, 2) := dk_54 5 (dk_at dksX8_safest_0 22 rfl rfl)
theorem dX8_safest_24 : decode cX8_safest 24 = .ok (.iload 5, 2) := dk_21 5 (dk_at dksX8_safest_1 0 rfl rfl)
theorem dX8_safest_26 : decode cX8_safest 26 = .ok (.aload_n 0, 1) := dk_42 (dk_at dksX8_safest_1 2 rfl rfl)
theorem dX8_safest_27 : decode cX8_safest 27 = .ok (.getfield 67, 3) := dk_180 0 67 (dk_at dksX8_safest_1 3 rfl rfl)
theorem dX8_safest_30 : decode cX8_safest 30 = .ok (.if_icmp .ge 31, 3) := dk_162 0 31 (dk_at dksX8_safest_1 6 rfl rfl)
theorem dX8_safest_33 : decode cX8_safest 33 = .ok (.aload_n 0, 1) := dk_42 (dk_at dksX8_safest_1 9 rfl rfl)
theorem dX8_safest_34 : decode cX8_safest 34 = .ok (.iload 5, 2) := dk_21 5 (dk_at dksX8_safest_1 10 rfl rfl)
theorem dX8_safest_36 : decode cX8_safest 36 = .ok (.iload_n 1, 1) := dk_27 (dk_at dksX8_safest_1 12 rfl rfl)
theorem dX8_safest_37 : decode cX8_safest 37 = .ok (.invokevirtual 383, 3) := dk_182 1 127 (dk_at dksX8_safest_1 13 rfl rfl)
theorem dX8_safest_40 : decode cX8_safest 40 = .ok (.lstore 6, 2) := dk_55 6 (dk_at dksX8_safest_1 16 rfl rfl)
theorem dX8_safest_42 : decode cX8_safest 42 = .ok (.lload 6, 2) := dk_22 6 (dk_at dksX8_safest_1 18 rfl rfl)
theorem dX8_safest_44 : decode cX8_safest 44 = .ok (.lload_n 3, 1) := dk_33 (dk_at dksX8_safest_1 20 rfl rfl)
theorem dX8_safest_45 : decode cX8_safest 45 = .ok (.lcmp, 1) := dk_148 (dk_at dksX8_safest_1 21 rfl rfl)
theorem dX8_safest_46 : decode cX8_safest 46 = .ok (.ifCond .le 9, 3) := dk_158 0 9 (dk_at dksX8_safest_2 0 rfl rfl)
theorem dX8_safest_49 : decode cX8_safest 49 = .ok (.iload 5, 2) := dk_21 5 (dk_at dksX8_safest_2 3 rfl rfl)
theorem dX8_safest_51 : decode cX8_safest 51 = .ok (.istore_n 2, 1) := dk_61 (dk_at dksX8_safest_2 5 rfl rfl)
theorem dX8_safest_52 : decode cX8_safest 52 = .ok (.lload 6, 2) := dk_22 6 (dk_at dksX8_safest_2 6 rfl rfl)
theorem dX8_safest_54 : decode cX8_safest 54 = .ok (.lstore_n 3, 1) := dk_66 (dk_at dksX8_safest_2 8 rfl rfl)
theorem dX8_safest_55 : decode cX8_safest 55 = .ok (.iinc 5 1, 3) := dk_132 5 1 (dk_at dksX8_safest_2 9 rfl rfl)
theorem dX8_safest_58 : decode cX8_safest 58 = .ok (.goto (-34), 3) := dk_167 255 222 (dk_at dksX8_safest_2 12 rfl rfl)
theorem dX8_safest_61 : decode cX8_safest 61 = .ok (.iload_n 2, 1) := dk_28 (dk_at dksX8_safest_2 15 rfl rfl)
theorem dX8_safest_62 : decode cX8_safest 62 = .ok (.ireturn, 1) := dk_172 (dk_at dksX8_safest_2 16 rfl rfl)
def dkwX8_when_3 : List UInt8 := [132, 5, 1, 167, 255, 223, 42, 182, 1, 118, 28, 154, 0, 7, 29, 167, 0, 5, 21, 4, 172]
abbrev dktX8_when_3 : List UInt8 := dkwX8_when_3 ++ []
def dkwX8_when_2 : List UInt8 := [182, 1, 91, 42, 182, 1, 140, 54, 6, 21, 6, 21, 4, 164, 0, 10, 21, 5, 62, 21, 6, 54, 4]
abbrev dktX8_when_2 : List UInt8 := dkwX8_when_2 ++ dktX8_when_3
def dkwX8_when_1 : List UInt8 := [172, 42, 182, 1, 112, 3, 62, 42, 182, 1, 140, 54, 4, 4, 54, 5, 21, 5, 27, 163, 0, 33, 42]
abbrev dktX8_when_1 : List UInt8 := dkwX8_when_1 ++ dktX8_when_2
def dkwX8_when_0 : List UInt8 := [27, 133, 9, 20, 1, 106, 184, 0, 70, 153, 0, 13, 28, 133, 9, 10, 184, 0, 70, 154, 0, 6, 16, 254]
abbrev dktX8_when_0 : List UInt8 := dkwX8_when_0 ++ dktX8_when_1
theorem dksX8_when_0 : cX8_when.data.toList.drop 0 = dktX8_when_0 := by decide +kernel
theorem dksX8_when_1 : cX8_when.data.toList.drop 24 = dktX8_when_1 := dk_seg dksX8_when_0 24 rfl rfl
theorem dksX8_when_2 : cX8_when.data.toList.drop 47 = dktX8_when_2 := dk_seg dksX8_when_1 23 rfl rfl
theorem dksX8_when_3 : cX8_when.data.toList.drop 70 = dktX8_when_3 := dk_seg dksX8_when_2 23 rfl rfl
theorem dX8_when_0 : decode cX8_when 0 = .ok (.iload_n 1, 1) := dk_27 (dk_at dksX8_when_0 0 rfl rfl)
theorem dX8_when_1 : decode cX8_when 1 = .ok (.i2l, 1) := dk_133 (dk_at dksX8_when_0 1 rfl rfl)
theorem dX8_when_2 : decode cX8_when 2 = .ok (.lconst 0, 1) := dk_9 (dk_at dksX8_when_0 2 rfl rfl)
theorem dX8_when_3 : decode cX8_when 3 = .ok (.ldc2_w 362, 3) := dk_20 1 106 (dk_at dksX8_when_0 3 rfl rfl)
theorem dX8_when_6 : decode cX8_when 6 = .ok (.invokestatic 70, 3) := dk_184 0 70 (dk_at dksX8_when_0 6 rfl rfl)
theorem dX8_when_9 : decode cX8_when 9 = .ok (.ifCond .eq 13, 3) := dk_153 0 13 (dk_at dksX8_when_0 9 rfl rfl)
theorem dX8_when_12 : decode cX8_when 12 = .ok (.iload_n 2, 1) := dk_28 (dk_at dksX8_when_0 12 rfl rfl)
theorem dX8_when_13 : decode cX8_when 13 = .ok (.i2l, 1) := dk_133 (dk_at dksX8_when_0 13 rfl rfl)
theorem dX8_when_14 : decode cX8_when 14 = .ok (.lconst 0, 1) := dk_9 (dk_at dksX8_when_0 14 rfl rfl)
theorem dX8_when_15 : decode cX8_when 15 = .ok (.lconst 1, 1) := dk_10 (dk_at dksX8_when_0 15 rfl rfl)
theorem dX8_when_16 : decode cX8_when 16 = .ok (.invokestatic 70, 3) := dk_184 0 70 (dk_at dksX8_when_0 16 rfl rfl)
theorem dX8_when_19 : decode cX8_when 19 = .ok (.ifCond .ne 6, 3) := dk_154 0 6 (dk_at dksX8_when_0 19 rfl rfl)
theorem dX8_when_22 : decode cX8_when 22 = .ok (.bipush (-2), 2) := dk_16 254 (dk_at dksX8_when_0 22 rfl rfl)
theorem dX8_when_24 : decode cX8_when 24 = .ok (.ireturn, 1) := dk_172 (dk_at dksX8_when_1 0 rfl rfl)
theorem dX8_when_25 : decode cX8_when 25 = .ok (.aload_n 0, 1) := dk_42 (dk_at dksX8_when_1 1 rfl rfl)
theorem dX8_when_26 : decode cX8_when 26 = .ok (.invokevirtual 368, 3) := dk_182 1 112 (dk_at dksX8_when_1 2 rfl rfl)
theorem dX8_when_29 : decode cX8_when 29 = .ok (.iconst 0, 1) := dk_3 (dk_at dksX8_when_1 5 rfl rfl)
theorem dX8_when_30 : decode cX8_when 30 = .ok (.istore_n 3, 1) := dk_62 (dk_at dksX8_when_1 6 rfl rfl)
theorem dX8_when_31 : decode cX8_when 31 = .ok (.aload_n 0, 1) := dk_42 (dk_at dksX8_when_1 7 rfl rfl)
theorem dX8_when_32 : decode cX8_when 32 = .ok (.invokevirtual 396, 3) := dk_182 1 140 (dk_at dksX8_when_1 8 rfl rfl)
theorem dX8_when_35 : decode cX8_when 35 = .ok (.istore 4, 2) := dk_54 4 (dk_at dksX8_when_1 11 rfl rfl)
theorem dX8_when_37 : decode cX8_when 37 = .ok (.iconst 1, 1) := dk_4 (dk_at dksX8_when_1 13 rfl rfl)
theorem dX8_when_38 : decode cX8_when 38 = .ok (.istore 5, 2) := dk_54 5 (dk_at dksX8_when_1 14 rfl rfl)
theorem dX8_when_40 : decode cX8_when 40 = .ok (.iload 5, 2) := dk_21 5 (dk_at dksX8_when_1 16 rfl rfl)
theorem dX8_when_42 : decode cX8_when 42 = .ok (.iload_n 1, 1) := dk_27 (dk_at dksX8_when_1 18 rfl rfl)
theorem dX8_when_43 : decode cX8_when 43 = .ok (.if_icmp .gt 33, 3) := dk_163 0 33 (dk_at dksX8_when_1 19 rfl rfl)
theorem dX8_when_46 : decode cX8_when 46 = .ok (.aload_n 0, 1) := dk_42 (dk_at dksX8_when_1 22 rfl rfl)
theorem dX8_when_47 : decode cX8_when 47 = .ok (.invokevirtual 347, 3) := dk_182 1 91 (dk_at dksX8_when_2 0 rfl rfl)
theorem dX8_when_50 : decode cX8_when 50 = .ok (.aload_n 0, 1) := dk_42 (dk_at dksX8_when_2 3 rfl rfl)
theorem dX8_when_51 : decode cX8_when 51 = .ok (.invokevirtual 396, 3) := dk_182 1 140 (dk_at dksX8_when_2 4 rfl rfl)
theorem dX8_when_54 : decode cX8_when 54 = .ok (.istore 6, 2) := dk_54 6 (dk_at dksX8_when_2 7 rfl rfl)
theorem dX8_when_56 : decode cX8_when 56 = .ok (.iload 6, 2) := dk_21 6 (dk_at dksX8_when_2 9 rfl rfl)
theorem dX8_when_58 : decode cX8_when 58 = .ok (.iload 4, 2) := dk_21 4 (dk_at dksX8_when_2 11 rfl rfl)
theorem dX8_when_60 : decode cX8_when 60 = .ok (.if_icmp .le 10, 3) := dk_164 0 10 (dk_at dksX8_when_2 13 rfl rfl)
theorem dX8_when_63 : decode cX8_when 63 = .ok (.iload 5, 2) := dk_21 5 (dk_at dksX8_when_2 16 rfl rfl)
theorem dX8_when_65 : decode cX8_when 65 = .ok (.istore_n 3, 1) := dk_62 (dk_at dksX8_when_2 18 rfl rfl)
theorem dX8_when_66 : decode cX8_when 66 = .ok (.iload 6, 2) := dk_21 6 (dk_at dksX8_when_2 19 rfl rfl)
theorem dX8_when_68 : decode cX8_when 68 = .ok (.istore 4, 2) := dk_54 4 (dk_at dksX8_when_2 21 rfl rfl)
theorem dX8_when_70 : decode cX8_when 70 = .ok (.iinc 5 1, 3) := dk_132 5 1 (dk_at dksX8_when_3 0 rfl rfl)
theorem dX8_when_73 : decode cX8_when 73 = .ok (.goto (-33), 3) := dk_167 255 223 (dk_at dksX8_when_3 3 rfl rfl)
theorem dX8_when_76 : decode cX8_when 76 = .ok (.aload_n 0, 1) := dk_42 (dk_at dksX8_when_3 6 rfl rfl)
theorem dX8_when_77 : decode cX8_when 77 = .ok (.invokevirtual 374, 3) := dk_182 1 118 (dk_at dksX8_when_3 7 rfl rfl)
theorem dX8_when_80 : decode cX8_when 80 = .ok (.iload_n 2, 1) := dk_28 (dk_at dksX8_when_3 10 rfl rfl)
theorem dX8_when_81 : decode cX8_when 81 = .ok (.ifCond .ne 7, 3) := dk_154 0 7 (dk_at dksX8_when_3 11 rfl rfl)
theorem dX8_when_84 : decode cX8_when 84 = .ok (.iload_n 3, 1) := dk_29 (dk_at dksX8_when_3 14 rfl rfl)
theorem dX8_when_85 : decode cX8_when 85 = .ok (.goto 5, 3) := dk_167 0 5 (dk_at dksX8_when_3 15 rfl rfl)
theorem dX8_when_88 : decode cX8_when 88 = .ok (.iload 4, 2) := dk_21 4 (dk_at dksX8_when_3 18 rfl rfl)
theorem dX8_when_90 : decode cX8_when 90 = .ok (.ireturn, 1) := dk_172 (dk_at dksX8_when_3 20 rfl rfl)
def dkwX8_worthAll_1 : List UInt8 := [167, 255, 237, 27, 172]
abbrev dktX8_worthAll_1 : List UInt8 := dkwX8_worthAll_1 ++ []
def dkwX8_worthAll_0 : List UInt8 := [3, 60, 3, 61, 28, 42, 180, 0, 67, 162, 0, 17, 27, 42, 28, 182, 1, 84, 96, 60, 132, 2, 1]
abbrev dktX8_worthAll_0 : List UInt8 := dkwX8_worthAll_0 ++ dktX8_worthAll_1
theorem dksX8_worthAll_0 : cX8_worthAll.data.toList.drop 0 = dktX8_worthAll_0 := by decide +kernel
theorem dksX8_worthAll_1 : cX8_worthAll.data.toList.drop 23 = dktX8_worthAll_1 := dk_seg dksX8_worthAll_0 23 rfl rfl
theorem dX8_worthAll_0 : decode cX8_worthAll 0 = .ok (.iconst 0, 1) := dk_3 (dk_at dksX8_worthAll_0 0 rfl rfl)
theorem dX8_worthAll_1 : decode cX8_worthAll 1 = .ok (.istore_n 1, 1) := dk_60 (dk_at dksX8_worthAll_0 1 rfl rfl)
theorem dX8_worthAll_2 : decode cX8_worthAll 2 = .ok (.iconst 0, 1) := dk_3 (dk_at dksX8_worthAll_0 2 rfl rfl)
theorem dX8_worthAll_3 : decode cX8_worthAll 3 = .ok (.istore_n 2, 1) := dk_61 (dk_at dksX8_worthAll_0 3 rfl rfl)
theorem dX8_worthAll_4 : decode cX8_worthAll 4 = .ok (.iload_n 2, 1) := dk_28 (dk_at dksX8_worthAll_0 4 rfl rfl)
theorem dX8_worthAll_5 : decode cX8_worthAll 5 = .ok (.aload_n 0, 1) := dk_42 (dk_at dksX8_worthAll_0 5 rfl rfl)
theorem dX8_worthAll_6 : decode cX8_worthAll 6 = .ok (.getfield 67, 3) := dk_180 0 67 (dk_at dksX8_worthAll_0 6 rfl rfl)
theorem dX8_worthAll_9 : decode cX8_worthAll 9 = .ok (.if_icmp .ge 17, 3) := dk_162 0 17 (dk_at dksX8_worthAll_0 9 rfl rfl)
theorem dX8_worthAll_12 : decode cX8_worthAll 12 = .ok (.iload_n 1, 1) := dk_27 (dk_at dksX8_worthAll_0 12 rfl rfl)
theorem dX8_worthAll_13 : decode cX8_worthAll 13 = .ok (.aload_n 0, 1) := dk_42 (dk_at dksX8_worthAll_0 13 rfl rfl)
theorem dX8_worthAll_14 : decode cX8_worthAll 14 = .ok (.iload_n 2, 1) := dk_28 (dk_at dksX8_worthAll_0 14 rfl rfl)
theorem dX8_worthAll_15 : decode cX8_worthAll 15 = .ok (.invokevirtual 340, 3) := dk_182 1 84 (dk_at dksX8_worthAll_0 15 rfl rfl)
theorem dX8_worthAll_18 : decode cX8_worthAll 18 = .ok (.iadd, 1) := dk_96 (dk_at dksX8_worthAll_0 18 rfl rfl)
theorem dX8_worthAll_19 : decode cX8_worthAll 19 = .ok (.istore_n 1, 1) := dk_60 (dk_at dksX8_worthAll_0 19 rfl rfl)
theorem dX8_worthAll_20 : decode cX8_worthAll 20 = .ok (.iinc 2 1, 3) := dk_132 2 1 (dk_at dksX8_worthAll_0 20 rfl rfl)
theorem dX8_worthAll_23 : decode cX8_worthAll 23 = .ok (.goto (-19), 3) := dk_167 255 237 (dk_at dksX8_worthAll_1 0 rfl rfl)
theorem dX8_worthAll_26 : decode cX8_worthAll 26 = .ok (.iload_n 1, 1) := dk_27 (dk_at dksX8_worthAll_1 3 rfl rfl)
theorem dX8_worthAll_27 : decode cX8_worthAll 27 = .ok (.ireturn, 1) := dk_172 (dk_at dksX8_worthAll_1 4 rfl rfl)
def dkwX8_enough_4 : List UInt8 := [54, 5, 132, 6, 1, 167, 255, 210, 42, 180, 0, 32, 6, 27, 104, 5, 96, 21, 4, 79, 21, 5, 172]
abbrev dktX8_enough_4 : List UInt8 := dkwX8_enough_4 ++ []
def dkwX8_enough_3 : List UInt8 := [27, 104, 5, 96, 21, 6, 79, 42, 27, 28, 182, 1, 133, 29, 161, 0, 8, 21, 6, 167, 0, 4, 2]
abbrev dktX8_enough_3 : List UInt8 := dkwX8_enough_3 ++ dktX8_enough_4
def dkwX8_enough_2 : List UInt8 := [2, 54, 5, 4, 54, 6, 21, 6, 16, 100, 162, 0, 45, 21, 5, 2, 160, 0, 39, 42, 180, 0, 32, 6]
abbrev dktX8_enough_2 : List UInt8 := dkwX8_enough_2 ++ dktX8_enough_3
def dkwX8_enough_1 : List UInt8 := [20, 1, 82, 184, 0, 70, 154, 0, 6, 16, 254, 172, 42, 180, 0, 32, 6, 27, 104, 5, 96, 46, 54, 4]
abbrev dktX8_enough_1 : List UInt8 := dkwX8_enough_1 ++ dktX8_enough_2
def dkwX8_enough_0 : List UInt8 := [42, 27, 182, 0, 80, 153, 0, 27, 28, 133, 9, 20, 1, 106, 184, 0, 70, 153, 0, 15, 29, 133, 10]
abbrev dktX8_enough_0 : List UInt8 := dkwX8_enough_0 ++ dktX8_enough_1
theorem dksX8_enough_0 : cX8_enough.data.toList.drop 0 = dktX8_enough_0 := by decide +kernel
theorem dksX8_enough_1 : cX8_enough.data.toList.drop 23 = dktX8_enough_1 := dk_seg dksX8_enough_0 23 rfl rfl
theorem dksX8_enough_2 : cX8_enough.data.toList.drop 47 = dktX8_enough_2 := dk_seg dksX8_enough_1 24 rfl rfl
theorem dksX8_enough_3 : cX8_enough.data.toList.drop 71 = dktX8_enough_3 := dk_seg dksX8_enough_2 24 rfl rfl
theorem dksX8_enough_4 : cX8_enough.data.toList.drop 94 = dktX8_enough_4 := dk_seg dksX8_enough_3 23 rfl rfl
theorem dX8_enough_0 : decode cX8_enough 0 = .ok (.aload_n 0, 1) := dk_42 (dk_at dksX8_enough_0 0 rfl rfl)
theorem dX8_enough_1 : decode cX8_enough 1 = .ok (.iload_n 1, 1) := dk_27 (dk_at dksX8_enough_0 1 rfl rfl)
theorem dX8_enough_2 : decode cX8_enough 2 = .ok (.invokevirtual 80, 3) := dk_182 0 80 (dk_at dksX8_enough_0 2 rfl rfl)
theorem dX8_enough_5 : decode cX8_enough 5 = .ok (.ifCond .eq 27, 3) := dk_153 0 27 (dk_at dksX8_enough_0 5 rfl rfl)
theorem dX8_enough_8 : decode cX8_enough 8 = .ok (.iload_n 2, 1) := dk_28 (dk_at dksX8_enough_0 8 rfl rfl)
theorem dX8_enough_9 : decode cX8_enough 9 = .ok (.i2l, 1) := dk_133 (dk_at dksX8_enough_0 9 rfl rfl)
theorem dX8_enough_10 : decode cX8_enough 10 = .ok (.lconst 0, 1) := dk_9 (dk_at dksX8_enough_0 10 rfl rfl)
theorem dX8_enough_11 : decode cX8_enough 11 = .ok (.ldc2_w 362, 3) := dk_20 1 106 (dk_at dksX8_enough_0 11 rfl rfl)
theorem dX8_enough_14 : decode cX8_enough 14 = .ok (.invokestatic 70, 3) := dk_184 0 70 (dk_at dksX8_enough_0 14 rfl rfl)
theorem dX8_enough_17 : decode cX8_enough 17 = .ok (.ifCond .eq 15, 3) := dk_153 0 15 (dk_at dksX8_enough_0 17 rfl rfl)
theorem dX8_enough_20 : decode cX8_enough 20 = .ok (.iload_n 3, 1) := dk_29 (dk_at dksX8_enough_0 20 rfl rfl)
theorem dX8_enough_21 : decode cX8_enough 21 = .ok (.i2l, 1) := dk_133 (dk_at dksX8_enough_0 21 rfl rfl)
theorem dX8_enough_22 : decode cX8_enough 22 = .ok (.lconst 1, 1) := dk_10 (dk_at dksX8_enough_0 22 rfl rfl)
theorem dX8_enough_23 : decode cX8_enough 23 = .ok (.ldc2_w 338, 3) := dk_20 1 82 (dk_at dksX8_enough_1 0 rfl rfl)
theorem dX8_enough_26 : decode cX8_enough 26 = .ok (.invokestatic 70, 3) := dk_184 0 70 (dk_at dksX8_enough_1 3 rfl rfl)
theorem dX8_enough_29 : decode cX8_enough 29 = .ok (.ifCond .ne 6, 3) := dk_154 0 6 (dk_at dksX8_enough_1 6 rfl rfl)
theorem dX8_enough_32 : decode cX8_enough 32 = .ok (.bipush (-2), 2) := dk_16 254 (dk_at dksX8_enough_1 9 rfl rfl)
theorem dX8_enough_34 : decode cX8_enough 34 = .ok (.ireturn, 1) := dk_172 (dk_at dksX8_enough_1 11 rfl rfl)
theorem dX8_enough_35 : decode cX8_enough 35 = .ok (.aload_n 0, 1) := dk_42 (dk_at dksX8_enough_1 12 rfl rfl)
theorem dX8_enough_36 : decode cX8_enough 36 = .ok (.getfield 32, 3) := dk_180 0 32 (dk_at dksX8_enough_1 13 rfl rfl)
theorem dX8_enough_39 : decode cX8_enough 39 = .ok (.iconst 3, 1) := dk_6 (dk_at dksX8_enough_1 16 rfl rfl)
theorem dX8_enough_40 : decode cX8_enough 40 = .ok (.iload_n 1, 1) := dk_27 (dk_at dksX8_enough_1 17 rfl rfl)
theorem dX8_enough_41 : decode cX8_enough 41 = .ok (.imul, 1) := dk_104 (dk_at dksX8_enough_1 18 rfl rfl)
theorem dX8_enough_42 : decode cX8_enough 42 = .ok (.iconst 2, 1) := dk_5 (dk_at dksX8_enough_1 19 rfl rfl)
theorem dX8_enough_43 : decode cX8_enough 43 = .ok (.iadd, 1) := dk_96 (dk_at dksX8_enough_1 20 rfl rfl)
theorem dX8_enough_44 : decode cX8_enough 44 = .ok (.iaload, 1) := dk_46 (dk_at dksX8_enough_1 21 rfl rfl)
theorem dX8_enough_45 : decode cX8_enough 45 = .ok (.istore 4, 2) := dk_54 4 (dk_at dksX8_enough_1 22 rfl rfl)
theorem dX8_enough_47 : decode cX8_enough 47 = .ok (.iconst (-1), 1) := dk_2 (dk_at dksX8_enough_2 0 rfl rfl)
theorem dX8_enough_48 : decode cX8_enough 48 = .ok (.istore 5, 2) := dk_54 5 (dk_at dksX8_enough_2 1 rfl rfl)
theorem dX8_enough_50 : decode cX8_enough 50 = .ok (.iconst 1, 1) := dk_4 (dk_at dksX8_enough_2 3 rfl rfl)
theorem dX8_enough_51 : decode cX8_enough 51 = .ok (.istore 6, 2) := dk_54 6 (dk_at dksX8_enough_2 4 rfl rfl)
theorem dX8_enough_53 : decode cX8_enough 53 = .ok (.iload 6, 2) := dk_21 6 (dk_at dksX8_enough_2 6 rfl rfl)
theorem dX8_enough_55 : decode cX8_enough 55 = .ok (.bipush 100, 2) := dk_16 100 (dk_at dksX8_enough_2 8 rfl rfl)
theorem dX8_enough_57 : decode cX8_enough 57 = .ok (.if_icmp .ge 45, 3) := dk_162 0 45 (dk_at dksX8_enough_2 10 rfl rfl)
theorem dX8_enough_60 : decode cX8_enough 60 = .ok (.iload 5, 2) := dk_21 5 (dk_at dksX8_enough_2 13 rfl rfl)
theorem dX8_enough_62 : decode cX8_enough 62 = .ok (.iconst (-1), 1) := dk_2 (dk_at dksX8_enough_2 15 rfl rfl)
theorem dX8_enough_63 : decode cX8_enough 63 = .ok (.if_icmp .ne 39, 3) := dk_160 0 39 (dk_at dksX8_enough_2 16 rfl rfl)
theorem dX8_enough_66 : decode cX8_enough 66 = .ok (.aload_n 0, 1) := dk_42 (dk_at dksX8_enough_2 19 rfl rfl)
theorem dX8_enough_67 : decode cX8_enough 67 = .ok (.getfield 32, 3) := dk_180 0 32 (dk_at dksX8_enough_2 20 rfl rfl)
theorem dX8_enough_70 : decode cX8_enough 70 = .ok (.iconst 3, 1) := dk_6 (dk_at dksX8_enough_2 23 rfl rfl)
theorem dX8_enough_71 : decode cX8_enough 71 = .ok (.iload_n 1, 1) := dk_27 (dk_at dksX8_enough_3 0 rfl rfl)
theorem dX8_enough_72 : decode cX8_enough 72 = .ok (.imul, 1) := dk_104 (dk_at dksX8_enough_3 1 rfl rfl)
theorem dX8_enough_73 : decode cX8_enough 73 = .ok (.iconst 2, 1) := dk_5 (dk_at dksX8_enough_3 2 rfl rfl)
theorem dX8_enough_74 : decode cX8_enough 74 = .ok (.iadd, 1) := dk_96 (dk_at dksX8_enough_3 3 rfl rfl)
theorem dX8_enough_75 : decode cX8_enough 75 = .ok (.iload 6, 2) := dk_21 6 (dk_at dksX8_enough_3 4 rfl rfl)
theorem dX8_enough_77 : decode cX8_enough 77 = .ok (.iastore, 1) := dk_79 (dk_at dksX8_enough_3 6 rfl rfl)
theorem dX8_enough_78 : decode cX8_enough 78 = .ok (.aload_n 0, 1) := dk_42 (dk_at dksX8_enough_3 7 rfl rfl)
theorem dX8_enough_79 : decode cX8_enough 79 = .ok (.iload_n 1, 1) := dk_27 (dk_at dksX8_enough_3 8 rfl rfl)
theorem dX8_enough_80 : decode cX8_enough 80 = .ok (.iload_n 2, 1) := dk_28 (dk_at dksX8_enough_3 9 rfl rfl)
theorem dX8_enough_81 : decode cX8_enough 81 = .ok (.invokevirtual 389, 3) := dk_182 1 133 (dk_at dksX8_enough_3 10 rfl rfl)
theorem dX8_enough_84 : decode cX8_enough 84 = .ok (.iload_n 3, 1) := dk_29 (dk_at dksX8_enough_3 13 rfl rfl)
theorem dX8_enough_85 : decode cX8_enough 85 = .ok (.if_icmp .lt 8, 3) := dk_161 0 8 (dk_at dksX8_enough_3 14 rfl rfl)
theorem dX8_enough_88 : decode cX8_enough 88 = .ok (.iload 6, 2) := dk_21 6 (dk_at dksX8_enough_3 17 rfl rfl)
theorem dX8_enough_90 : decode cX8_enough 90 = .ok (.goto 4, 3) := dk_167 0 4 (dk_at dksX8_enough_3 19 rfl rfl)
theorem dX8_enough_93 : decode cX8_enough 93 = .ok (.iconst (-1), 1) := dk_2 (dk_at dksX8_enough_3 22 rfl rfl)
theorem dX8_enough_94 : decode cX8_enough 94 = .ok (.istore 5, 2) := dk_54 5 (dk_at dksX8_enough_4 0 rfl rfl)
theorem dX8_enough_96 : decode cX8_enough 96 = .ok (.iinc 6 1, 3) := dk_132 6 1 (dk_at dksX8_enough_4 2 rfl rfl)
theorem dX8_enough_99 : decode cX8_enough 99 = .ok (.goto (-46), 3) := dk_167 255 210 (dk_at dksX8_enough_4 5 rfl rfl)
theorem dX8_enough_102 : decode cX8_enough 102 = .ok (.aload_n 0, 1) := dk_42 (dk_at dksX8_enough_4 8 rfl rfl)
theorem dX8_enough_103 : decode cX8_enough 103 = .ok (.getfield 32, 3) := dk_180 0 32 (dk_at dksX8_enough_4 9 rfl rfl)
theorem dX8_enough_106 : decode cX8_enough 106 = .ok (.iconst 3, 1) := dk_6 (dk_at dksX8_enough_4 12 rfl rfl)
theorem dX8_enough_107 : decode cX8_enough 107 = .ok (.iload_n 1, 1) := dk_27 (dk_at dksX8_enough_4 13 rfl rfl)
theorem dX8_enough_108 : decode cX8_enough 108 = .ok (.imul, 1) := dk_104 (dk_at dksX8_enough_4 14 rfl rfl)
theorem dX8_enough_109 : decode cX8_enough 109 = .ok (.iconst 2, 1) := dk_5 (dk_at dksX8_enough_4 15 rfl rfl)
theorem dX8_enough_110 : decode cX8_enough 110 = .ok (.iadd, 1) := dk_96 (dk_at dksX8_enough_4 16 rfl rfl)
theorem dX8_enough_111 : decode cX8_enough 111 = .ok (.iload 4, 2) := dk_21 4 (dk_at dksX8_enough_4 17 rfl rfl)
theorem dX8_enough_113 : decode cX8_enough 113 = .ok (.iastore, 1) := dk_79 (dk_at dksX8_enough_4 19 rfl rfl)
theorem dX8_enough_114 : decode cX8_enough 114 = .ok (.iload 5, 2) := dk_21 5 (dk_at dksX8_enough_4 20 rfl rfl)
theorem dX8_enough_116 : decode cX8_enough 116 = .ok (.ireturn, 1) := dk_172 (dk_at dksX8_enough_4 22 rfl rfl)
def dkwX8_tells_12 : List UInt8 := [167, 0, 5, 21, 7, 172]
abbrev dktX8_tells_12 : List UInt8 := dkwX8_tells_12 ++ []
def dkwX8_tells_11 : List UInt8 := [21, 5, 182, 0, 97, 29, 7, 160, 0, 8, 21, 8, 167, 0, 15, 29, 8, 160, 0, 8, 21, 9]
abbrev dktX8_tells_11 : List UInt8 := dkwX8_tells_11 ++ dktX8_tells_12
def dkwX8_tells_10 : List UInt8 := [2, 160, 0, 8, 21, 10, 167, 0, 5, 21, 9, 54, 9, 132, 10, 1, 167, 255, 190, 42, 21, 4, 28]
abbrev dktX8_tells_10 : List UInt8 := dkwX8_tells_10 ++ dktX8_tells_11
def dkwX8_tells_9 : List UInt8 := [21, 7, 21, 4, 8, 160, 0, 7, 3, 167, 0, 7, 4, 21, 10, 120, 128, 54, 7, 132, 8, 1, 21, 9]
abbrev dktX8_tells_9 : List UInt8 := dkwX8_tells_9 ++ dktX8_tells_10
def dkwX8_tells_8 : List UInt8 := [21, 6, 163, 0, 65, 42, 21, 4, 28, 21, 10, 182, 0, 97, 42, 27, 28, 182, 1, 148, 2, 160, 0, 40]
abbrev dktX8_tells_8 : List UInt8 := dkwX8_tells_8 ++ dktX8_tells_9
def dkwX8_tells_7 : List UInt8 := [167, 0, 8, 21, 4, 184, 0, 89, 54, 6, 3, 54, 7, 3, 54, 8, 2, 54, 9, 3, 54, 10, 21, 10]
abbrev dktX8_tells_7 : List UInt8 := dkwX8_tells_7 ++ dktX8_tells_8
def dkwX8_tells_6 : List UInt8 := [100, 167, 0, 30, 21, 4, 16, 6, 160, 0, 7, 8, 167, 0, 19, 21, 4, 8, 160, 0, 8, 16, 99]
abbrev dktX8_tells_6 : List UInt8 := dkwX8_tells_6 ++ dktX8_tells_7
def dkwX8_tells_5 : List UInt8 := [167, 0, 10, 42, 28, 21, 4, 182, 0, 93, 54, 5, 21, 4, 16, 7, 160, 0, 12, 42, 180, 0, 64, 4]
abbrev dktX8_tells_5 : List UInt8 := dkwX8_tells_5 ++ dktX8_tells_6
def dkwX8_tells_4 : List UInt8 := [16, 6, 162, 0, 7, 8, 167, 0, 5, 16, 7, 54, 4, 21, 4, 16, 7, 160, 0, 10, 42, 180, 0, 104]
abbrev dktX8_tells_4 : List UInt8 := dkwX8_tells_4 ++ dktX8_tells_5
def dkwX8_tells_3 : List UInt8 := [16, 6, 167, 0, 33, 29, 5, 160, 0, 7, 6, 167, 0, 24, 29, 6, 160, 0, 7, 7, 167, 0, 15, 29]
abbrev dktX8_tells_3 : List UInt8 := dkwX8_tells_3 ++ dktX8_tells_4
def dkwX8_tells_2 : List UInt8 := [16, 30, 164, 0, 6, 16, 254, 172, 29, 154, 0, 10, 42, 27, 28, 182, 1, 148, 172, 29, 4, 160, 0, 8]
abbrev dktX8_tells_2 : List UInt8 := dkwX8_tells_2 ++ dktX8_tells_3
def dkwX8_tells_1 : List UInt8 := [154, 0, 6, 16, 254, 172, 42, 180, 0, 47, 27, 51, 154, 0, 6, 16, 245, 172, 42, 180, 0, 54, 27, 46]
abbrev dktX8_tells_1 : List UInt8 := dkwX8_tells_1 ++ dktX8_tells_2
def dkwX8_tells_0 : List UInt8 := [27, 184, 1, 143, 153, 0, 23, 42, 28, 182, 0, 80, 153, 0, 15, 29, 133, 9, 20, 1, 146, 184, 0, 70]
abbrev dktX8_tells_0 : List UInt8 := dkwX8_tells_0 ++ dktX8_tells_1
theorem dksX8_tells_0 : cX8_tells.data.toList.drop 0 = dktX8_tells_0 := by decide +kernel
theorem dksX8_tells_1 : cX8_tells.data.toList.drop 24 = dktX8_tells_1 := dk_seg dksX8_tells_0 24 rfl rfl
theorem dksX8_tells_2 : cX8_tells.data.toList.drop 48 = dktX8_tells_2 := dk_seg dksX8_tells_1 24 rfl rfl
theorem dksX8_tells_3 : cX8_tells.data.toList.drop 72 = dktX8_tells_3 := dk_seg dksX8_tells_2 24 rfl rfl
theorem dksX8_tells_4 : cX8_tells.data.toList.drop 96 = dktX8_tells_4 := dk_seg dksX8_tells_3 24 rfl rfl
theorem dksX8_tells_5 : cX8_tells.data.toList.drop 120 = dktX8_tells_5 := dk_seg dksX8_tells_4 24 rfl rfl
theorem dksX8_tells_6 : cX8_tells.data.toList.drop 144 = dktX8_tells_6 := dk_seg dksX8_tells_5 24 rfl rfl
theorem dksX8_tells_7 : cX8_tells.data.toList.drop 167 = dktX8_tells_7 := dk_seg dksX8_tells_6 23 rfl rfl
theorem dksX8_tells_8 : cX8_tells.data.toList.drop 191 = dktX8_tells_8 := dk_seg dksX8_tells_7 24 rfl rfl
theorem dksX8_tells_9 : cX8_tells.data.toList.drop 215 = dktX8_tells_9 := dk_seg dksX8_tells_8 24 rfl rfl
theorem dksX8_tells_10 : cX8_tells.data.toList.drop 239 = dktX8_tells_10 := dk_seg dksX8_tells_9 24 rfl rfl
theorem dksX8_tells_11 : cX8_tells.data.toList.drop 262 = dktX8_tells_11 := dk_seg dksX8_tells_10 23 rfl rfl
theorem dksX8_tells_12 : cX8_tells.data.toList.drop 284 = dktX8_tells_12 := dk_seg dksX8_tells_11 22 rfl rfl
theorem dX8_tells_0 : decode cX8_tells 0 = .ok (.iload_n 1, 1) := dk_27 (dk_at dksX8_tells_0 0 rfl rfl)
theorem dX8_tells_1 : decode cX8_tells 1 = .ok (.invokestatic 399, 3) := dk_184 1 143 (dk_at dksX8_tells_0 1 rfl rfl)
theorem dX8_tells_4 : decode cX8_tells 4 = .ok (.ifCond .eq 23, 3) := dk_153 0 23 (dk_at dksX8_tells_0 4 rfl rfl)
theorem dX8_tells_7 : decode cX8_tells 7 = .ok (.aload_n 0, 1) := dk_42 (dk_at dksX8_tells_0 7 rfl rfl)
theorem dX8_tells_8 : decode cX8_tells 8 = .ok (.iload_n 2, 1) := dk_28 (dk_at dksX8_tells_0 8 rfl rfl)
theorem dX8_tells_9 : decode cX8_tells 9 = .ok (.invokevirtual 80, 3) := dk_182 0 80 (dk_at dksX8_tells_0 9 rfl rfl)
theorem dX8_tells_12 : decode cX8_tells 12 = .ok (.ifCond .eq 15, 3) := dk_153 0 15 (dk_at dksX8_tells_0 12 rfl rfl)
theorem dX8_tells_15 : decode cX8_tells 15 = .ok (.iload_n 3, 1) := dk_29 (dk_at dksX8_tells_0 15 rfl rfl)
theorem dX8_tells_16 : decode cX8_tells 16 = .ok (.i2l, 1) := dk_133 (dk_at dksX8_tells_0 16 rfl rfl)
theorem dX8_tells_17 : decode cX8_tells 17 = .ok (.lconst 0, 1) := dk_9 (dk_at dksX8_tells_0 17 rfl rfl)
theorem dX8_tells_18 : decode cX8_tells 18 = .ok (.ldc2_w 402, 3) := dk_20 1 146 (dk_at dksX8_tells_0 18 rfl rfl)
theorem dX8_tells_21 : decode cX8_tells 21 = .ok (.invokestatic 70, 3) := dk_184 0 70 (dk_at dksX8_tells_0 21 rfl rfl)
theorem dX8_tells_24 : decode cX8_tells 24 = .ok (.ifCond .ne 6, 3) := dk_154 0 6 (dk_at dksX8_tells_1 0 rfl rfl)
theorem dX8_tells_27 : decode cX8_tells 27 = .ok (.bipush (-2), 2) := dk_16 254 (dk_at dksX8_tells_1 3 rfl rfl)
theorem dX8_tells_29 : decode cX8_tells 29 = .ok (.ireturn, 1) := dk_172 (dk_at dksX8_tells_1 5 rfl rfl)
theorem dX8_tells_30 : decode cX8_tells 30 = .ok (.aload_n 0, 1) := dk_42 (dk_at dksX8_tells_1 6 rfl rfl)
theorem dX8_tells_31 : decode cX8_tells 31 = .ok (.getfield 47, 3) := dk_180 0 47 (dk_at dksX8_tells_1 7 rfl rfl)
theorem dX8_tells_34 : decode cX8_tells 34 = .ok (.iload_n 1, 1) := dk_27 (dk_at dksX8_tells_1 10 rfl rfl)
theorem dX8_tells_35 : decode cX8_tells 35 = .ok (.baload, 1) := dk_51 (dk_at dksX8_tells_1 11 rfl rfl)
theorem dX8_tells_36 : decode cX8_tells 36 = .ok (.ifCond .ne 6, 3) := dk_154 0 6 (dk_at dksX8_tells_1 12 rfl rfl)
theorem dX8_tells_39 : decode cX8_tells 39 = .ok (.bipush (-11), 2) := dk_16 245 (dk_at dksX8_tells_1 15 rfl rfl)
theorem dX8_tells_41 : decode cX8_tells 41 = .ok (.ireturn, 1) := dk_172 (dk_at dksX8_tells_1 17 rfl rfl)
theorem dX8_tells_42 : decode cX8_tells 42 = .ok (.aload_n 0, 1) := dk_42 (dk_at dksX8_tells_1 18 rfl rfl)
theorem dX8_tells_43 : decode cX8_tells 43 = .ok (.getfield 54, 3) := dk_180 0 54 (dk_at dksX8_tells_1 19 rfl rfl)
theorem dX8_tells_46 : decode cX8_tells 46 = .ok (.iload_n 1, 1) := dk_27 (dk_at dksX8_tells_1 22 rfl rfl)
theorem dX8_tells_47 : decode cX8_tells 47 = .ok (.iaload, 1) := dk_46 (dk_at dksX8_tells_1 23 rfl rfl)
theorem dX8_tells_48 : decode cX8_tells 48 = .ok (.bipush 30, 2) := dk_16 30 (dk_at dksX8_tells_2 0 rfl rfl)
theorem dX8_tells_50 : decode cX8_tells 50 = .ok (.if_icmp .le 6, 3) := dk_164 0 6 (dk_at dksX8_tells_2 2 rfl rfl)
theorem dX8_tells_53 : decode cX8_tells 53 = .ok (.bipush (-2), 2) := dk_16 254 (dk_at dksX8_tells_2 5 rfl rfl)
theorem dX8_tells_55 : decode cX8_tells 55 = .ok (.ireturn, 1) := dk_172 (dk_at dksX8_tells_2 7 rfl rfl)
theorem dX8_tells_56 : decode cX8_tells 56 = .ok (.iload_n 3, 1) := dk_29 (dk_at dksX8_tells_2 8 rfl rfl)
theorem dX8_tells_57 : decode cX8_tells 57 = .ok (.ifCond .ne 10, 3) := dk_154 0 10 (dk_at dksX8_tells_2 9 rfl rfl)
theorem dX8_tells_60 : decode cX8_tells 60 = .ok (.aload_n 0, 1) := dk_42 (dk_at dksX8_tells_2 12 rfl rfl)
theorem dX8_tells_61 : decode cX8_tells 61 = .ok (.iload_n 1, 1) := dk_27 (dk_at dksX8_tells_2 13 rfl rfl)
theorem dX8_tells_62 : decode cX8_tells 62 = .ok (.iload_n 2, 1) := dk_28 (dk_at dksX8_tells_2 14 rfl rfl)
theorem dX8_tells_63 : decode cX8_tells 63 = .ok (.invokevirtual 404, 3) := dk_182 1 148 (dk_at dksX8_tells_2 15 rfl rfl)
theorem dX8_tells_66 : decode cX8_tells 66 = .ok (.ireturn, 1) := dk_172 (dk_at dksX8_tells_2 18 rfl rfl)
theorem dX8_tells_67 : decode cX8_tells 67 = .ok (.iload_n 3, 1) := dk_29 (dk_at dksX8_tells_2 19 rfl rfl)
theorem dX8_tells_68 : decode cX8_tells 68 = .ok (.iconst 1, 1) := dk_4 (dk_at dksX8_tells_2 20 rfl rfl)
theorem dX8_tells_69 : decode cX8_tells 69 = .ok (.if_icmp .ne 8, 3) := dk_160 0 8 (dk_at dksX8_tells_2 21 rfl rfl)
theorem dX8_tells_72 : decode cX8_tells 72 = .ok (.bipush 6, 2) := dk_16 6 (dk_at dksX8_tells_3 0 rfl rfl)
theorem dX8_tells_74 : decode cX8_tells 74 = .ok (.goto 33, 3) := dk_167 0 33 (dk_at dksX8_tells_3 2 rfl rfl)
theorem dX8_tells_77 : decode cX8_tells 77 = .ok (.iload_n 3, 1) := dk_29 (dk_at dksX8_tells_3 5 rfl rfl)
theorem dX8_tells_78 : decode cX8_tells 78 = .ok (.iconst 2, 1) := dk_5 (dk_at dksX8_tells_3 6 rfl rfl)
theorem dX8_tells_79 : decode cX8_tells 79 = .ok (.if_icmp .ne 7, 3) := dk_160 0 7 (dk_at dksX8_tells_3 7 rfl rfl)
theorem dX8_tells_82 : decode cX8_tells 82 = .ok (.iconst 3, 1) := dk_6 (dk_at dksX8_tells_3 10 rfl rfl)
theorem dX8_tells_83 : decode cX8_tells 83 = .ok (.goto 24, 3) := dk_167 0 24 (dk_at dksX8_tells_3 11 rfl rfl)
theorem dX8_tells_86 : decode cX8_tells 86 = .ok (.iload_n 3, 1) := dk_29 (dk_at dksX8_tells_3 14 rfl rfl)
theorem dX8_tells_87 : decode cX8_tells 87 = .ok (.iconst 3, 1) := dk_6 (dk_at dksX8_tells_3 15 rfl rfl)
theorem dX8_tells_88 : decode cX8_tells 88 = .ok (.if_icmp .ne 7, 3) := dk_160 0 7 (dk_at dksX8_tells_3 16 rfl rfl)
theorem dX8_tells_91 : decode cX8_tells 91 = .ok (.iconst 4, 1) := dk_7 (dk_at dksX8_tells_3 19 rfl rfl)
theorem dX8_tells_92 : decode cX8_tells 92 = .ok (.goto 15, 3) := dk_167 0 15 (dk_at dksX8_tells_3 20 rfl rfl)
theorem dX8_tells_95 : decode cX8_tells 95 = .ok (.iload_n 3, 1) := dk_29 (dk_at dksX8_tells_3 23 rfl rfl)
theorem dX8_tells_96 : decode cX8_tells 96 = .ok (.bipush 6, 2) := dk_16 6 (dk_at dksX8_tells_4 0 rfl rfl)
theorem dX8_tells_98 : decode cX8_tells 98 = .ok (.if_icmp .ge 7, 3) := dk_162 0 7 (dk_at dksX8_tells_4 2 rfl rfl)
theorem dX8_tells_101 : decode cX8_tells 101 = .ok (.iconst 5, 1) := dk_8 (dk_at dksX8_tells_4 5 rfl rfl)
theorem dX8_tells_102 : decode cX8_tells 102 = .ok (.goto 5, 3) := dk_167 0 5 (dk_at dksX8_tells_4 6 rfl rfl)
theorem dX8_tells_105 : decode cX8_tells 105 = .ok (.bipush 7, 2) := dk_16 7 (dk_at dksX8_tells_4 9 rfl rfl)
theorem dX8_tells_107 : decode cX8_tells 107 = .ok (.istore 4, 2) := dk_54 4 (dk_at dksX8_tells_4 11 rfl rfl)
theorem dX8_tells_109 : decode cX8_tells 109 = .ok (.iload 4, 2) := dk_21 4 (dk_at dksX8_tells_4 13 rfl rfl)
theorem dX8_tells_111 : decode cX8_tells 111 = .ok (.bipush 7, 2) := dk_16 7 (dk_at dksX8_tells_4 15 rfl rfl)
theorem dX8_tells_113 : decode cX8_tells 113 = .ok (.if_icmp .ne 10, 3) := dk_160 0 10 (dk_at dksX8_tells_4 17 rfl rfl)
theorem dX8_tells_116 : decode cX8_tells 116 = .ok (.aload_n 0, 1) := dk_42 (dk_at dksX8_tells_4 20 rfl rfl)
theorem dX8_tells_117 : decode cX8_tells 117 = .ok (.getfield 104, 3) := dk_180 0 104 (dk_at dksX8_tells_4 21 rfl rfl)
theorem dX8_tells_120 : decode cX8_tells 120 = .ok (.goto 10, 3) := dk_167 0 10 (dk_at dksX8_tells_5 0 rfl rfl)
theorem dX8_tells_123 : decode cX8_tells 123 = .ok (.aload_n 0, 1) := dk_42 (dk_at dksX8_tells_5 3 rfl rfl)
theorem dX8_tells_124 : decode cX8_tells 124 = .ok (.iload_n 2, 1) := dk_28 (dk_at dksX8_tells_5 4 rfl rfl)
theorem dX8_tells_125 : decode cX8_tells 125 = .ok (.iload 4, 2) := dk_21 4 (dk_at dksX8_tells_5 5 rfl rfl)
theorem dX8_tells_127 : decode cX8_tells 127 = .ok (.invokevirtual 93, 3) := dk_182 0 93 (dk_at dksX8_tells_5 7 rfl rfl)
theorem dX8_tells_130 : decode cX8_tells 130 = .ok (.istore 5, 2) := dk_54 5 (dk_at dksX8_tells_5 10 rfl rfl)
theorem dX8_tells_132 : decode cX8_tells 132 = .ok (.iload 4, 2) := dk_21 4 (dk_at dksX8_tells_5 12 rfl rfl)
theorem dX8_tells_134 : decode cX8_tells 134 = .ok (.bipush 7, 2) := dk_16 7 (dk_at dksX8_tells_5 14 rfl rfl)
theorem dX8_tells_136 : decode cX8_tells 136 = .ok (.if_icmp .ne 12, 3) := dk_160 0 12 (dk_at dksX8_tells_5 16 rfl rfl)
theorem dX8_tells_139 : decode cX8_tells 139 = .ok (.aload_n 0, 1) := dk_42 (dk_at dksX8_tells_5 19 rfl rfl)
theorem dX8_tells_140 : decode cX8_tells 140 = .ok (.getfield 64, 3) := dk_180 0 64 (dk_at dksX8_tells_5 20 rfl rfl)
theorem dX8_tells_143 : decode cX8_tells 143 = .ok (.iconst 1, 1) := dk_4 (dk_at dksX8_tells_5 23 rfl rfl)
theorem dX8_tells_144 : decode cX8_tells 144 = .ok (.isub, 1) := dk_100 (dk_at dksX8_tells_6 0 rfl rfl)
theorem dX8_tells_145 : decode cX8_tells 145 = .ok (.goto 30, 3) := dk_167 0 30 (dk_at dksX8_tells_6 1 rfl rfl)
theorem dX8_tells_148 : decode cX8_tells 148 = .ok (.iload 4, 2) := dk_21 4 (dk_at dksX8_tells_6 4 rfl rfl)
theorem dX8_tells_150 : decode cX8_tells 150 = .ok (.bipush 6, 2) := dk_16 6 (dk_at dksX8_tells_6 6 rfl rfl)
theorem dX8_tells_152 : decode cX8_tells 152 = .ok (.if_icmp .ne 7, 3) := dk_160 0 7 (dk_at dksX8_tells_6 8 rfl rfl)
theorem dX8_tells_155 : decode cX8_tells 155 = .ok (.iconst 5, 1) := dk_8 (dk_at dksX8_tells_6 11 rfl rfl)
theorem dX8_tells_156 : decode cX8_tells 156 = .ok (.goto 19, 3) := dk_167 0 19 (dk_at dksX8_tells_6 12 rfl rfl)
theorem dX8_tells_159 : decode cX8_tells 159 = .ok (.iload 4, 2) := dk_21 4 (dk_at dksX8_tells_6 15 rfl rfl)
theorem dX8_tells_161 : decode cX8_tells 161 = .ok (.iconst 5, 1) := dk_8 (dk_at dksX8_tells_6 17 rfl rfl)
theorem dX8_tells_162 : decode cX8_tells 162 = .ok (.if_icmp .ne 8, 3) := dk_160 0 8 (dk_at dksX8_tells_6 18 rfl rfl)
theorem dX8_tells_165 : decode cX8_tells 165 = .ok (.bipush 99, 2) := dk_16 99 (dk_at dksX8_tells_6 21 rfl rfl)
theorem dX8_tells_167 : decode cX8_tells 167 = .ok (.goto 8, 3) := dk_167 0 8 (dk_at dksX8_tells_7 0 rfl rfl)
theorem dX8_tells_170 : decode cX8_tells 170 = .ok (.iload 4, 2) := dk_21 4 (dk_at dksX8_tells_7 3 rfl rfl)
theorem dX8_tells_172 : decode cX8_tells 172 = .ok (.invokestatic 89, 3) := dk_184 0 89 (dk_at dksX8_tells_7 5 rfl rfl)
theorem dX8_tells_175 : decode cX8_tells 175 = .ok (.istore 6, 2) := dk_54 6 (dk_at dksX8_tells_7 8 rfl rfl)
theorem dX8_tells_177 : decode cX8_tells 177 = .ok (.iconst 0, 1) := dk_3 (dk_at dksX8_tells_7 10 rfl rfl)
theorem dX8_tells_178 : decode cX8_tells 178 = .ok (.istore 7, 2) := dk_54 7 (dk_at dksX8_tells_7 11 rfl rfl)
theorem dX8_tells_180 : decode cX8_tells 180 = .ok (.iconst 0, 1) := dk_3 (dk_at dksX8_tells_7 13 rfl rfl)
theorem dX8_tells_181 : decode cX8_tells 181 = .ok (.istore 8, 2) := dk_54 8 (dk_at dksX8_tells_7 14 rfl rfl)
theorem dX8_tells_183 : decode cX8_tells 183 = .ok (.iconst (-1), 1) := dk_2 (dk_at dksX8_tells_7 16 rfl rfl)
theorem dX8_tells_184 : decode cX8_tells 184 = .ok (.istore 9, 2) := dk_54 9 (dk_at dksX8_tells_7 17 rfl rfl)
theorem dX8_tells_186 : decode cX8_tells 186 = .ok (.iconst 0, 1) := dk_3 (dk_at dksX8_tells_7 19 rfl rfl)
theorem dX8_tells_187 : decode cX8_tells 187 = .ok (.istore 10, 2) := dk_54 10 (dk_at dksX8_tells_7 20 rfl rfl)
theorem dX8_tells_189 : decode cX8_tells 189 = .ok (.iload 10, 2) := dk_21 10 (dk_at dksX8_tells_7 22 rfl rfl)
theorem dX8_tells_191 : decode cX8_tells 191 = .ok (.iload 6, 2) := dk_21 6 (dk_at dksX8_tells_8 0 rfl rfl)
theorem dX8_tells_193 : decode cX8_tells 193 = .ok (.if_icmp .gt 65, 3) := dk_163 0 65 (dk_at dksX8_tells_8 2 rfl rfl)
theorem dX8_tells_196 : decode cX8_tells 196 = .ok (.aload_n 0, 1) := dk_42 (dk_at dksX8_tells_8 5 rfl rfl)
theorem dX8_tells_197 : decode cX8_tells 197 = .ok (.iload 4, 2) := dk_21 4 (dk_at dksX8_tells_8 6 rfl rfl)
theorem dX8_tells_199 : decode cX8_tells 199 = .ok (.iload_n 2, 1) := dk_28 (dk_at dksX8_tells_8 8 rfl rfl)
theorem dX8_tells_200 : decode cX8_tells 200 = .ok (.iload 10, 2) := dk_21 10 (dk_at dksX8_tells_8 9 rfl rfl)
theorem dX8_tells_202 : decode cX8_tells 202 = .ok (.invokevirtual 97, 3) := dk_182 0 97 (dk_at dksX8_tells_8 11 rfl rfl)
theorem dX8_tells_205 : decode cX8_tells 205 = .ok (.aload_n 0, 1) := dk_42 (dk_at dksX8_tells_8 14 rfl rfl)
theorem dX8_tells_206 : decode cX8_tells 206 = .ok (.iload_n 1, 1) := dk_27 (dk_at dksX8_tells_8 15 rfl rfl)
theorem dX8_tells_207 : decode cX8_tells 207 = .ok (.iload_n 2, 1) := dk_28 (dk_at dksX8_tells_8 16 rfl rfl)
theorem dX8_tells_208 : decode cX8_tells 208 = .ok (.invokevirtual 404, 3) := dk_182 1 148 (dk_at dksX8_tells_8 17 rfl rfl)
theorem dX8_tells_211 : decode cX8_tells 211 = .ok (.iconst (-1), 1) := dk_2 (dk_at dksX8_tells_8 20 rfl rfl)
theorem dX8_tells_212 : decode cX8_tells 212 = .ok (.if_icmp .ne 40, 3) := dk_160 0 40 (dk_at dksX8_tells_8 21 rfl rfl)
theorem dX8_tells_215 : decode cX8_tells 215 = .ok (.iload 7, 2) := dk_21 7 (dk_at dksX8_tells_9 0 rfl rfl)
theorem dX8_tells_217 : decode cX8_tells 217 = .ok (.iload 4, 2) := dk_21 4 (dk_at dksX8_tells_9 2 rfl rfl)
theorem dX8_tells_219 : decode cX8_tells 219 = .ok (.iconst 5, 1) := dk_8 (dk_at dksX8_tells_9 4 rfl rfl)
theorem dX8_tells_220 : decode cX8_tells 220 = .ok (.if_icmp .ne 7, 3) := dk_160 0 7 (dk_at dksX8_tells_9 5 rfl rfl)
theorem dX8_tells_223 : decode cX8_tells 223 = .ok (.iconst 0, 1) := dk_3 (dk_at dksX8_tells_9 8 rfl rfl)
theorem dX8_tells_224 : decode cX8_tells 224 = .ok (.goto 7, 3) := dk_167 0 7 (dk_at dksX8_tells_9 9 rfl rfl)
theorem dX8_tells_227 : decode cX8_tells 227 = .ok (.iconst 1, 1) := dk_4 (dk_at dksX8_tells_9 12 rfl rfl)
theorem dX8_tells_228 : decode cX8_tells 228 = .ok (.iload 10, 2) := dk_21 10 (dk_at dksX8_tells_9 13 rfl rfl)
theorem dX8_tells_230 : decode cX8_tells 230 = .ok (.ishl, 1) := dk_120 (dk_at dksX8_tells_9 15 rfl rfl)
theorem dX8_tells_231 : decode cX8_tells 231 = .ok (.ior, 1) := dk_128 (dk_at dksX8_tells_9 16 rfl rfl)
theorem dX8_tells_232 : decode cX8_tells 232 = .ok (.istore 7, 2) := dk_54 7 (dk_at dksX8_tells_9 17 rfl rfl)
theorem dX8_tells_234 : decode cX8_tells 234 = .ok (.iinc 8 1, 3) := dk_132 8 1 (dk_at dksX8_tells_9 19 rfl rfl)
theorem dX8_tells_237 : decode cX8_tells 237 = .ok (.iload 9, 2) := dk_21 9 (dk_at dksX8_tells_9 22 rfl rfl)
theorem dX8_tells_239 : decode cX8_tells 239 = .ok (.iconst (-1), 1) := dk_2 (dk_at dksX8_tells_10 0 rfl rfl)
theorem dX8_tells_240 : decode cX8_tells 240 = .ok (.if_icmp .ne 8, 3) := dk_160 0 8 (dk_at dksX8_tells_10 1 rfl rfl)
theorem dX8_tells_243 : decode cX8_tells 243 = .ok (.iload 10, 2) := dk_21 10 (dk_at dksX8_tells_10 4 rfl rfl)
theorem dX8_tells_245 : decode cX8_tells 245 = .ok (.goto 5, 3) := dk_167 0 5 (dk_at dksX8_tells_10 6 rfl rfl)
theorem dX8_tells_248 : decode cX8_tells 248 = .ok (.iload 9, 2) := dk_21 9 (dk_at dksX8_tells_10 9 rfl rfl)
theorem dX8_tells_250 : decode cX8_tells 250 = .ok (.istore 9, 2) := dk_54 9 (dk_at dksX8_tells_10 11 rfl rfl)
theorem dX8_tells_252 : decode cX8_tells 252 = .ok (.iinc 10 1, 3) := dk_132 10 1 (dk_at dksX8_tells_10 13 rfl rfl)
theorem dX8_tells_255 : decode cX8_tells 255 = .ok (.goto (-66), 3) := dk_167 255 190 (dk_at dksX8_tells_10 16 rfl rfl)
theorem dX8_tells_258 : decode cX8_tells 258 = .ok (.aload_n 0, 1) := dk_42 (dk_at dksX8_tells_10 19 rfl rfl)
theorem dX8_tells_259 : decode cX8_tells 259 = .ok (.iload 4, 2) := dk_21 4 (dk_at dksX8_tells_10 20 rfl rfl)
theorem dX8_tells_261 : decode cX8_tells 261 = .ok (.iload_n 2, 1) := dk_28 (dk_at dksX8_tells_10 22 rfl rfl)
theorem dX8_tells_262 : decode cX8_tells 262 = .ok (.iload 5, 2) := dk_21 5 (dk_at dksX8_tells_11 0 rfl rfl)
theorem dX8_tells_264 : decode cX8_tells 264 = .ok (.invokevirtual 97, 3) := dk_182 0 97 (dk_at dksX8_tells_11 2 rfl rfl)
theorem dX8_tells_267 : decode cX8_tells 267 = .ok (.iload_n 3, 1) := dk_29 (dk_at dksX8_tells_11 5 rfl rfl)
theorem dX8_tells_268 : decode cX8_tells 268 = .ok (.iconst 4, 1) := dk_7 (dk_at dksX8_tells_11 6 rfl rfl)
theorem dX8_tells_269 : decode cX8_tells 269 = .ok (.if_icmp .ne 8, 3) := dk_160 0 8 (dk_at dksX8_tells_11 7 rfl rfl)
theorem dX8_tells_272 : decode cX8_tells 272 = .ok (.iload 8, 2) := dk_21 8 (dk_at dksX8_tells_11 10 rfl rfl)
theorem dX8_tells_274 : decode cX8_tells 274 = .ok (.goto 15, 3) := dk_167 0 15 (dk_at dksX8_tells_11 12 rfl rfl)
theorem dX8_tells_277 : decode cX8_tells 277 = .ok (.iload_n 3, 1) := dk_29 (dk_at dksX8_tells_11 15 rfl rfl)
theorem dX8_tells_278 : decode cX8_tells 278 = .ok (.iconst 5, 1) := dk_8 (dk_at dksX8_tells_11 16 rfl rfl)
theorem dX8_tells_279 : decode cX8_tells 279 = .ok (.if_icmp .ne 8, 3) := dk_160 0 8 (dk_at dksX8_tells_11 17 rfl rfl)
theorem dX8_tells_282 : decode cX8_tells 282 = .ok (.iload 9, 2) := dk_21 9 (dk_at dksX8_tells_11 20 rfl rfl)
theorem dX8_tells_284 : decode cX8_tells 284 = .ok (.goto 5, 3) := dk_167 0 5 (dk_at dksX8_tells_12 0 rfl rfl)
theorem dX8_tells_287 : decode cX8_tells 287 = .ok (.iload 7, 2) := dk_21 7 (dk_at dksX8_tells_12 3 rfl rfl)
theorem dX8_tells_289 : decode cX8_tells 289 = .ok (.ireturn, 1) := dk_172 (dk_at dksX8_tells_12 5 rfl rfl)
def dkwX8_isSheet_0 : List UInt8 := [26, 133, 9, 20, 1, 108, 184, 0, 70, 172]
abbrev dktX8_isSheet_0 : List UInt8 := dkwX8_isSheet_0 ++ []
theorem dksX8_isSheet_0 : cX8_isSheet.data.toList.drop 0 = dktX8_isSheet_0 := by decide +kernel
theorem dX8_isSheet_0 : decode cX8_isSheet 0 = .ok (.iload_n 0, 1) := dk_26 (dk_at dksX8_isSheet_0 0 rfl rfl)
theorem dX8_isSheet_1 : decode cX8_isSheet 1 = .ok (.i2l, 1) := dk_133 (dk_at dksX8_isSheet_0 1 rfl rfl)
theorem dX8_isSheet_2 : decode cX8_isSheet 2 = .ok (.lconst 0, 1) := dk_9 (dk_at dksX8_isSheet_0 2 rfl rfl)
theorem dX8_isSheet_3 : decode cX8_isSheet 3 = .ok (.ldc2_w 364, 3) := dk_20 1 108 (dk_at dksX8_isSheet_0 3 rfl rfl)
theorem dX8_isSheet_6 : decode cX8_isSheet 6 = .ok (.invokestatic 70, 3) := dk_184 0 70 (dk_at dksX8_isSheet_0 6 rfl rfl)
theorem dX8_isSheet_9 : decode cX8_isSheet 9 = .ok (.ireturn, 1) := dk_172 (dk_at dksX8_isSheet_0 9 rfl rfl)
def dkwX8_firstOther_3 : List UInt8 := [182, 1, 118, 29, 172]
abbrev dktX8_firstOther_3 : List UInt8 := dkwX8_firstOther_3 ++ []
def dkwX8_firstOther_2 : List UInt8 := [104, 21, 4, 96, 46, 160, 0, 7, 2, 167, 0, 5, 21, 4, 62, 132, 4, 1, 167, 255, 201, 42]
abbrev dktX8_firstOther_2 : List UInt8 := dkwX8_firstOther_2 ++ dktX8_firstOther_3
def dkwX8_firstOther_1 : List UInt8 := [160, 0, 45, 42, 182, 1, 91, 42, 180, 0, 32, 6, 28, 104, 5, 96, 46, 42, 180, 0, 57, 16, 40, 27]
abbrev dktX8_firstOther_1 : List UInt8 := dkwX8_firstOther_1 ++ dktX8_firstOther_2
def dkwX8_firstOther_0 : List UInt8 := [42, 182, 1, 112, 2, 62, 3, 54, 4, 21, 4, 42, 180, 0, 54, 27, 46, 162, 0, 50, 29, 2]
abbrev dktX8_firstOther_0 : List UInt8 := dkwX8_firstOther_0 ++ dktX8_firstOther_1
theorem dksX8_firstOther_0 : cX8_firstOther.data.toList.drop 0 = dktX8_firstOther_0 := by decide +kernel
theorem dksX8_firstOther_1 : cX8_firstOther.data.toList.drop 22 = dktX8_firstOther_1 := dk_seg dksX8_firstOther_0 22 rfl rfl
theorem dksX8_firstOther_2 : cX8_firstOther.data.toList.drop 46 = dktX8_firstOther_2 := dk_seg dksX8_firstOther_1 24 rfl rfl
theorem dksX8_firstOther_3 : cX8_firstOther.data.toList.drop 68 = dktX8_firstOther_3 := dk_seg dksX8_firstOther_2 22 rfl rfl
theorem dX8_firstOther_0 : decode cX8_firstOther 0 = .ok (.aload_n 0, 1) := dk_42 (dk_at dksX8_firstOther_0 0 rfl rfl)
theorem dX8_firstOther_1 : decode cX8_firstOther 1 = .ok (.invokevirtual 368, 3) := dk_182 1 112 (dk_at dksX8_firstOther_0 1 rfl rfl)
theorem dX8_firstOther_4 : decode cX8_firstOther 4 = .ok (.iconst (-1), 1) := dk_2 (dk_at dksX8_firstOther_0 4 rfl rfl)
theorem dX8_firstOther_5 : decode cX8_firstOther 5 = .ok (.istore_n 3, 1) := dk_62 (dk_at dksX8_firstOther_0 5 rfl rfl)
theorem dX8_firstOther_6 : decode cX8_firstOther 6 = .ok (.iconst 0, 1) := dk_3 (dk_at dksX8_firstOther_0 6 rfl rfl)
theorem dX8_firstOther_7 : decode cX8_firstOther 7 = .ok (.istore 4, 2) := dk_54 4 (dk_at dksX8_firstOther_0 7 rfl rfl)
theorem dX8_firstOther_9 : decode cX8_firstOther 9 = .ok (.iload 4, 2) := dk_21 4 (dk_at dksX8_firstOther_0 9 rfl rfl)
theorem dX8_firstOther_11 : decode cX8_firstOther 11 = .ok (.aload_n 0, 1) := dk_42 (dk_at dksX8_firstOther_0 11 rfl rfl)
theorem dX8_firstOther_12 : decode cX8_firstOther 12 = .ok (.getfield 54, 3) := dk_180 0 54 (dk_at dksX8_firstOther_0 12 rfl rfl)
theorem dX8_firstOther_15 : decode cX8_firstOther 15 = .ok (.iload_n 1, 1) := dk_27 (dk_at dksX8_firstOther_0 15 rfl rfl)
theorem dX8_firstOther_16 : decode cX8_firstOther 16 = .ok (.iaload, 1) := dk_46 (dk_at dksX8_firstOther_0 16 rfl rfl)
theorem dX8_firstOther_17 : decode cX8_firstOther 17 = .ok (.if_icmp .ge 50, 3) := dk_162 0 50 (dk_at dksX8_firstOther_0 17 rfl rfl)
theorem dX8_firstOther_20 : decode cX8_firstOther 20 = .ok (.iload_n 3, 1) := dk_29 (dk_at dksX8_firstOther_0 20 rfl rfl)
theorem dX8_firstOther_21 : decode cX8_firstOther 21 = .ok (.iconst (-1), 1) := dk_2 (dk_at dksX8_firstOther_0 21 rfl rfl)
theorem dX8_firstOther_22 : decode cX8_firstOther 22 = .ok (.if_icmp .ne 45, 3) := dk_160 0 45 (dk_at dksX8_firstOther_1 0 rfl rfl)
theorem dX8_firstOther_25 : decode cX8_firstOther 25 = .ok (.aload_n 0, 1) := dk_42 (dk_at dksX8_firstOther_1 3 rfl rfl)
theorem dX8_firstOther_26 : decode cX8_firstOther 26 = .ok (.invokevirtual 347, 3) := dk_182 1 91 (dk_at dksX8_firstOther_1 4 rfl rfl)
theorem dX8_firstOther_29 : decode cX8_firstOther 29 = .ok (.aload_n 0, 1) := dk_42 (dk_at dksX8_firstOther_1 7 rfl rfl)
theorem dX8_firstOther_30 : decode cX8_firstOther 30 = .ok (.getfield 32, 3) := dk_180 0 32 (dk_at dksX8_firstOther_1 8 rfl rfl)
theorem dX8_firstOther_33 : decode cX8_firstOther 33 = .ok (.iconst 3, 1) := dk_6 (dk_at dksX8_firstOther_1 11 rfl rfl)
theorem dX8_firstOther_34 : decode cX8_firstOther 34 = .ok (.iload_n 2, 1) := dk_28 (dk_at dksX8_firstOther_1 12 rfl rfl)
theorem dX8_firstOther_35 : decode cX8_firstOther 35 = .ok (.imul, 1) := dk_104 (dk_at dksX8_firstOther_1 13 rfl rfl)
theorem dX8_firstOther_36 : decode cX8_firstOther 36 = .ok (.iconst 2, 1) := dk_5 (dk_at dksX8_firstOther_1 14 rfl rfl)
theorem dX8_firstOther_37 : decode cX8_firstOther 37 = .ok (.iadd, 1) := dk_96 (dk_at dksX8_firstOther_1 15 rfl rfl)
theorem dX8_firstOther_38 : decode cX8_firstOther 38 = .ok (.iaload, 1) := dk_46 (dk_at dksX8_firstOther_1 16 rfl rfl)
theorem dX8_firstOther_39 : decode cX8_firstOther 39 = .ok (.aload_n 0, 1) := dk_42 (dk_at dksX8_firstOther_1 17 rfl rfl)
theorem dX8_firstOther_40 : decode cX8_firstOther 40 = .ok (.getfield 57, 3) := dk_180 0 57 (dk_at dksX8_firstOther_1 18 rfl rfl)
theorem dX8_firstOther_43 : decode cX8_firstOther 43 = .ok (.bipush 40, 2) := dk_16 40 (dk_at dksX8_firstOther_1 21 rfl rfl)
theorem dX8_firstOther_45 : decode cX8_firstOther 45 = .ok (.iload_n 1, 1) := dk_27 (dk_at dksX8_firstOther_1 23 rfl rfl)
theorem dX8_firstOther_46 : decode cX8_firstOther 46 = .ok (.imul, 1) := dk_104 (dk_at dksX8_firstOther_2 0 rfl rfl)
theorem dX8_firstOther_47 : decode cX8_firstOther 47 = .ok (.iload 4, 2) := dk_21 4 (dk_at dksX8_firstOther_2 1 rfl rfl)
theorem dX8_firstOther_49 : decode cX8_firstOther 49 = .ok (.iadd, 1) := dk_96 (dk_at dksX8_firstOther_2 3 rfl rfl)
theorem dX8_firstOther_50 : decode cX8_firstOther 50 = .ok (.iaload, 1) := dk_46 (dk_at dksX8_firstOther_2 4 rfl rfl)
theorem dX8_firstOther_51 : decode cX8_firstOther 51 = .ok (.if_icmp .ne 7, 3) := dk_160 0 7 (dk_at dksX8_firstOther_2 5 rfl rfl)
theorem dX8_firstOther_54 : decode cX8_firstOther 54 = .ok (.iconst (-1), 1) := dk_2 (dk_at dksX8_firstOther_2 8 rfl rfl)
theorem dX8_firstOther_55 : decode cX8_firstOther 55 = .ok (.goto 5, 3) := dk_167 0 5 (dk_at dksX8_firstOther_2 9 rfl rfl)
theorem dX8_firstOther_58 : decode cX8_firstOther 58 = .ok (.iload 4, 2) := dk_21 4 (dk_at dksX8_firstOther_2 12 rfl rfl)
theorem dX8_firstOther_60 : decode cX8_firstOther 60 = .ok (.istore_n 3, 1) := dk_62 (dk_at dksX8_firstOther_2 14 rfl rfl)
theorem dX8_firstOther_61 : decode cX8_firstOther 61 = .ok (.iinc 4 1, 3) := dk_132 4 1 (dk_at dksX8_firstOther_2 15 rfl rfl)
theorem dX8_firstOther_64 : decode cX8_firstOther 64 = .ok (.goto (-55), 3) := dk_167 255 201 (dk_at dksX8_firstOther_2 18 rfl rfl)
theorem dX8_firstOther_67 : decode cX8_firstOther 67 = .ok (.aload_n 0, 1) := dk_42 (dk_at dksX8_firstOther_2 21 rfl rfl)
theorem dX8_firstOther_68 : decode cX8_firstOther 68 = .ok (.invokevirtual 374, 3) := dk_182 1 118 (dk_at dksX8_firstOther_3 0 rfl rfl)
theorem dX8_firstOther_71 : decode cX8_firstOther 71 = .ok (.iload_n 3, 1) := dk_29 (dk_at dksX8_firstOther_3 3 rfl rfl)
theorem dX8_firstOther_72 : decode cX8_firstOther 72 = .ok (.ireturn, 1) := dk_172 (dk_at dksX8_firstOther_3 4 rfl rfl)
def dkwX8_film_3 : List UInt8 := [104, 5, 96, 46, 79, 132, 4, 1, 167, 255, 221, 42, 182, 1, 118, 29, 172]
abbrev dktX8_film_3 : List UInt8 := dkwX8_film_3 ++ []
def dkwX8_film_2 : List UInt8 := [162, 0, 35, 42, 182, 1, 91, 42, 180, 0, 57, 16, 40, 27, 104, 21, 4, 96, 42, 180, 0, 32, 6, 28]
abbrev dktX8_film_2 : List UInt8 := dkwX8_film_2 ++ dktX8_film_3
def dkwX8_film_1 : List UInt8 := [154, 0, 6, 16, 254, 172, 42, 27, 5, 29, 182, 1, 151, 87, 42, 182, 1, 112, 3, 54, 4, 21, 4, 29]
abbrev dktX8_film_1 : List UInt8 := dkwX8_film_1 ++ dktX8_film_2
def dkwX8_film_0 : List UInt8 := [27, 184, 1, 143, 153, 0, 23, 42, 28, 182, 0, 80, 153, 0, 15, 29, 133, 9, 20, 1, 106, 184, 0, 70]
abbrev dktX8_film_0 : List UInt8 := dkwX8_film_0 ++ dktX8_film_1
theorem dksX8_film_0 : cX8_film.data.toList.drop 0 = dktX8_film_0 := by decide +kernel
theorem dksX8_film_1 : cX8_film.data.toList.drop 24 = dktX8_film_1 := dk_seg dksX8_film_0 24 rfl rfl
theorem dksX8_film_2 : cX8_film.data.toList.drop 48 = dktX8_film_2 := dk_seg dksX8_film_1 24 rfl rfl
theorem dksX8_film_3 : cX8_film.data.toList.drop 72 = dktX8_film_3 := dk_seg dksX8_film_2 24 rfl rfl
theorem dX8_film_0 : decode cX8_film 0 = .ok (.iload_n 1, 1) := dk_27 (dk_at dksX8_film_0 0 rfl rfl)
theorem dX8_film_1 : decode cX8_film 1 = .ok (.invokestatic 399, 3) := dk_184 1 143 (dk_at dksX8_film_0 1 rfl rfl)
theorem dX8_film_4 : decode cX8_film 4 = .ok (.ifCond .eq 23, 3) := dk_153 0 23 (dk_at dksX8_film_0 4 rfl rfl)
theorem dX8_film_7 : decode cX8_film 7 = .ok (.aload_n 0, 1) := dk_42 (dk_at dksX8_film_0 7 rfl rfl)
theorem dX8_film_8 : decode cX8_film 8 = .ok (.iload_n 2, 1) := dk_28 (dk_at dksX8_film_0 8 rfl rfl)
theorem dX8_film_9 : decode cX8_film 9 = .ok (.invokevirtual 80, 3) := dk_182 0 80 (dk_at dksX8_film_0 9 rfl rfl)
theorem dX8_film_12 : decode cX8_film 12 = .ok (.ifCond .eq 15, 3) := dk_153 0 15 (dk_at dksX8_film_0 12 rfl rfl)
theorem dX8_film_15 : decode cX8_film 15 = .ok (.iload_n 3, 1) := dk_29 (dk_at dksX8_film_0 15 rfl rfl)
theorem dX8_film_16 : decode cX8_film 16 = .ok (.i2l, 1) := dk_133 (dk_at dksX8_film_0 16 rfl rfl)
theorem dX8_film_17 : decode cX8_film 17 = .ok (.lconst 0, 1) := dk_9 (dk_at dksX8_film_0 17 rfl rfl)
theorem dX8_film_18 : decode cX8_film 18 = .ok (.ldc2_w 362, 3) := dk_20 1 106 (dk_at dksX8_film_0 18 rfl rfl)
theorem dX8_film_21 : decode cX8_film 21 = .ok (.invokestatic 70, 3) := dk_184 0 70 (dk_at dksX8_film_0 21 rfl rfl)
theorem dX8_film_24 : decode cX8_film 24 = .ok (.ifCond .ne 6, 3) := dk_154 0 6 (dk_at dksX8_film_1 0 rfl rfl)
theorem dX8_film_27 : decode cX8_film 27 = .ok (.bipush (-2), 2) := dk_16 254 (dk_at dksX8_film_1 3 rfl rfl)
theorem dX8_film_29 : decode cX8_film 29 = .ok (.ireturn, 1) := dk_172 (dk_at dksX8_film_1 5 rfl rfl)
theorem dX8_film_30 : decode cX8_film 30 = .ok (.aload_n 0, 1) := dk_42 (dk_at dksX8_film_1 6 rfl rfl)
theorem dX8_film_31 : decode cX8_film 31 = .ok (.iload_n 1, 1) := dk_27 (dk_at dksX8_film_1 7 rfl rfl)
theorem dX8_film_32 : decode cX8_film 32 = .ok (.iconst 2, 1) := dk_5 (dk_at dksX8_film_1 8 rfl rfl)
theorem dX8_film_33 : decode cX8_film 33 = .ok (.iload_n 3, 1) := dk_29 (dk_at dksX8_film_1 9 rfl rfl)
theorem dX8_film_34 : decode cX8_film 34 = .ok (.invokevirtual 407, 3) := dk_182 1 151 (dk_at dksX8_film_1 10 rfl rfl)
theorem dX8_film_37 : decode cX8_film 37 = .ok (.pop, 1) := dk_87 (dk_at dksX8_film_1 13 rfl rfl)
theorem dX8_film_38 : decode cX8_film 38 = .ok (.aload_n 0, 1) := dk_42 (dk_at dksX8_film_1 14 rfl rfl)
theorem dX8_film_39 : decode cX8_film 39 = .ok (.invokevirtual 368, 3) := dk_182 1 112 (dk_at dksX8_film_1 15 rfl rfl)
theorem dX8_film_42 : decode cX8_film 42 = .ok (.iconst 0, 1) := dk_3 (dk_at dksX8_film_1 18 rfl rfl)
theorem dX8_film_43 : decode cX8_film 43 = .ok (.istore 4, 2) := dk_54 4 (dk_at dksX8_film_1 19 rfl rfl)
theorem dX8_film_45 : decode cX8_film 45 = .ok (.iload 4, 2) := dk_21 4 (dk_at dksX8_film_1 21 rfl rfl)
theorem dX8_film_47 : decode cX8_film 47 = .ok (.iload_n 3, 1) := dk_29 (dk_at dksX8_film_1 23 rfl rfl)
theorem dX8_film_48 : decode cX8_film 48 = .ok (.if_icmp .ge 35, 3) := dk_162 0 35 (dk_at dksX8_film_2 0 rfl rfl)
theorem dX8_film_51 : decode cX8_film 51 = .ok (.aload_n 0, 1) := dk_42 (dk_at dksX8_film_2 3 rfl rfl)
theorem dX8_film_52 : decode cX8_film 52 = .ok (.invokevirtual 347, 3) := dk_182 1 91 (dk_at dksX8_film_2 4 rfl rfl)
theorem dX8_film_55 : decode cX8_film 55 = .ok (.aload_n 0, 1) := dk_42 (dk_at dksX8_film_2 7 rfl rfl)
theorem dX8_film_56 : decode cX8_film 56 = .ok (.getfield 57, 3) := dk_180 0 57 (dk_at dksX8_film_2 8 rfl rfl)
theorem dX8_film_59 : decode cX8_film 59 = .ok (.bipush 40, 2) := dk_16 40 (dk_at dksX8_film_2 11 rfl rfl)
theorem dX8_film_61 : decode cX8_film 61 = .ok (.iload_n 1, 1) := dk_27 (dk_at dksX8_film_2 13 rfl rfl)
theorem dX8_film_62 : decode cX8_film 62 = .ok (.imul, 1) := dk_104 (dk_at dksX8_film_2 14 rfl rfl)
theorem dX8_film_63 : decode cX8_film 63 = .ok (.iload 4, 2) := dk_21 4 (dk_at dksX8_film_2 15 rfl rfl)
theorem dX8_film_65 : decode cX8_film 65 = .ok (.iadd, 1) := dk_96 (dk_at dksX8_film_2 17 rfl rfl)
theorem dX8_film_66 : decode cX8_film 66 = .ok (.aload_n 0, 1) := dk_42 (dk_at dksX8_film_2 18 rfl rfl)
theorem dX8_film_67 : decode cX8_film 67 = .ok (.getfield 32, 3) := dk_180 0 32 (dk_at dksX8_film_2 19 rfl rfl)
theorem dX8_film_70 : decode cX8_film 70 = .ok (.iconst 3, 1) := dk_6 (dk_at dksX8_film_2 22 rfl rfl)
theorem dX8_film_71 : decode cX8_film 71 = .ok (.iload_n 2, 1) := dk_28 (dk_at dksX8_film_2 23 rfl rfl)
theorem dX8_film_72 : decode cX8_film 72 = .ok (.imul, 1) := dk_104 (dk_at dksX8_film_3 0 rfl rfl)
theorem dX8_film_73 : decode cX8_film 73 = .ok (.iconst 2, 1) := dk_5 (dk_at dksX8_film_3 1 rfl rfl)
theorem dX8_film_74 : decode cX8_film 74 = .ok (.iadd, 1) := dk_96 (dk_at dksX8_film_3 2 rfl rfl)
theorem dX8_film_75 : decode cX8_film 75 = .ok (.iaload, 1) := dk_46 (dk_at dksX8_film_3 3 rfl rfl)
theorem dX8_film_76 : decode cX8_film 76 = .ok (.iastore, 1) := dk_79 (dk_at dksX8_film_3 4 rfl rfl)
theorem dX8_film_77 : decode cX8_film 77 = .ok (.iinc 4 1, 3) := dk_132 4 1 (dk_at dksX8_film_3 5 rfl rfl)
theorem dX8_film_80 : decode cX8_film 80 = .ok (.goto (-35), 3) := dk_167 255 221 (dk_at dksX8_film_3 8 rfl rfl)
theorem dX8_film_83 : decode cX8_film 83 = .ok (.aload_n 0, 1) := dk_42 (dk_at dksX8_film_3 11 rfl rfl)
theorem dX8_film_84 : decode cX8_film 84 = .ok (.invokevirtual 374, 3) := dk_182 1 118 (dk_at dksX8_film_3 12 rfl rfl)
theorem dX8_film_87 : decode cX8_film 87 = .ok (.iload_n 3, 1) := dk_29 (dk_at dksX8_film_3 15 rfl rfl)
theorem dX8_film_88 : decode cX8_film 88 = .ok (.ireturn, 1) := dk_172 (dk_at dksX8_film_3 16 rfl rfl)
def dkwX8_sheet_4 : List UInt8 := [16, 40, 27, 104, 21, 4, 96, 3, 79, 132, 4, 1, 167, 255, 230, 4, 172]
abbrev dktX8_sheet_4 : List UInt8 := dkwX8_sheet_4 ++ []
def dkwX8_sheet_3 : List UInt8 := [180, 0, 54, 27, 29, 79, 3, 54, 4, 21, 4, 29, 162, 0, 26, 28, 155, 0, 22, 42, 180, 0, 57]
abbrev dktX8_sheet_3 : List UInt8 := dkwX8_sheet_3 ++ dktX8_sheet_4
def dkwX8_sheet_2 : List UInt8 := [180, 0, 47, 27, 28, 155, 0, 7, 4, 167, 0, 4, 3, 84, 42, 180, 0, 51, 27, 28, 79, 42]
abbrev dktX8_sheet_2 : List UInt8 := dkwX8_sheet_2 ++ dktX8_sheet_3
def dkwX8_sheet_1 : List UInt8 := [155, 0, 12, 29, 16, 40, 164, 0, 6, 16, 254, 172, 28, 155, 0, 10, 29, 156, 0, 6, 16, 242, 172, 42]
abbrev dktX8_sheet_1 : List UInt8 := dkwX8_sheet_1 ++ dktX8_sheet_2
def dkwX8_sheet_0 : List UInt8 := [27, 184, 1, 143, 153, 0, 27, 28, 133, 20, 1, 138, 20, 1, 172, 184, 0, 70, 153, 0, 13, 28]
abbrev dktX8_sheet_0 : List UInt8 := dkwX8_sheet_0 ++ dktX8_sheet_1
theorem dksX8_sheet_0 : cX8_sheet.data.toList.drop 0 = dktX8_sheet_0 := by decide +kernel
theorem dksX8_sheet_1 : cX8_sheet.data.toList.drop 22 = dktX8_sheet_1 := dk_seg dksX8_sheet_0 22 rfl rfl
theorem dksX8_sheet_2 : cX8_sheet.data.toList.drop 46 = dktX8_sheet_2 := dk_seg dksX8_sheet_1 24 rfl rfl
theorem dksX8_sheet_3 : cX8_sheet.data.toList.drop 68 = dktX8_sheet_3 := dk_seg dksX8_sheet_2 22 rfl rfl
theorem dksX8_sheet_4 : cX8_sheet.data.toList.drop 91 = dktX8_sheet_4 := dk_seg dksX8_sheet_3 23 rfl rfl
theorem dX8_sheet_0 : decode cX8_sheet 0 = .ok (.iload_n 1, 1) := dk_27 (dk_at dksX8_sheet_0 0 rfl rfl)
theorem dX8_sheet_1 : decode cX8_sheet 1 = .ok (.invokestatic 399, 3) := dk_184 1 143 (dk_at dksX8_sheet_0 1 rfl rfl)
theorem dX8_sheet_4 : decode cX8_sheet 4 = .ok (.ifCond .eq 27, 3) := dk_153 0 27 (dk_at dksX8_sheet_0 4 rfl rfl)
theorem dX8_sheet_7 : decode cX8_sheet 7 = .ok (.iload_n 2, 1) := dk_28 (dk_at dksX8_sheet_0 7 rfl rfl)
theorem dX8_sheet_8 : decode cX8_sheet 8 = .ok (.i2l, 1) := dk_133 (dk_at dksX8_sheet_0 8 rfl rfl)
theorem dX8_sheet_9 : decode cX8_sheet 9 = .ok (.ldc2_w 394, 3) := dk_20 1 138 (dk_at dksX8_sheet_0 9 rfl rfl)
theorem dX8_sheet_12 : decode cX8_sheet 12 = .ok (.ldc2_w 428, 3) := dk_20 1 172 (dk_at dksX8_sheet_0 12 rfl rfl)
theorem dX8_sheet_15 : decode cX8_sheet 15 = .ok (.invokestatic 70, 3) := dk_184 0 70 (dk_at dksX8_sheet_0 15 rfl rfl)
theorem dX8_sheet_18 : decode cX8_sheet 18 = .ok (.ifCond .eq 13, 3) := dk_153 0 13 (dk_at dksX8_sheet_0 18 rfl rfl)
theorem dX8_sheet_21 : decode cX8_sheet 21 = .ok (.iload_n 2, 1) := dk_28 (dk_at dksX8_sheet_0 21 rfl rfl)
theorem dX8_sheet_22 : decode cX8_sheet 22 = .ok (.ifCond .lt 12, 3) := dk_155 0 12 (dk_at dksX8_sheet_1 0 rfl rfl)
theorem dX8_sheet_25 : decode cX8_sheet 25 = .ok (.iload_n 3, 1) := dk_29 (dk_at dksX8_sheet_1 3 rfl rfl)
theorem dX8_sheet_26 : decode cX8_sheet 26 = .ok (.bipush 40, 2) := dk_16 40 (dk_at dksX8_sheet_1 4 rfl rfl)
theorem dX8_sheet_28 : decode cX8_sheet 28 = .ok (.if_icmp .le 6, 3) := dk_164 0 6 (dk_at dksX8_sheet_1 6 rfl rfl)
theorem dX8_sheet_31 : decode cX8_sheet 31 = .ok (.bipush (-2), 2) := dk_16 254 (dk_at dksX8_sheet_1 9 rfl rfl)
theorem dX8_sheet_33 : decode cX8_sheet 33 = .ok (.ireturn, 1) := dk_172 (dk_at dksX8_sheet_1 11 rfl rfl)
theorem dX8_sheet_34 : decode cX8_sheet 34 = .ok (.iload_n 2, 1) := dk_28 (dk_at dksX8_sheet_1 12 rfl rfl)
theorem dX8_sheet_35 : decode cX8_sheet 35 = .ok (.ifCond .lt 10, 3) := dk_155 0 10 (dk_at dksX8_sheet_1 13 rfl rfl)
theorem dX8_sheet_38 : decode cX8_sheet 38 = .ok (.iload_n 3, 1) := dk_29 (dk_at dksX8_sheet_1 16 rfl rfl)
theorem dX8_sheet_39 : decode cX8_sheet 39 = .ok (.ifCond .ge 6, 3) := dk_156 0 6 (dk_at dksX8_sheet_1 17 rfl rfl)
theorem dX8_sheet_42 : decode cX8_sheet 42 = .ok (.bipush (-14), 2) := dk_16 242 (dk_at dksX8_sheet_1 20 rfl rfl)
theorem dX8_sheet_44 : decode cX8_sheet 44 = .ok (.ireturn, 1) := dk_172 (dk_at dksX8_sheet_1 22 rfl rfl)
theorem dX8_sheet_45 : decode cX8_sheet 45 = .ok (.aload_n 0, 1) := dk_42 (dk_at dksX8_sheet_1 23 rfl rfl)
theorem dX8_sheet_46 : decode cX8_sheet 46 = .ok (.getfield 47, 3) := dk_180 0 47 (dk_at dksX8_sheet_2 0 rfl rfl)
theorem dX8_sheet_49 : decode cX8_sheet 49 = .ok (.iload_n 1, 1) := dk_27 (dk_at dksX8_sheet_2 3 rfl rfl)
theorem dX8_sheet_50 : decode cX8_sheet 50 = .ok (.iload_n 2, 1) := dk_28 (dk_at dksX8_sheet_2 4 rfl rfl)
theorem dX8_sheet_51 : decode cX8_sheet 51 = .ok (.ifCond .lt 7, 3) := dk_155 0 7 (dk_at dksX8_sheet_2 5 rfl rfl)
theorem dX8_sheet_54 : decode cX8_sheet 54 = .ok (.iconst 1, 1) := dk_4 (dk_at dksX8_sheet_2 8 rfl rfl)
theorem dX8_sheet_55 : decode cX8_sheet 55 = .ok (.goto 4, 3) := dk_167 0 4 (dk_at dksX8_sheet_2 9 rfl rfl)
theorem dX8_sheet_58 : decode cX8_sheet 58 = .ok (.iconst 0, 1) := dk_3 (dk_at dksX8_sheet_2 12 rfl rfl)
theorem dX8_sheet_59 : decode cX8_sheet 59 = .ok (.bastore, 1) := dk_84 (dk_at dksX8_sheet_2 13 rfl rfl)
theorem dX8_sheet_60 : decode cX8_sheet 60 = .ok (.aload_n 0, 1) := dk_42 (dk_at dksX8_sheet_2 14 rfl rfl)
theorem dX8_sheet_61 : decode cX8_sheet 61 = .ok (.getfield 51, 3) := dk_180 0 51 (dk_at dksX8_sheet_2 15 rfl rfl)
theorem dX8_sheet_64 : decode cX8_sheet 64 = .ok (.iload_n 1, 1) := dk_27 (dk_at dksX8_sheet_2 18 rfl rfl)
theorem dX8_sheet_65 : decode cX8_sheet 65 = .ok (.iload_n 2, 1) := dk_28 (dk_at dksX8_sheet_2 19 rfl rfl)
theorem dX8_sheet_66 : decode cX8_sheet 66 = .ok (.iastore, 1) := dk_79 (dk_at dksX8_sheet_2 20 rfl rfl)
theorem dX8_sheet_67 : decode cX8_sheet 67 = .ok (.aload_n 0, 1) := dk_42 (dk_at dksX8_sheet_2 21 rfl rfl)
theorem dX8_sheet_68 : decode cX8_sheet 68 = .ok (.getfield 54, 3) := dk_180 0 54 (dk_at dksX8_sheet_3 0 rfl rfl)
theorem dX8_sheet_71 : decode cX8_sheet 71 = .ok (.iload_n 1, 1) := dk_27 (dk_at dksX8_sheet_3 3 rfl rfl)
theorem dX8_sheet_72 : decode cX8_sheet 72 = .ok (.iload_n 3, 1) := dk_29 (dk_at dksX8_sheet_3 4 rfl rfl)
theorem dX8_sheet_73 : decode cX8_sheet 73 = .ok (.iastore, 1) := dk_79 (dk_at dksX8_sheet_3 5 rfl rfl)
theorem dX8_sheet_74 : decode cX8_sheet 74 = .ok (.iconst 0, 1) := dk_3 (dk_at dksX8_sheet_3 6 rfl rfl)
theorem dX8_sheet_75 : decode cX8_sheet 75 = .ok (.istore 4, 2) := dk_54 4 (dk_at dksX8_sheet_3 7 rfl rfl)
theorem dX8_sheet_77 : decode cX8_sheet 77 = .ok (.iload 4, 2) := dk_21 4 (dk_at dksX8_sheet_3 9 rfl rfl)
theorem dX8_sheet_79 : decode cX8_sheet 79 = .ok (.iload_n 3, 1) := dk_29 (dk_at dksX8_sheet_3 11 rfl rfl)
theorem dX8_sheet_80 : decode cX8_sheet 80 = .ok (.if_icmp .ge 26, 3) := dk_162 0 26 (dk_at dksX8_sheet_3 12 rfl rfl)
theorem dX8_sheet_83 : decode cX8_sheet 83 = .ok (.iload_n 2, 1) := dk_28 (dk_at dksX8_sheet_3 15 rfl rfl)
theorem dX8_sheet_84 : decode cX8_sheet 84 = .ok (.ifCond .lt 22, 3) := dk_155 0 22 (dk_at dksX8_sheet_3 16 rfl rfl)
theorem dX8_sheet_87 : decode cX8_sheet 87 = .ok (.aload_n 0, 1) := dk_42 (dk_at dksX8_sheet_3 19 rfl rfl)
theorem dX8_sheet_88 : decode cX8_sheet 88 = .ok (.getfield 57, 3) := dk_180 0 57 (dk_at dksX8_sheet_3 20 rfl rfl)
theorem dX8_sheet_91 : decode cX8_sheet 91 = .ok (.bipush 40, 2) := dk_16 40 (dk_at dksX8_sheet_4 0 rfl rfl)
theorem dX8_sheet_93 : decode cX8_sheet 93 = .ok (.iload_n 1, 1) := dk_27 (dk_at dksX8_sheet_4 2 rfl rfl)
theorem dX8_sheet_94 : decode cX8_sheet 94 = .ok (.imul, 1) := dk_104 (dk_at dksX8_sheet_4 3 rfl rfl)
theorem dX8_sheet_95 : decode cX8_sheet 95 = .ok (.iload 4, 2) := dk_21 4 (dk_at dksX8_sheet_4 4 rfl rfl)
theorem dX8_sheet_97 : decode cX8_sheet 97 = .ok (.iadd, 1) := dk_96 (dk_at dksX8_sheet_4 6 rfl rfl)
theorem dX8_sheet_98 : decode cX8_sheet 98 = .ok (.iconst 0, 1) := dk_3 (dk_at dksX8_sheet_4 7 rfl rfl)
theorem dX8_sheet_99 : decode cX8_sheet 99 = .ok (.iastore, 1) := dk_79 (dk_at dksX8_sheet_4 8 rfl rfl)
theorem dX8_sheet_100 : decode cX8_sheet 100 = .ok (.iinc 4 1, 3) := dk_132 4 1 (dk_at dksX8_sheet_4 9 rfl rfl)
theorem dX8_sheet_103 : decode cX8_sheet 103 = .ok (.goto (-26), 3) := dk_167 255 230 (dk_at dksX8_sheet_4 12 rfl rfl)
theorem dX8_sheet_106 : decode cX8_sheet 106 = .ok (.iconst 1, 1) := dk_4 (dk_at dksX8_sheet_4 15 rfl rfl)
theorem dX8_sheet_107 : decode cX8_sheet 107 = .ok (.ireturn, 1) := dk_172 (dk_at dksX8_sheet_4 16 rfl rfl)
def dkwX8_drawn_0 : List UInt8 := [28, 133, 9, 20, 1, 106, 184, 0, 70, 153, 0, 12, 42, 27, 28, 182, 1, 155, 167, 0, 5, 16, 254, 172]
abbrev dktX8_drawn_0 : List UInt8 := dkwX8_drawn_0 ++ []
theorem dksX8_drawn_0 : cX8_drawn.data.toList.drop 0 = dktX8_drawn_0 := by decide +kernel
theorem dX8_drawn_0 : decode cX8_drawn 0 = .ok (.iload_n 2, 1) := dk_28 (dk_at dksX8_drawn_0 0 rfl rfl)
theorem dX8_drawn_1 : decode cX8_drawn 1 = .ok (.i2l, 1) := dk_133 (dk_at dksX8_drawn_0 1 rfl rfl)
theorem dX8_drawn_2 : decode cX8_drawn 2 = .ok (.lconst 0, 1) := dk_9 (dk_at dksX8_drawn_0 2 rfl rfl)
theorem dX8_drawn_3 : decode cX8_drawn 3 = .ok (.ldc2_w 362, 3) := dk_20 1 106 (dk_at dksX8_drawn_0 3 rfl rfl)
theorem dX8_drawn_6 : decode cX8_drawn 6 = .ok (.invokestatic 70, 3) := dk_184 0 70 (dk_at dksX8_drawn_0 6 rfl rfl)
theorem dX8_drawn_9 : decode cX8_drawn 9 = .ok (.ifCond .eq 12, 3) := dk_153 0 12 (dk_at dksX8_drawn_0 9 rfl rfl)
theorem dX8_drawn_12 : decode cX8_drawn 12 = .ok (.aload_n 0, 1) := dk_42 (dk_at dksX8_drawn_0 12 rfl rfl)
theorem dX8_drawn_13 : decode cX8_drawn 13 = .ok (.iload_n 1, 1) := dk_27 (dk_at dksX8_drawn_0 13 rfl rfl)
theorem dX8_drawn_14 : decode cX8_drawn 14 = .ok (.iload_n 2, 1) := dk_28 (dk_at dksX8_drawn_0 14 rfl rfl)
theorem dX8_drawn_15 : decode cX8_drawn 15 = .ok (.invokevirtual 411, 3) := dk_182 1 155 (dk_at dksX8_drawn_0 15 rfl rfl)
theorem dX8_drawn_18 : decode cX8_drawn 18 = .ok (.goto 5, 3) := dk_167 0 5 (dk_at dksX8_drawn_0 18 rfl rfl)
theorem dX8_drawn_21 : decode cX8_drawn 21 = .ok (.bipush (-2), 2) := dk_16 254 (dk_at dksX8_drawn_0 21 rfl rfl)
theorem dX8_drawn_23 : decode cX8_drawn 23 = .ok (.ireturn, 1) := dk_172 (dk_at dksX8_drawn_0 23 rfl rfl)
def dkwX8_allBy_4 : List UInt8 := [182, 1, 118, 21, 4, 172]
abbrev dktX8_allBy_4 : List UInt8 := dkwX8_allBy_4 ++ []
def dkwX8_allBy_3 : List UInt8 := [79, 132, 5, 1, 167, 255, 198, 42, 182, 1, 91, 132, 4, 1, 167, 255, 179, 42, 182, 1, 94, 54, 4, 42]
abbrev dktX8_allBy_3 : List UInt8 := dkwX8_allBy_3 ++ dktX8_allBy_4
def dkwX8_allBy_2 : List UInt8 := [180, 0, 32, 6, 21, 5, 104, 5, 96, 46, 29, 16, 9, 124, 7, 112, 100, 3, 17, 39, 15, 184, 1, 77]
abbrev dktX8_allBy_2 : List UInt8 := dkwX8_allBy_2 ++ dktX8_allBy_3
def dkwX8_allBy_1 : List UInt8 := [162, 0, 55, 29, 19, 1, 154, 104, 17, 48, 57, 96, 62, 42, 180, 0, 32, 6, 21, 5, 104, 5, 96, 42]
abbrev dktX8_allBy_1 : List UInt8 := dkwX8_allBy_1 ++ dktX8_allBy_2
def dkwX8_allBy_0 : List UInt8 := [42, 182, 1, 112, 27, 62, 3, 54, 4, 21, 4, 28, 162, 0, 77, 3, 54, 5, 21, 5, 42, 180, 0, 67]
abbrev dktX8_allBy_0 : List UInt8 := dkwX8_allBy_0 ++ dktX8_allBy_1
theorem dksX8_allBy_0 : cX8_allBy.data.toList.drop 0 = dktX8_allBy_0 := by decide +kernel
theorem dksX8_allBy_1 : cX8_allBy.data.toList.drop 24 = dktX8_allBy_1 := dk_seg dksX8_allBy_0 24 rfl rfl
theorem dksX8_allBy_2 : cX8_allBy.data.toList.drop 48 = dktX8_allBy_2 := dk_seg dksX8_allBy_1 24 rfl rfl
theorem dksX8_allBy_3 : cX8_allBy.data.toList.drop 72 = dktX8_allBy_3 := dk_seg dksX8_allBy_2 24 rfl rfl
theorem dksX8_allBy_4 : cX8_allBy.data.toList.drop 96 = dktX8_allBy_4 := dk_seg dksX8_allBy_3 24 rfl rfl
theorem dX8_allBy_0 : decode cX8_allBy 0 = .ok (.aload_n 0, 1) := dk_42 (dk_at dksX8_allBy_0 0 rfl rfl)
theorem dX8_allBy_1 : decode cX8_allBy 1 = .ok (.invokevirtual 368, 3) := dk_182 1 112 (dk_at dksX8_allBy_0 1 rfl rfl)
theorem dX8_allBy_4 : decode cX8_allBy 4 = .ok (.iload_n 1, 1) := dk_27 (dk_at dksX8_allBy_0 4 rfl rfl)
theorem dX8_allBy_5 : decode cX8_allBy 5 = .ok (.istore_n 3, 1) := dk_62 (dk_at dksX8_allBy_0 5 rfl rfl)
theorem dX8_allBy_6 : decode cX8_allBy 6 = .ok (.iconst 0, 1) := dk_3 (dk_at dksX8_allBy_0 6 rfl rfl)
theorem dX8_allBy_7 : decode cX8_allBy 7 = .ok (.istore 4, 2) := dk_54 4 (dk_at dksX8_allBy_0 7 rfl rfl)
theorem dX8_allBy_9 : decode cX8_allBy 9 = .ok (.iload 4, 2) := dk_21 4 (dk_at dksX8_allBy_0 9 rfl rfl)
theorem dX8_allBy_11 : decode cX8_allBy 11 = .ok (.iload_n 2, 1) := dk_28 (dk_at dksX8_allBy_0 11 rfl rfl)
theorem dX8_allBy_12 : decode cX8_allBy 12 = .ok (.if_icmp .ge 77, 3) := dk_162 0 77 (dk_at dksX8_allBy_0 12 rfl rfl)
theorem dX8_allBy_15 : decode cX8_allBy 15 = .ok (.iconst 0, 1) := dk_3 (dk_at dksX8_allBy_0 15 rfl rfl)
theorem dX8_allBy_16 : decode cX8_allBy 16 = .ok (.istore 5, 2) := dk_54 5 (dk_at dksX8_allBy_0 16 rfl rfl)
theorem dX8_allBy_18 : decode cX8_allBy 18 = .ok (.iload 5, 2) := dk_21 5 (dk_at dksX8_allBy_0 18 rfl rfl)
theorem dX8_allBy_20 : decode cX8_allBy 20 = .ok (.aload_n 0, 1) := dk_42 (dk_at dksX8_allBy_0 20 rfl rfl)
theorem dX8_allBy_21 : decode cX8_allBy 21 = .ok (.getfield 67, 3) := dk_180 0 67 (dk_at dksX8_allBy_0 21 rfl rfl)
theorem dX8_allBy_24 : decode cX8_allBy 24 = .ok (.if_icmp .ge 55, 3) := dk_162 0 55 (dk_at dksX8_allBy_1 0 rfl rfl)
theorem dX8_allBy_27 : decode cX8_allBy 27 = .ok (.iload_n 3, 1) := dk_29 (dk_at dksX8_allBy_1 3 rfl rfl)
theorem dX8_allBy_28 : decode cX8_allBy 28 = .ok (.ldc_w 410, 3) := dk_19 1 154 (dk_at dksX8_allBy_1 4 rfl rfl)
theorem dX8_allBy_31 : decode cX8_allBy 31 = .ok (.imul, 1) := dk_104 (dk_at dksX8_allBy_1 7 rfl rfl)
theorem dX8_allBy_32 : decode cX8_allBy 32 = .ok (.sipush 12345, 3) := dk_17 48 57 (dk_at dksX8_allBy_1 8 rfl rfl)
theorem dX8_allBy_35 : decode cX8_allBy 35 = .ok (.iadd, 1) := dk_96 (dk_at dksX8_allBy_1 11 rfl rfl)
theorem dX8_allBy_36 : decode cX8_allBy 36 = .ok (.istore_n 3, 1) := dk_62 (dk_at dksX8_allBy_1 12 rfl rfl)
theorem dX8_allBy_37 : decode cX8_allBy 37 = .ok (.aload_n 0, 1) := dk_42 (dk_at dksX8_allBy_1 13 rfl rfl)
theorem dX8_allBy_38 : decode cX8_allBy 38 = .ok (.getfield 32, 3) := dk_180 0 32 (dk_at dksX8_allBy_1 14 rfl rfl)
theorem dX8_allBy_41 : decode cX8_allBy 41 = .ok (.iconst 3, 1) := dk_6 (dk_at dksX8_allBy_1 17 rfl rfl)
theorem dX8_allBy_42 : decode cX8_allBy 42 = .ok (.iload 5, 2) := dk_21 5 (dk_at dksX8_allBy_1 18 rfl rfl)
theorem dX8_allBy_44 : decode cX8_allBy 44 = .ok (.imul, 1) := dk_104 (dk_at dksX8_allBy_1 20 rfl rfl)
theorem dX8_allBy_45 : decode cX8_allBy 45 = .ok (.iconst 2, 1) := dk_5 (dk_at dksX8_allBy_1 21 rfl rfl)
theorem dX8_allBy_46 : decode cX8_allBy 46 = .ok (.iadd, 1) := dk_96 (dk_at dksX8_allBy_1 22 rfl rfl)
theorem dX8_allBy_47 : decode cX8_allBy 47 = .ok (.aload_n 0, 1) := dk_42 (dk_at dksX8_allBy_1 23 rfl rfl)
theorem dX8_allBy_48 : decode cX8_allBy 48 = .ok (.getfield 32, 3) := dk_180 0 32 (dk_at dksX8_allBy_2 0 rfl rfl)
theorem dX8_allBy_51 : decode cX8_allBy 51 = .ok (.iconst 3, 1) := dk_6 (dk_at dksX8_allBy_2 3 rfl rfl)
theorem dX8_allBy_52 : decode cX8_allBy 52 = .ok (.iload 5, 2) := dk_21 5 (dk_at dksX8_allBy_2 4 rfl rfl)
theorem dX8_allBy_54 : decode cX8_allBy 54 = .ok (.imul, 1) := dk_104 (dk_at dksX8_allBy_2 6 rfl rfl)
theorem dX8_allBy_55 : decode cX8_allBy 55 = .ok (.iconst 2, 1) := dk_5 (dk_at dksX8_allBy_2 7 rfl rfl)
theorem dX8_allBy_56 : decode cX8_allBy 56 = .ok (.iadd, 1) := dk_96 (dk_at dksX8_allBy_2 8 rfl rfl)
theorem dX8_allBy_57 : decode cX8_allBy 57 = .ok (.iaload, 1) := dk_46 (dk_at dksX8_allBy_2 9 rfl rfl)
theorem dX8_allBy_58 : decode cX8_allBy 58 = .ok (.iload_n 3, 1) := dk_29 (dk_at dksX8_allBy_2 10 rfl rfl)
theorem dX8_allBy_59 : decode cX8_allBy 59 = .ok (.bipush 9, 2) := dk_16 9 (dk_at dksX8_allBy_2 11 rfl rfl)
theorem dX8_allBy_61 : decode cX8_allBy 61 = .ok (.iushr, 1) := dk_124 (dk_at dksX8_allBy_2 13 rfl rfl)
theorem dX8_allBy_62 : decode cX8_allBy 62 = .ok (.iconst 4, 1) := dk_7 (dk_at dksX8_allBy_2 14 rfl rfl)
theorem dX8_allBy_63 : decode cX8_allBy 63 = .ok (.irem, 1) := dk_112 (dk_at dksX8_allBy_2 15 rfl rfl)
theorem dX8_allBy_64 : decode cX8_allBy 64 = .ok (.isub, 1) := dk_100 (dk_at dksX8_allBy_2 16 rfl rfl)
theorem dX8_allBy_65 : decode cX8_allBy 65 = .ok (.iconst 0, 1) := dk_3 (dk_at dksX8_allBy_2 17 rfl rfl)
theorem dX8_allBy_66 : decode cX8_allBy 66 = .ok (.sipush 9999, 3) := dk_17 39 15 (dk_at dksX8_allBy_2 18 rfl rfl)
theorem dX8_allBy_69 : decode cX8_allBy 69 = .ok (.invokestatic 333, 3) := dk_184 1 77 (dk_at dksX8_allBy_2 21 rfl rfl)
theorem dX8_allBy_72 : decode cX8_allBy 72 = .ok (.iastore, 1) := dk_79 (dk_at dksX8_allBy_3 0 rfl rfl)
theorem dX8_allBy_73 : decode cX8_allBy 73 = .ok (.iinc 5 1, 3) := dk_132 5 1 (dk_at dksX8_allBy_3 1 rfl rfl)
theorem dX8_allBy_76 : decode cX8_allBy 76 = .ok (.goto (-58), 3) := dk_167 255 198 (dk_at dksX8_allBy_3 4 rfl rfl)
theorem dX8_allBy_79 : decode cX8_allBy 79 = .ok (.aload_n 0, 1) := dk_42 (dk_at dksX8_allBy_3 7 rfl rfl)
theorem dX8_allBy_80 : decode cX8_allBy 80 = .ok (.invokevirtual 347, 3) := dk_182 1 91 (dk_at dksX8_allBy_3 8 rfl rfl)
theorem dX8_allBy_83 : decode cX8_allBy 83 = .ok (.iinc 4 1, 3) := dk_132 4 1 (dk_at dksX8_allBy_3 11 rfl rfl)
theorem dX8_allBy_86 : decode cX8_allBy 86 = .ok (.goto (-77), 3) := dk_167 255 179 (dk_at dksX8_allBy_3 14 rfl rfl)
theorem dX8_allBy_89 : decode cX8_allBy 89 = .ok (.aload_n 0, 1) := dk_42 (dk_at dksX8_allBy_3 17 rfl rfl)
theorem dX8_allBy_90 : decode cX8_allBy 90 = .ok (.invokevirtual 350, 3) := dk_182 1 94 (dk_at dksX8_allBy_3 18 rfl rfl)
theorem dX8_allBy_93 : decode cX8_allBy 93 = .ok (.istore 4, 2) := dk_54 4 (dk_at dksX8_allBy_3 21 rfl rfl)
theorem dX8_allBy_95 : decode cX8_allBy 95 = .ok (.aload_n 0, 1) := dk_42 (dk_at dksX8_allBy_3 23 rfl rfl)
theorem dX8_allBy_96 : decode cX8_allBy 96 = .ok (.invokevirtual 374, 3) := dk_182 1 118 (dk_at dksX8_allBy_4 0 rfl rfl)
theorem dX8_allBy_99 : decode cX8_allBy 99 = .ok (.iload 4, 2) := dk_21 4 (dk_at dksX8_allBy_4 3 rfl rfl)
theorem dX8_allBy_101 : decode cX8_allBy 101 = .ok (.ireturn, 1) := dk_172 (dk_at dksX8_allBy_4 5 rfl rfl)
def dkwX8_chance_5 : List UInt8 := [173]
abbrev dktX8_chance_5 : List UInt8 := dkwX8_chance_5 ++ []
def dkwX8_chance_4 : List UInt8 := [22, 10, 55, 8, 167, 255, 234, 29, 154, 0, 11, 22, 4, 22, 6, 109, 167, 0, 8, 28, 133, 22, 6, 109]
abbrev dktX8_chance_4 : List UInt8 := dkwX8_chance_4 ++ dktX8_chance_5
def dkwX8_chance_3 : List UInt8 := [55, 6, 28, 133, 55, 8, 22, 8, 9, 148, 153, 0, 21, 22, 6, 22, 8, 113, 55, 10, 22, 8, 55, 6]
abbrev dktX8_chance_3 : List UInt8 := dkwX8_chance_3 ++ dktX8_chance_4
def dkwX8_chance_2 : List UInt8 := [16, 10, 182, 1, 155, 158, 0, 7, 10, 167, 0, 4, 9, 97, 55, 4, 132, 6, 1, 167, 255, 224, 22, 4]
abbrev dktX8_chance_2 : List UInt8 := dkwX8_chance_2 ++ dktX8_chance_3
def dkwX8_chance_1 : List UInt8 := [20, 1, 125, 173, 9, 55, 4, 3, 54, 6, 21, 6, 28, 162, 0, 32, 22, 4, 42, 27, 21, 6, 96]
abbrev dktX8_chance_1 : List UInt8 := dkwX8_chance_1 ++ dktX8_chance_2
