set_option maxRecDepth 100000
def dkwJ0_init_1 : List UInt8 := [182, 0, 27, 87, 177]
abbrev dktJ0_init_1 : List UInt8 := dkwJ0_init_1 ++ []
def dkwJ0_init_0 : List UInt8 := [42, 183, 0, 1, 42, 42, 181, 0, 7, 42, 178, 0, 13, 181, 0, 17, 42, 178, 0, 20, 181, 0, 24, 42]
abbrev dktJ0_init_0 : List UInt8 := dkwJ0_init_0 ++ dktJ0_init_1
theorem dksJ0_init_0 : cJ0_init.data.toList.drop 0 = dktJ0_init_0 := by decide +kernel
theorem dksJ0_init_1 : cJ0_init.data.toList.drop 24 = dktJ0_init_1 := dk_seg dksJ0_init_0 24 rfl rfl
theorem dJ0_init_0 : decode cJ0_init 0 = .ok (.aload_n 0, 1) := dk_42 (dk_at dksJ0_init_0 0 rfl rfl)
theorem dJ0_init_1 : decode cJ0_init 1 = .ok (.invokespecial 1, 3) := dk_183 0 1 (dk_at dksJ0_init_0 1 rfl rfl)
theorem dJ0_init_4 : decode cJ0_init 4 = .ok (.aload_n 0, 1) := dk_42 (dk_at dksJ0_init_0 4 rfl rfl)
theorem dJ0_init_5 : decode cJ0_init 5 = .ok (.aload_n 0, 1) := dk_42 (dk_at dksJ0_init_0 5 rfl rfl)
theorem dJ0_init_6 : decode cJ0_init 6 = .ok (.putfield 7, 3) := dk_181 0 7 (dk_at dksJ0_init_0 6 rfl rfl)
theorem dJ0_init_9 : decode cJ0_init 9 = .ok (.aload_n 0, 1) := dk_42 (dk_at dksJ0_init_0 9 rfl rfl)
theorem dJ0_init_10 : decode cJ0_init 10 = .ok (.getstatic 13, 3) := dk_178 0 13 (dk_at dksJ0_init_0 10 rfl rfl)
theorem dJ0_init_13 : decode cJ0_init 13 = .ok (.putfield 17, 3) := dk_181 0 17 (dk_at dksJ0_init_0 13 rfl rfl)
theorem dJ0_init_16 : decode cJ0_init 16 = .ok (.aload_n 0, 1) := dk_42 (dk_at dksJ0_init_0 16 rfl rfl)
theorem dJ0_init_17 : decode cJ0_init 17 = .ok (.getstatic 20, 3) := dk_178 0 20 (dk_at dksJ0_init_0 17 rfl rfl)
theorem dJ0_init_20 : decode cJ0_init 20 = .ok (.putfield 24, 3) := dk_181 0 24 (dk_at dksJ0_init_0 20 rfl rfl)
theorem dJ0_init_23 : decode cJ0_init 23 = .ok (.aload_n 0, 1) := dk_42 (dk_at dksJ0_init_0 23 rfl rfl)
theorem dJ0_init_24 : decode cJ0_init 24 = .ok (.invokevirtual 27, 3) := dk_182 0 27 (dk_at dksJ0_init_1 0 rfl rfl)
theorem dJ0_init_27 : decode cJ0_init 27 = .ok (.pop, 1) := dk_87 (dk_at dksJ0_init_1 3 rfl rfl)
theorem dJ0_init_28 : decode cJ0_init 28 = .ok (.return_, 1) := dk_177 (dk_at dksJ0_init_1 4 rfl rfl)
def dkwJ0_init_2_2 : List UInt8 := [44, 181, 0, 7, 29, 154, 0, 8, 42, 1, 181, 0, 24, 177]
abbrev dktJ0_init_2_2 : List UInt8 := dkwJ0_init_2_2 ++ []
def dkwJ0_init_2_1 : List UInt8 := [21, 4, 153, 0, 11, 42, 182, 0, 27, 87, 167, 0, 8, 42, 1, 181, 0, 17, 42, 43, 181, 0, 31, 42]
abbrev dktJ0_init_2_1 : List UInt8 := dkwJ0_init_2_1 ++ dktJ0_init_2_2
def dkwJ0_init_2_0 : List UInt8 := [42, 183, 0, 1, 42, 42, 181, 0, 7, 42, 178, 0, 13, 181, 0, 17, 42, 178, 0, 20, 181, 0, 24]
abbrev dktJ0_init_2_0 : List UInt8 := dkwJ0_init_2_0 ++ dktJ0_init_2_1
theorem dksJ0_init_2_0 : cJ0_init_2.data.toList.drop 0 = dktJ0_init_2_0 := by decide +kernel
theorem dksJ0_init_2_1 : cJ0_init_2.data.toList.drop 23 = dktJ0_init_2_1 := dk_seg dksJ0_init_2_0 23 rfl rfl
theorem dksJ0_init_2_2 : cJ0_init_2.data.toList.drop 47 = dktJ0_init_2_2 := dk_seg dksJ0_init_2_1 24 rfl rfl
theorem dJ0_init_2_0 : decode cJ0_init_2 0 = .ok (.aload_n 0, 1) := dk_42 (dk_at dksJ0_init_2_0 0 rfl rfl)
theorem dJ0_init_2_1 : decode cJ0_init_2 1 = .ok (.invokespecial 1, 3) := dk_183 0 1 (dk_at dksJ0_init_2_0 1 rfl rfl)
theorem dJ0_init_2_4 : decode cJ0_init_2 4 = .ok (.aload_n 0, 1) := dk_42 (dk_at dksJ0_init_2_0 4 rfl rfl)
theorem dJ0_init_2_5 : decode cJ0_init_2 5 = .ok (.aload_n 0, 1) := dk_42 (dk_at dksJ0_init_2_0 5 rfl rfl)
theorem dJ0_init_2_6 : decode cJ0_init_2 6 = .ok (.putfield 7, 3) := dk_181 0 7 (dk_at dksJ0_init_2_0 6 rfl rfl)
theorem dJ0_init_2_9 : decode cJ0_init_2 9 = .ok (.aload_n 0, 1) := dk_42 (dk_at dksJ0_init_2_0 9 rfl rfl)
theorem dJ0_init_2_10 : decode cJ0_init_2 10 = .ok (.getstatic 13, 3) := dk_178 0 13 (dk_at dksJ0_init_2_0 10 rfl rfl)
theorem dJ0_init_2_13 : decode cJ0_init_2 13 = .ok (.putfield 17, 3) := dk_181 0 17 (dk_at dksJ0_init_2_0 13 rfl rfl)
theorem dJ0_init_2_16 : decode cJ0_init_2 16 = .ok (.aload_n 0, 1) := dk_42 (dk_at dksJ0_init_2_0 16 rfl rfl)
theorem dJ0_init_2_17 : decode cJ0_init_2 17 = .ok (.getstatic 20, 3) := dk_178 0 20 (dk_at dksJ0_init_2_0 17 rfl rfl)
theorem dJ0_init_2_20 : decode cJ0_init_2 20 = .ok (.putfield 24, 3) := dk_181 0 24 (dk_at dksJ0_init_2_0 20 rfl rfl)
theorem dJ0_init_2_23 : decode cJ0_init_2 23 = .ok (.iload 4, 2) := dk_21 4 (dk_at dksJ0_init_2_1 0 rfl rfl)
theorem dJ0_init_2_25 : decode cJ0_init_2 25 = .ok (.ifCond .eq 11, 3) := dk_153 0 11 (dk_at dksJ0_init_2_1 2 rfl rfl)
theorem dJ0_init_2_28 : decode cJ0_init_2 28 = .ok (.aload_n 0, 1) := dk_42 (dk_at dksJ0_init_2_1 5 rfl rfl)
theorem dJ0_init_2_29 : decode cJ0_init_2 29 = .ok (.invokevirtual 27, 3) := dk_182 0 27 (dk_at dksJ0_init_2_1 6 rfl rfl)
theorem dJ0_init_2_32 : decode cJ0_init_2 32 = .ok (.pop, 1) := dk_87 (dk_at dksJ0_init_2_1 9 rfl rfl)
theorem dJ0_init_2_33 : decode cJ0_init_2 33 = .ok (.goto 8, 3) := dk_167 0 8 (dk_at dksJ0_init_2_1 10 rfl rfl)
theorem dJ0_init_2_36 : decode cJ0_init_2 36 = .ok (.aload_n 0, 1) := dk_42 (dk_at dksJ0_init_2_1 13 rfl rfl)
theorem dJ0_init_2_37 : decode cJ0_init_2 37 = .ok (.aconst_null, 1) := dk_1 (dk_at dksJ0_init_2_1 14 rfl rfl)
theorem dJ0_init_2_38 : decode cJ0_init_2 38 = .ok (.putfield 17, 3) := dk_181 0 17 (dk_at dksJ0_init_2_1 15 rfl rfl)
theorem dJ0_init_2_41 : decode cJ0_init_2 41 = .ok (.aload_n 0, 1) := dk_42 (dk_at dksJ0_init_2_1 18 rfl rfl)
theorem dJ0_init_2_42 : decode cJ0_init_2 42 = .ok (.aload_n 1, 1) := dk_43 (dk_at dksJ0_init_2_1 19 rfl rfl)
theorem dJ0_init_2_43 : decode cJ0_init_2 43 = .ok (.putfield 31, 3) := dk_181 0 31 (dk_at dksJ0_init_2_1 20 rfl rfl)
theorem dJ0_init_2_46 : decode cJ0_init_2 46 = .ok (.aload_n 0, 1) := dk_42 (dk_at dksJ0_init_2_1 23 rfl rfl)
theorem dJ0_init_2_47 : decode cJ0_init_2 47 = .ok (.aload_n 2, 1) := dk_44 (dk_at dksJ0_init_2_2 0 rfl rfl)
theorem dJ0_init_2_48 : decode cJ0_init_2 48 = .ok (.putfield 7, 3) := dk_181 0 7 (dk_at dksJ0_init_2_2 1 rfl rfl)
theorem dJ0_init_2_51 : decode cJ0_init_2 51 = .ok (.iload_n 3, 1) := dk_29 (dk_at dksJ0_init_2_2 4 rfl rfl)
theorem dJ0_init_2_52 : decode cJ0_init_2 52 = .ok (.ifCond .ne 8, 3) := dk_154 0 8 (dk_at dksJ0_init_2_2 5 rfl rfl)
theorem dJ0_init_2_55 : decode cJ0_init_2 55 = .ok (.aload_n 0, 1) := dk_42 (dk_at dksJ0_init_2_2 8 rfl rfl)
theorem dJ0_init_2_56 : decode cJ0_init_2 56 = .ok (.aconst_null, 1) := dk_1 (dk_at dksJ0_init_2_2 9 rfl rfl)
theorem dJ0_init_2_57 : decode cJ0_init_2 57 = .ok (.putfield 24, 3) := dk_181 0 24 (dk_at dksJ0_init_2_2 10 rfl rfl)
theorem dJ0_init_2_60 : decode cJ0_init_2 60 = .ok (.return_, 1) := dk_177 (dk_at dksJ0_init_2_2 13 rfl rfl)
def dkwJ0_init_3_1 : List UInt8 := [182, 0, 27, 87, 42, 43, 181, 0, 31, 177]
abbrev dktJ0_init_3_1 : List UInt8 := dkwJ0_init_3_1 ++ []
def dkwJ0_init_3_0 : List UInt8 := [42, 183, 0, 1, 42, 42, 181, 0, 7, 42, 178, 0, 13, 181, 0, 17, 42, 178, 0, 20, 181, 0, 24, 42]
abbrev dktJ0_init_3_0 : List UInt8 := dkwJ0_init_3_0 ++ dktJ0_init_3_1
theorem dksJ0_init_3_0 : cJ0_init_3.data.toList.drop 0 = dktJ0_init_3_0 := by decide +kernel
theorem dksJ0_init_3_1 : cJ0_init_3.data.toList.drop 24 = dktJ0_init_3_1 := dk_seg dksJ0_init_3_0 24 rfl rfl
theorem dJ0_init_3_0 : decode cJ0_init_3 0 = .ok (.aload_n 0, 1) := dk_42 (dk_at dksJ0_init_3_0 0 rfl rfl)
theorem dJ0_init_3_1 : decode cJ0_init_3 1 = .ok (.invokespecial 1, 3) := dk_183 0 1 (dk_at dksJ0_init_3_0 1 rfl rfl)
theorem dJ0_init_3_4 : decode cJ0_init_3 4 = .ok (.aload_n 0, 1) := dk_42 (dk_at dksJ0_init_3_0 4 rfl rfl)
theorem dJ0_init_3_5 : decode cJ0_init_3 5 = .ok (.aload_n 0, 1) := dk_42 (dk_at dksJ0_init_3_0 5 rfl rfl)
theorem dJ0_init_3_6 : decode cJ0_init_3 6 = .ok (.putfield 7, 3) := dk_181 0 7 (dk_at dksJ0_init_3_0 6 rfl rfl)
theorem dJ0_init_3_9 : decode cJ0_init_3 9 = .ok (.aload_n 0, 1) := dk_42 (dk_at dksJ0_init_3_0 9 rfl rfl)
theorem dJ0_init_3_10 : decode cJ0_init_3 10 = .ok (.getstatic 13, 3) := dk_178 0 13 (dk_at dksJ0_init_3_0 10 rfl rfl)
theorem dJ0_init_3_13 : decode cJ0_init_3 13 = .ok (.putfield 17, 3) := dk_181 0 17 (dk_at dksJ0_init_3_0 13 rfl rfl)
theorem dJ0_init_3_16 : decode cJ0_init_3 16 = .ok (.aload_n 0, 1) := dk_42 (dk_at dksJ0_init_3_0 16 rfl rfl)
theorem dJ0_init_3_17 : decode cJ0_init_3 17 = .ok (.getstatic 20, 3) := dk_178 0 20 (dk_at dksJ0_init_3_0 17 rfl rfl)
theorem dJ0_init_3_20 : decode cJ0_init_3 20 = .ok (.putfield 24, 3) := dk_181 0 24 (dk_at dksJ0_init_3_0 20 rfl rfl)
theorem dJ0_init_3_23 : decode cJ0_init_3 23 = .ok (.aload_n 0, 1) := dk_42 (dk_at dksJ0_init_3_0 23 rfl rfl)
theorem dJ0_init_3_24 : decode cJ0_init_3 24 = .ok (.invokevirtual 27, 3) := dk_182 0 27 (dk_at dksJ0_init_3_1 0 rfl rfl)
theorem dJ0_init_3_27 : decode cJ0_init_3 27 = .ok (.pop, 1) := dk_87 (dk_at dksJ0_init_3_1 3 rfl rfl)
theorem dJ0_init_3_28 : decode cJ0_init_3 28 = .ok (.aload_n 0, 1) := dk_42 (dk_at dksJ0_init_3_1 4 rfl rfl)
theorem dJ0_init_3_29 : decode cJ0_init_3 29 = .ok (.aload_n 1, 1) := dk_43 (dk_at dksJ0_init_3_1 5 rfl rfl)
theorem dJ0_init_3_30 : decode cJ0_init_3 30 = .ok (.putfield 31, 3) := dk_181 0 31 (dk_at dksJ0_init_3_1 6 rfl rfl)
theorem dJ0_init_3_33 : decode cJ0_init_3 33 = .ok (.return_, 1) := dk_177 (dk_at dksJ0_init_3_1 9 rfl rfl)
def dkwJ1_init_0 : List UInt8 := [42, 43, 44, 29, 21, 4, 183, 0, 16, 177]
abbrev dktJ1_init_0 : List UInt8 := dkwJ1_init_0 ++ []
theorem dksJ1_init_0 : cJ1_init.data.toList.drop 0 = dktJ1_init_0 := by decide +kernel
theorem dJ1_init_0 : decode cJ1_init 0 = .ok (.aload_n 0, 1) := dk_42 (dk_at dksJ1_init_0 0 rfl rfl)
theorem dJ1_init_1 : decode cJ1_init 1 = .ok (.aload_n 1, 1) := dk_43 (dk_at dksJ1_init_0 1 rfl rfl)
theorem dJ1_init_2 : decode cJ1_init 2 = .ok (.aload_n 2, 1) := dk_44 (dk_at dksJ1_init_0 2 rfl rfl)
theorem dJ1_init_3 : decode cJ1_init 3 = .ok (.iload_n 3, 1) := dk_29 (dk_at dksJ1_init_0 3 rfl rfl)
theorem dJ1_init_4 : decode cJ1_init 4 = .ok (.iload 4, 2) := dk_21 4 (dk_at dksJ1_init_0 4 rfl rfl)
theorem dJ1_init_6 : decode cJ1_init 6 = .ok (.invokespecial 16, 3) := dk_183 0 16 (dk_at dksJ1_init_0 6 rfl rfl)
theorem dJ1_init_9 : decode cJ1_init 9 = .ok (.return_, 1) := dk_177 (dk_at dksJ1_init_0 9 rfl rfl)
theorem dJ1_init_2_0 : decode cJ1_init_2 0 = .ok (.aload_n 0, 1) := by decide +kernel
theorem dJ1_init_2_1 : decode cJ1_init_2 1 = .ok (.invokespecial 1, 3) := by decide +kernel
theorem dJ1_init_2_4 : decode cJ1_init_2 4 = .ok (.return_, 1) := by decide +kernel
def dkwJ1_init_3_0 : List UInt8 := [42, 43, 183, 0, 7, 177]
abbrev dktJ1_init_3_0 : List UInt8 := dkwJ1_init_3_0 ++ []
theorem dksJ1_init_3_0 : cJ1_init_3.data.toList.drop 0 = dktJ1_init_3_0 := by decide +kernel
theorem dJ1_init_3_0 : decode cJ1_init_3 0 = .ok (.aload_n 0, 1) := dk_42 (dk_at dksJ1_init_3_0 0 rfl rfl)
theorem dJ1_init_3_1 : decode cJ1_init_3 1 = .ok (.aload_n 1, 1) := dk_43 (dk_at dksJ1_init_3_0 1 rfl rfl)
theorem dJ1_init_3_2 : decode cJ1_init_3 2 = .ok (.invokespecial 7, 3) := dk_183 0 7 (dk_at dksJ1_init_3_0 2 rfl rfl)
theorem dJ1_init_3_5 : decode cJ1_init_3 5 = .ok (.return_, 1) := dk_177 (dk_at dksJ1_init_3_0 5 rfl rfl)
def dkwJ2_init_0 : List UInt8 := [42, 43, 44, 29, 21, 4, 183, 0, 16, 177]
abbrev dktJ2_init_0 : List UInt8 := dkwJ2_init_0 ++ []
theorem dksJ2_init_0 : cJ2_init.data.toList.drop 0 = dktJ2_init_0 := by decide +kernel
theorem dJ2_init_0 : decode cJ2_init 0 = .ok (.aload_n 0, 1) := dk_42 (dk_at dksJ2_init_0 0 rfl rfl)
theorem dJ2_init_1 : decode cJ2_init 1 = .ok (.aload_n 1, 1) := dk_43 (dk_at dksJ2_init_0 1 rfl rfl)
theorem dJ2_init_2 : decode cJ2_init 2 = .ok (.aload_n 2, 1) := dk_44 (dk_at dksJ2_init_0 2 rfl rfl)
theorem dJ2_init_3 : decode cJ2_init 3 = .ok (.iload_n 3, 1) := dk_29 (dk_at dksJ2_init_0 3 rfl rfl)
theorem dJ2_init_4 : decode cJ2_init 4 = .ok (.iload 4, 2) := dk_21 4 (dk_at dksJ2_init_0 4 rfl rfl)
theorem dJ2_init_6 : decode cJ2_init 6 = .ok (.invokespecial 16, 3) := dk_183 0 16 (dk_at dksJ2_init_0 6 rfl rfl)
theorem dJ2_init_9 : decode cJ2_init 9 = .ok (.return_, 1) := dk_177 (dk_at dksJ2_init_0 9 rfl rfl)
theorem dJ2_init_2_0 : decode cJ2_init_2 0 = .ok (.aload_n 0, 1) := by decide +kernel
theorem dJ2_init_2_1 : decode cJ2_init_2 1 = .ok (.invokespecial 1, 3) := by decide +kernel
theorem dJ2_init_2_4 : decode cJ2_init_2 4 = .ok (.return_, 1) := by decide +kernel
def dkwJ2_init_3_0 : List UInt8 := [42, 43, 183, 0, 7, 177]
abbrev dktJ2_init_3_0 : List UInt8 := dkwJ2_init_3_0 ++ []
theorem dksJ2_init_3_0 : cJ2_init_3.data.toList.drop 0 = dktJ2_init_3_0 := by decide +kernel
theorem dJ2_init_3_0 : decode cJ2_init_3 0 = .ok (.aload_n 0, 1) := dk_42 (dk_at dksJ2_init_3_0 0 rfl rfl)
theorem dJ2_init_3_1 : decode cJ2_init_3 1 = .ok (.aload_n 1, 1) := dk_43 (dk_at dksJ2_init_3_0 1 rfl rfl)
theorem dJ2_init_3_2 : decode cJ2_init_3 2 = .ok (.invokespecial 7, 3) := dk_183 0 7 (dk_at dksJ2_init_3_0 2 rfl rfl)
theorem dJ2_init_3_5 : decode cJ2_init_3 5 = .ok (.return_, 1) := dk_177 (dk_at dksJ2_init_3_0 5 rfl rfl)
def dkwJ3_length_0 : List UInt8 := [42, 180, 0, 9, 190, 42, 182, 1, 79, 122, 172]
abbrev dktJ3_length_0 : List UInt8 := dkwJ3_length_0 ++ []
theorem dksJ3_length_0 : cJ3_length.data.toList.drop 0 = dktJ3_length_0 := by decide +kernel
theorem dJ3_length_0 : decode cJ3_length 0 = .ok (.aload_n 0, 1) := dk_42 (dk_at dksJ3_length_0 0 rfl rfl)
theorem dJ3_length_1 : decode cJ3_length 1 = .ok (.getfield 9, 3) := dk_180 0 9 (dk_at dksJ3_length_0 1 rfl rfl)
theorem dJ3_length_4 : decode cJ3_length 4 = .ok (.arraylength, 1) := dk_190 (dk_at dksJ3_length_0 4 rfl rfl)
theorem dJ3_length_5 : decode cJ3_length 5 = .ok (.aload_n 0, 1) := dk_42 (dk_at dksJ3_length_0 5 rfl rfl)
theorem dJ3_length_6 : decode cJ3_length 6 = .ok (.invokevirtual 335, 3) := dk_182 1 79 (dk_at dksJ3_length_0 6 rfl rfl)
theorem dJ3_length_9 : decode cJ3_length 9 = .ok (.ishr, 1) := dk_122 (dk_at dksJ3_length_0 9 rfl rfl)
theorem dJ3_length_10 : decode cJ3_length 10 = .ok (.ireturn, 1) := dk_172 (dk_at dksJ3_length_0 10 rfl rfl)
def dkwJ3_coder_0 : List UInt8 := [178, 0, 38, 153, 0, 10, 42, 180, 0, 15, 167, 0, 4, 4, 172]
abbrev dktJ3_coder_0 : List UInt8 := dkwJ3_coder_0 ++ []
theorem dksJ3_coder_0 : cJ3_coder.data.toList.drop 0 = dktJ3_coder_0 := by decide +kernel
theorem dJ3_coder_0 : decode cJ3_coder 0 = .ok (.getstatic 38, 3) := dk_178 0 38 (dk_at dksJ3_coder_0 0 rfl rfl)
theorem dJ3_coder_3 : decode cJ3_coder 3 = .ok (.ifCond .eq 10, 3) := dk_153 0 10 (dk_at dksJ3_coder_0 3 rfl rfl)
theorem dJ3_coder_6 : decode cJ3_coder 6 = .ok (.aload_n 0, 1) := dk_42 (dk_at dksJ3_coder_0 6 rfl rfl)
theorem dJ3_coder_7 : decode cJ3_coder 7 = .ok (.getfield 15, 3) := dk_180 0 15 (dk_at dksJ3_coder_0 7 rfl rfl)
theorem dJ3_coder_10 : decode cJ3_coder 10 = .ok (.goto 4, 3) := dk_167 0 4 (dk_at dksJ3_coder_0 10 rfl rfl)
theorem dJ3_coder_13 : decode cJ3_coder 13 = .ok (.iconst 1, 1) := dk_4 (dk_at dksJ3_coder_0 13 rfl rfl)
theorem dJ3_coder_14 : decode cJ3_coder 14 = .ok (.ireturn, 1) := dk_172 (dk_at dksJ3_coder_0 14 rfl rfl)
def dkwJ3_charAt_1 : List UInt8 := [172]
abbrev dktJ3_charAt_1 : List UInt8 := dkwJ3_charAt_1 ++ []
def dkwJ3_charAt_0 : List UInt8 := [42, 182, 1, 236, 153, 0, 12, 42, 180, 0, 9, 27, 184, 1, 239, 172, 42, 180, 0, 9, 27, 184, 1, 242]
abbrev dktJ3_charAt_0 : List UInt8 := dkwJ3_charAt_0 ++ dktJ3_charAt_1
theorem dksJ3_charAt_0 : cJ3_charAt.data.toList.drop 0 = dktJ3_charAt_0 := by decide +kernel
theorem dksJ3_charAt_1 : cJ3_charAt.data.toList.drop 24 = dktJ3_charAt_1 := dk_seg dksJ3_charAt_0 24 rfl rfl
theorem dJ3_charAt_0 : decode cJ3_charAt 0 = .ok (.aload_n 0, 1) := dk_42 (dk_at dksJ3_charAt_0 0 rfl rfl)
theorem dJ3_charAt_1 : decode cJ3_charAt 1 = .ok (.invokevirtual 492, 3) := dk_182 1 236 (dk_at dksJ3_charAt_0 1 rfl rfl)
theorem dJ3_charAt_4 : decode cJ3_charAt 4 = .ok (.ifCond .eq 12, 3) := dk_153 0 12 (dk_at dksJ3_charAt_0 4 rfl rfl)
theorem dJ3_charAt_7 : decode cJ3_charAt 7 = .ok (.aload_n 0, 1) := dk_42 (dk_at dksJ3_charAt_0 7 rfl rfl)
theorem dJ3_charAt_8 : decode cJ3_charAt 8 = .ok (.getfield 9, 3) := dk_180 0 9 (dk_at dksJ3_charAt_0 8 rfl rfl)
theorem dJ3_charAt_11 : decode cJ3_charAt 11 = .ok (.iload_n 1, 1) := dk_27 (dk_at dksJ3_charAt_0 11 rfl rfl)
theorem dJ3_charAt_12 : decode cJ3_charAt 12 = .ok (.invokestatic 495, 3) := dk_184 1 239 (dk_at dksJ3_charAt_0 12 rfl rfl)
theorem dJ3_charAt_15 : decode cJ3_charAt 15 = .ok (.ireturn, 1) := dk_172 (dk_at dksJ3_charAt_0 15 rfl rfl)
theorem dJ3_charAt_16 : decode cJ3_charAt 16 = .ok (.aload_n 0, 1) := dk_42 (dk_at dksJ3_charAt_0 16 rfl rfl)
theorem dJ3_charAt_17 : decode cJ3_charAt 17 = .ok (.getfield 9, 3) := dk_180 0 9 (dk_at dksJ3_charAt_0 17 rfl rfl)
theorem dJ3_charAt_20 : decode cJ3_charAt 20 = .ok (.iload_n 1, 1) := dk_27 (dk_at dksJ3_charAt_0 20 rfl rfl)
theorem dJ3_charAt_21 : decode cJ3_charAt 21 = .ok (.invokestatic 498, 3) := dk_184 1 242 (dk_at dksJ3_charAt_0 21 rfl rfl)
theorem dJ3_charAt_24 : decode cJ3_charAt 24 = .ok (.ireturn, 1) := dk_172 (dk_at dksJ3_charAt_1 0 rfl rfl)
def dkwJ3_isLatin1_0 : List UInt8 := [178, 0, 38, 153, 0, 14, 42, 180, 0, 15, 154, 0, 7, 4, 167, 0, 4, 3, 172]
abbrev dktJ3_isLatin1_0 : List UInt8 := dkwJ3_isLatin1_0 ++ []
theorem dksJ3_isLatin1_0 : cJ3_isLatin1.data.toList.drop 0 = dktJ3_isLatin1_0 := by decide +kernel
theorem dJ3_isLatin1_0 : decode cJ3_isLatin1 0 = .ok (.getstatic 38, 3) := dk_178 0 38 (dk_at dksJ3_isLatin1_0 0 rfl rfl)
theorem dJ3_isLatin1_3 : decode cJ3_isLatin1 3 = .ok (.ifCond .eq 14, 3) := dk_153 0 14 (dk_at dksJ3_isLatin1_0 3 rfl rfl)
theorem dJ3_isLatin1_6 : decode cJ3_isLatin1 6 = .ok (.aload_n 0, 1) := dk_42 (dk_at dksJ3_isLatin1_0 6 rfl rfl)
theorem dJ3_isLatin1_7 : decode cJ3_isLatin1 7 = .ok (.getfield 15, 3) := dk_180 0 15 (dk_at dksJ3_isLatin1_0 7 rfl rfl)
theorem dJ3_isLatin1_10 : decode cJ3_isLatin1 10 = .ok (.ifCond .ne 7, 3) := dk_154 0 7 (dk_at dksJ3_isLatin1_0 10 rfl rfl)
theorem dJ3_isLatin1_13 : decode cJ3_isLatin1 13 = .ok (.iconst 1, 1) := dk_4 (dk_at dksJ3_isLatin1_0 13 rfl rfl)
theorem dJ3_isLatin1_14 : decode cJ3_isLatin1 14 = .ok (.goto 4, 3) := dk_167 0 4 (dk_at dksJ3_isLatin1_0 14 rfl rfl)
theorem dJ3_isLatin1_17 : decode cJ3_isLatin1 17 = .ok (.iconst 0, 1) := dk_3 (dk_at dksJ3_isLatin1_0 17 rfl rfl)
theorem dJ3_isLatin1_18 : decode cJ3_isLatin1 18 = .ok (.ireturn, 1) := dk_172 (dk_at dksJ3_isLatin1_0 18 rfl rfl)
def dkwJ3_checkIndex_0 : List UInt8 := [26, 27, 178, 4, 29, 184, 4, 35, 87, 177]
abbrev dktJ3_checkIndex_0 : List UInt8 := dkwJ3_checkIndex_0 ++ []
theorem dksJ3_checkIndex_0 : cJ3_checkIndex.data.toList.drop 0 = dktJ3_checkIndex_0 := by decide +kernel
theorem dJ3_checkIndex_0 : decode cJ3_checkIndex 0 = .ok (.iload_n 0, 1) := dk_26 (dk_at dksJ3_checkIndex_0 0 rfl rfl)
theorem dJ3_checkIndex_1 : decode cJ3_checkIndex 1 = .ok (.iload_n 1, 1) := dk_27 (dk_at dksJ3_checkIndex_0 1 rfl rfl)
theorem dJ3_checkIndex_2 : decode cJ3_checkIndex 2 = .ok (.getstatic 1053, 3) := dk_178 4 29 (dk_at dksJ3_checkIndex_0 2 rfl rfl)
theorem dJ3_checkIndex_5 : decode cJ3_checkIndex 5 = .ok (.invokestatic 1059, 3) := dk_184 4 35 (dk_at dksJ3_checkIndex_0 5 rfl rfl)
theorem dJ3_checkIndex_8 : decode cJ3_checkIndex 8 = .ok (.pop, 1) := dk_87 (dk_at dksJ3_checkIndex_0 8 rfl rfl)
theorem dJ3_checkIndex_9 : decode cJ3_checkIndex 9 = .ok (.return_, 1) := dk_177 (dk_at dksJ3_checkIndex_0 9 rfl rfl)
def dkwJ3_indexOf_0 : List UInt8 := [42, 27, 3, 182, 2, 121, 172]
abbrev dktJ3_indexOf_0 : List UInt8 := dkwJ3_indexOf_0 ++ []
theorem dksJ3_indexOf_0 : cJ3_indexOf.data.toList.drop 0 = dktJ3_indexOf_0 := by decide +kernel
theorem dJ3_indexOf_0 : decode cJ3_indexOf 0 = .ok (.aload_n 0, 1) := dk_42 (dk_at dksJ3_indexOf_0 0 rfl rfl)
theorem dJ3_indexOf_1 : decode cJ3_indexOf 1 = .ok (.iload_n 1, 1) := dk_27 (dk_at dksJ3_indexOf_0 1 rfl rfl)
theorem dJ3_indexOf_2 : decode cJ3_indexOf 2 = .ok (.iconst 0, 1) := dk_3 (dk_at dksJ3_indexOf_0 2 rfl rfl)
theorem dJ3_indexOf_3 : decode cJ3_indexOf 3 = .ok (.invokevirtual 633, 3) := dk_182 2 121 (dk_at dksJ3_indexOf_0 3 rfl rfl)
theorem dJ3_indexOf_6 : decode cJ3_indexOf 6 = .ok (.ireturn, 1) := dk_172 (dk_at dksJ3_indexOf_0 6 rfl rfl)
def dkwJ3_indexOf_2_1 : List UInt8 := [180, 0, 9, 27, 28, 42, 182, 1, 249, 184, 2, 128, 172]
abbrev dktJ3_indexOf_2_1 : List UInt8 := dkwJ3_indexOf_2_1 ++ []
def dkwJ3_indexOf_2_0 : List UInt8 := [42, 182, 1, 236, 153, 0, 19, 42, 180, 0, 9, 27, 28, 42, 182, 1, 249, 184, 2, 125, 167, 0, 16, 42]
abbrev dktJ3_indexOf_2_0 : List UInt8 := dkwJ3_indexOf_2_0 ++ dktJ3_indexOf_2_1
theorem dksJ3_indexOf_2_0 : cJ3_indexOf_2.data.toList.drop 0 = dktJ3_indexOf_2_0 := by decide +kernel
theorem dksJ3_indexOf_2_1 : cJ3_indexOf_2.data.toList.drop 24 = dktJ3_indexOf_2_1 := dk_seg dksJ3_indexOf_2_0 24 rfl rfl
theorem dJ3_indexOf_2_0 : decode cJ3_indexOf_2 0 = .ok (.aload_n 0, 1) := dk_42 (dk_at dksJ3_indexOf_2_0 0 rfl rfl)
theorem dJ3_indexOf_2_1 : decode cJ3_indexOf_2 1 = .ok (.invokevirtual 492, 3) := dk_182 1 236 (dk_at dksJ3_indexOf_2_0 1 rfl rfl)
theorem dJ3_indexOf_2_4 : decode cJ3_indexOf_2 4 = .ok (.ifCond .eq 19, 3) := dk_153 0 19 (dk_at dksJ3_indexOf_2_0 4 rfl rfl)
theorem dJ3_indexOf_2_7 : decode cJ3_indexOf_2 7 = .ok (.aload_n 0, 1) := dk_42 (dk_at dksJ3_indexOf_2_0 7 rfl rfl)
theorem dJ3_indexOf_2_8 : decode cJ3_indexOf_2 8 = .ok (.getfield 9, 3) := dk_180 0 9 (dk_at dksJ3_indexOf_2_0 8 rfl rfl)
theorem dJ3_indexOf_2_11 : decode cJ3_indexOf_2 11 = .ok (.iload_n 1, 1) := dk_27 (dk_at dksJ3_indexOf_2_0 11 rfl rfl)
theorem dJ3_indexOf_2_12 : decode cJ3_indexOf_2 12 = .ok (.iload_n 2, 1) := dk_28 (dk_at dksJ3_indexOf_2_0 12 rfl rfl)
theorem dJ3_indexOf_2_13 : decode cJ3_indexOf_2 13 = .ok (.aload_n 0, 1) := dk_42 (dk_at dksJ3_indexOf_2_0 13 rfl rfl)
theorem dJ3_indexOf_2_14 : decode cJ3_indexOf_2 14 = .ok (.invokevirtual 505, 3) := dk_182 1 249 (dk_at dksJ3_indexOf_2_0 14 rfl rfl)
theorem dJ3_indexOf_2_17 : decode cJ3_indexOf_2 17 = .ok (.invokestatic 637, 3) := dk_184 2 125 (dk_at dksJ3_indexOf_2_0 17 rfl rfl)
theorem dJ3_indexOf_2_20 : decode cJ3_indexOf_2 20 = .ok (.goto 16, 3) := dk_167 0 16 (dk_at dksJ3_indexOf_2_0 20 rfl rfl)
theorem dJ3_indexOf_2_23 : decode cJ3_indexOf_2 23 = .ok (.aload_n 0, 1) := dk_42 (dk_at dksJ3_indexOf_2_0 23 rfl rfl)
theorem dJ3_indexOf_2_24 : decode cJ3_indexOf_2 24 = .ok (.getfield 9, 3) := dk_180 0 9 (dk_at dksJ3_indexOf_2_1 0 rfl rfl)
theorem dJ3_indexOf_2_27 : decode cJ3_indexOf_2 27 = .ok (.iload_n 1, 1) := dk_27 (dk_at dksJ3_indexOf_2_1 3 rfl rfl)
theorem dJ3_indexOf_2_28 : decode cJ3_indexOf_2 28 = .ok (.iload_n 2, 1) := dk_28 (dk_at dksJ3_indexOf_2_1 4 rfl rfl)
theorem dJ3_indexOf_2_29 : decode cJ3_indexOf_2 29 = .ok (.aload_n 0, 1) := dk_42 (dk_at dksJ3_indexOf_2_1 5 rfl rfl)
theorem dJ3_indexOf_2_30 : decode cJ3_indexOf_2 30 = .ok (.invokevirtual 505, 3) := dk_182 1 249 (dk_at dksJ3_indexOf_2_1 6 rfl rfl)
theorem dJ3_indexOf_2_33 : decode cJ3_indexOf_2 33 = .ok (.invokestatic 640, 3) := dk_184 2 128 (dk_at dksJ3_indexOf_2_1 9 rfl rfl)
theorem dJ3_indexOf_2_36 : decode cJ3_indexOf_2 36 = .ok (.ireturn, 1) := dk_172 (dk_at dksJ3_indexOf_2_1 12 rfl rfl)
def dkwJ3_checkBoundsBeginEnd_0 : List UInt8 := [26, 27, 28, 178, 4, 29, 184, 4, 38, 87, 177]
abbrev dktJ3_checkBoundsBeginEnd_0 : List UInt8 := dkwJ3_checkBoundsBeginEnd_0 ++ []
theorem dksJ3_checkBoundsBeginEnd_0 : cJ3_checkBoundsBeginEnd.data.toList.drop 0 = dktJ3_checkBoundsBeginEnd_0 := by decide +kernel
theorem dJ3_checkBoundsBeginEnd_0 : decode cJ3_checkBoundsBeginEnd 0 = .ok (.iload_n 0, 1) := dk_26 (dk_at dksJ3_checkBoundsBeginEnd_0 0 rfl rfl)
theorem dJ3_checkBoundsBeginEnd_1 : decode cJ3_checkBoundsBeginEnd 1 = .ok (.iload_n 1, 1) := dk_27 (dk_at dksJ3_checkBoundsBeginEnd_0 1 rfl rfl)
theorem dJ3_checkBoundsBeginEnd_2 : decode cJ3_checkBoundsBeginEnd 2 = .ok (.iload_n 2, 1) := dk_28 (dk_at dksJ3_checkBoundsBeginEnd_0 2 rfl rfl)
theorem dJ3_checkBoundsBeginEnd_3 : decode cJ3_checkBoundsBeginEnd 3 = .ok (.getstatic 1053, 3) := dk_178 4 29 (dk_at dksJ3_checkBoundsBeginEnd_0 3 rfl rfl)
theorem dJ3_checkBoundsBeginEnd_6 : decode cJ3_checkBoundsBeginEnd 6 = .ok (.invokestatic 1062, 3) := dk_184 4 38 (dk_at dksJ3_checkBoundsBeginEnd_0 6 rfl rfl)
theorem dJ3_checkBoundsBeginEnd_9 : decode cJ3_checkBoundsBeginEnd 9 = .ok (.pop, 1) := dk_87 (dk_at dksJ3_checkBoundsBeginEnd_0 9 rfl rfl)
theorem dJ3_checkBoundsBeginEnd_10 : decode cJ3_checkBoundsBeginEnd 10 = .ok (.return_, 1) := dk_177 (dk_at dksJ3_checkBoundsBeginEnd_0 10 rfl rfl)
def dkwJ4_charAt_0 : List UInt8 := [27, 42, 190, 184, 0, 9, 42, 27, 51, 17, 0, 255, 126, 146, 172]
abbrev dktJ4_charAt_0 : List UInt8 := dkwJ4_charAt_0 ++ []
theorem dksJ4_charAt_0 : cJ4_charAt.data.toList.drop 0 = dktJ4_charAt_0 := by decide +kernel
theorem dJ4_charAt_0 : decode cJ4_charAt 0 = .ok (.iload_n 1, 1) := dk_27 (dk_at dksJ4_charAt_0 0 rfl rfl)
theorem dJ4_charAt_1 : decode cJ4_charAt 1 = .ok (.aload_n 0, 1) := dk_42 (dk_at dksJ4_charAt_0 1 rfl rfl)
theorem dJ4_charAt_2 : decode cJ4_charAt 2 = .ok (.arraylength, 1) := dk_190 (dk_at dksJ4_charAt_0 2 rfl rfl)
theorem dJ4_charAt_3 : decode cJ4_charAt 3 = .ok (.invokestatic 9, 3) := dk_184 0 9 (dk_at dksJ4_charAt_0 3 rfl rfl)
theorem dJ4_charAt_6 : decode cJ4_charAt 6 = .ok (.aload_n 0, 1) := dk_42 (dk_at dksJ4_charAt_0 6 rfl rfl)
theorem dJ4_charAt_7 : decode cJ4_charAt 7 = .ok (.iload_n 1, 1) := dk_27 (dk_at dksJ4_charAt_0 7 rfl rfl)
theorem dJ4_charAt_8 : decode cJ4_charAt 8 = .ok (.baload, 1) := dk_51 (dk_at dksJ4_charAt_0 8 rfl rfl)
theorem dJ4_charAt_9 : decode cJ4_charAt 9 = .ok (.sipush 255, 3) := dk_17 0 255 (dk_at dksJ4_charAt_0 9 rfl rfl)
theorem dJ4_charAt_12 : decode cJ4_charAt 12 = .ok (.iand, 1) := dk_126 (dk_at dksJ4_charAt_0 12 rfl rfl)
theorem dJ4_charAt_13 : decode cJ4_charAt 13 = .ok (.i2c, 1) := dk_146 (dk_at dksJ4_charAt_0 13 rfl rfl)
theorem dJ4_charAt_14 : decode cJ4_charAt 14 = .ok (.ireturn, 1) := dk_172 (dk_at dksJ4_charAt_0 14 rfl rfl)
def dkwJ4_indexOf_1 : List UInt8 := [161, 0, 5, 2, 172, 42, 27, 28, 29, 184, 0, 95, 172]
abbrev dktJ4_indexOf_1 : List UInt8 := dkwJ4_indexOf_1 ++ []
def dkwJ4_indexOf_0 : List UInt8 := [27, 184, 0, 88, 154, 0, 5, 2, 172, 28, 3, 184, 0, 92, 61, 29, 42, 190, 184, 0, 38, 62, 28, 29]
abbrev dktJ4_indexOf_0 : List UInt8 := dkwJ4_indexOf_0 ++ dktJ4_indexOf_1
theorem dksJ4_indexOf_0 : cJ4_indexOf.data.toList.drop 0 = dktJ4_indexOf_0 := by decide +kernel
theorem dksJ4_indexOf_1 : cJ4_indexOf.data.toList.drop 24 = dktJ4_indexOf_1 := dk_seg dksJ4_indexOf_0 24 rfl rfl
theorem dJ4_indexOf_0 : decode cJ4_indexOf 0 = .ok (.iload_n 1, 1) := dk_27 (dk_at dksJ4_indexOf_0 0 rfl rfl)
theorem dJ4_indexOf_1 : decode cJ4_indexOf 1 = .ok (.invokestatic 88, 3) := dk_184 0 88 (dk_at dksJ4_indexOf_0 1 rfl rfl)
theorem dJ4_indexOf_4 : decode cJ4_indexOf 4 = .ok (.ifCond .ne 5, 3) := dk_154 0 5 (dk_at dksJ4_indexOf_0 4 rfl rfl)
theorem dJ4_indexOf_7 : decode cJ4_indexOf 7 = .ok (.iconst (-1), 1) := dk_2 (dk_at dksJ4_indexOf_0 7 rfl rfl)
theorem dJ4_indexOf_8 : decode cJ4_indexOf 8 = .ok (.ireturn, 1) := dk_172 (dk_at dksJ4_indexOf_0 8 rfl rfl)
theorem dJ4_indexOf_9 : decode cJ4_indexOf 9 = .ok (.iload_n 2, 1) := dk_28 (dk_at dksJ4_indexOf_0 9 rfl rfl)
theorem dJ4_indexOf_10 : decode cJ4_indexOf 10 = .ok (.iconst 0, 1) := dk_3 (dk_at dksJ4_indexOf_0 10 rfl rfl)
theorem dJ4_indexOf_11 : decode cJ4_indexOf 11 = .ok (.invokestatic 92, 3) := dk_184 0 92 (dk_at dksJ4_indexOf_0 11 rfl rfl)
theorem dJ4_indexOf_14 : decode cJ4_indexOf 14 = .ok (.istore_n 2, 1) := dk_61 (dk_at dksJ4_indexOf_0 14 rfl rfl)
theorem dJ4_indexOf_15 : decode cJ4_indexOf 15 = .ok (.iload_n 3, 1) := dk_29 (dk_at dksJ4_indexOf_0 15 rfl rfl)
theorem dJ4_indexOf_16 : decode cJ4_indexOf 16 = .ok (.aload_n 0, 1) := dk_42 (dk_at dksJ4_indexOf_0 16 rfl rfl)
theorem dJ4_indexOf_17 : decode cJ4_indexOf 17 = .ok (.arraylength, 1) := dk_190 (dk_at dksJ4_indexOf_0 17 rfl rfl)
theorem dJ4_indexOf_18 : decode cJ4_indexOf 18 = .ok (.invokestatic 38, 3) := dk_184 0 38 (dk_at dksJ4_indexOf_0 18 rfl rfl)
theorem dJ4_indexOf_21 : decode cJ4_indexOf 21 = .ok (.istore_n 3, 1) := dk_62 (dk_at dksJ4_indexOf_0 21 rfl rfl)
theorem dJ4_indexOf_22 : decode cJ4_indexOf 22 = .ok (.iload_n 2, 1) := dk_28 (dk_at dksJ4_indexOf_0 22 rfl rfl)
theorem dJ4_indexOf_23 : decode cJ4_indexOf 23 = .ok (.iload_n 3, 1) := dk_29 (dk_at dksJ4_indexOf_0 23 rfl rfl)
theorem dJ4_indexOf_24 : decode cJ4_indexOf 24 = .ok (.if_icmp .lt 5, 3) := dk_161 0 5 (dk_at dksJ4_indexOf_1 0 rfl rfl)
theorem dJ4_indexOf_27 : decode cJ4_indexOf 27 = .ok (.iconst (-1), 1) := dk_2 (dk_at dksJ4_indexOf_1 3 rfl rfl)
theorem dJ4_indexOf_28 : decode cJ4_indexOf 28 = .ok (.ireturn, 1) := dk_172 (dk_at dksJ4_indexOf_1 4 rfl rfl)
theorem dJ4_indexOf_29 : decode cJ4_indexOf 29 = .ok (.aload_n 0, 1) := dk_42 (dk_at dksJ4_indexOf_1 5 rfl rfl)
theorem dJ4_indexOf_30 : decode cJ4_indexOf 30 = .ok (.iload_n 1, 1) := dk_27 (dk_at dksJ4_indexOf_1 6 rfl rfl)
theorem dJ4_indexOf_31 : decode cJ4_indexOf 31 = .ok (.iload_n 2, 1) := dk_28 (dk_at dksJ4_indexOf_1 7 rfl rfl)
theorem dJ4_indexOf_32 : decode cJ4_indexOf 32 = .ok (.iload_n 3, 1) := dk_29 (dk_at dksJ4_indexOf_1 8 rfl rfl)
theorem dJ4_indexOf_33 : decode cJ4_indexOf 33 = .ok (.invokestatic 95, 3) := dk_184 0 95 (dk_at dksJ4_indexOf_1 9 rfl rfl)
theorem dJ4_indexOf_36 : decode cJ4_indexOf 36 = .ok (.ireturn, 1) := dk_172 (dk_at dksJ4_indexOf_1 12 rfl rfl)
def dkwJ4_canEncode_0 : List UInt8 := [26, 155, 0, 14, 26, 17, 0, 255, 163, 0, 7, 4, 167, 0, 4, 3, 172]
abbrev dktJ4_canEncode_0 : List UInt8 := dkwJ4_canEncode_0 ++ []
theorem dksJ4_canEncode_0 : cJ4_canEncode.data.toList.drop 0 = dktJ4_canEncode_0 := by decide +kernel
theorem dJ4_canEncode_0 : decode cJ4_canEncode 0 = .ok (.iload_n 0, 1) := dk_26 (dk_at dksJ4_canEncode_0 0 rfl rfl)
theorem dJ4_canEncode_1 : decode cJ4_canEncode 1 = .ok (.ifCond .lt 14, 3) := dk_155 0 14 (dk_at dksJ4_canEncode_0 1 rfl rfl)
theorem dJ4_canEncode_4 : decode cJ4_canEncode 4 = .ok (.iload_n 0, 1) := dk_26 (dk_at dksJ4_canEncode_0 4 rfl rfl)
theorem dJ4_canEncode_5 : decode cJ4_canEncode 5 = .ok (.sipush 255, 3) := dk_17 0 255 (dk_at dksJ4_canEncode_0 5 rfl rfl)
theorem dJ4_canEncode_8 : decode cJ4_canEncode 8 = .ok (.if_icmp .gt 7, 3) := dk_163 0 7 (dk_at dksJ4_canEncode_0 8 rfl rfl)
theorem dJ4_canEncode_11 : decode cJ4_canEncode 11 = .ok (.iconst 1, 1) := dk_4 (dk_at dksJ4_canEncode_0 11 rfl rfl)
theorem dJ4_canEncode_12 : decode cJ4_canEncode 12 = .ok (.goto 4, 3) := dk_167 0 4 (dk_at dksJ4_canEncode_0 12 rfl rfl)
theorem dJ4_canEncode_15 : decode cJ4_canEncode 15 = .ok (.iconst 0, 1) := dk_3 (dk_at dksJ4_canEncode_0 15 rfl rfl)
theorem dJ4_canEncode_16 : decode cJ4_canEncode 16 = .ok (.ireturn, 1) := dk_172 (dk_at dksJ4_canEncode_0 16 rfl rfl)
def dkwJ4_indexOfChar_1 : List UInt8 := [172, 132, 5, 1, 167, 255, 235, 2, 172]
abbrev dktJ4_indexOfChar_1 : List UInt8 := dkwJ4_indexOfChar_1 ++ []
def dkwJ4_indexOfChar_0 : List UInt8 := [27, 145, 54, 4, 28, 54, 5, 21, 5, 29, 162, 0, 21, 42, 21, 5, 51, 21, 4, 160, 0, 6, 21, 5]
abbrev dktJ4_indexOfChar_0 : List UInt8 := dkwJ4_indexOfChar_0 ++ dktJ4_indexOfChar_1
theorem dksJ4_indexOfChar_0 : cJ4_indexOfChar.data.toList.drop 0 = dktJ4_indexOfChar_0 := by decide +kernel
theorem dksJ4_indexOfChar_1 : cJ4_indexOfChar.data.toList.drop 24 = dktJ4_indexOfChar_1 := dk_seg dksJ4_indexOfChar_0 24 rfl rfl
theorem dJ4_indexOfChar_0 : decode cJ4_indexOfChar 0 = .ok (.iload_n 1, 1) := dk_27 (dk_at dksJ4_indexOfChar_0 0 rfl rfl)
theorem dJ4_indexOfChar_1 : decode cJ4_indexOfChar 1 = .ok (.i2b, 1) := dk_145 (dk_at dksJ4_indexOfChar_0 1 rfl rfl)
theorem dJ4_indexOfChar_2 : decode cJ4_indexOfChar 2 = .ok (.istore 4, 2) := dk_54 4 (dk_at dksJ4_indexOfChar_0 2 rfl rfl)
theorem dJ4_indexOfChar_4 : decode cJ4_indexOfChar 4 = .ok (.iload_n 2, 1) := dk_28 (dk_at dksJ4_indexOfChar_0 4 rfl rfl)
theorem dJ4_indexOfChar_5 : decode cJ4_indexOfChar 5 = .ok (.istore 5, 2) := dk_54 5 (dk_at dksJ4_indexOfChar_0 5 rfl rfl)
theorem dJ4_indexOfChar_7 : decode cJ4_indexOfChar 7 = .ok (.iload 5, 2) := dk_21 5 (dk_at dksJ4_indexOfChar_0 7 rfl rfl)
theorem dJ4_indexOfChar_9 : decode cJ4_indexOfChar 9 = .ok (.iload_n 3, 1) := dk_29 (dk_at dksJ4_indexOfChar_0 9 rfl rfl)
theorem dJ4_indexOfChar_10 : decode cJ4_indexOfChar 10 = .ok (.if_icmp .ge 21, 3) := dk_162 0 21 (dk_at dksJ4_indexOfChar_0 10 rfl rfl)
theorem dJ4_indexOfChar_13 : decode cJ4_indexOfChar 13 = .ok (.aload_n 0, 1) := dk_42 (dk_at dksJ4_indexOfChar_0 13 rfl rfl)
theorem dJ4_indexOfChar_14 : decode cJ4_indexOfChar 14 = .ok (.iload 5, 2) := dk_21 5 (dk_at dksJ4_indexOfChar_0 14 rfl rfl)
theorem dJ4_indexOfChar_16 : decode cJ4_indexOfChar 16 = .ok (.baload, 1) := dk_51 (dk_at dksJ4_indexOfChar_0 16 rfl rfl)
theorem dJ4_indexOfChar_17 : decode cJ4_indexOfChar 17 = .ok (.iload 4, 2) := dk_21 4 (dk_at dksJ4_indexOfChar_0 17 rfl rfl)
theorem dJ4_indexOfChar_19 : decode cJ4_indexOfChar 19 = .ok (.if_icmp .ne 6, 3) := dk_160 0 6 (dk_at dksJ4_indexOfChar_0 19 rfl rfl)
theorem dJ4_indexOfChar_22 : decode cJ4_indexOfChar 22 = .ok (.iload 5, 2) := dk_21 5 (dk_at dksJ4_indexOfChar_0 22 rfl rfl)
theorem dJ4_indexOfChar_24 : decode cJ4_indexOfChar 24 = .ok (.ireturn, 1) := dk_172 (dk_at dksJ4_indexOfChar_1 0 rfl rfl)
theorem dJ4_indexOfChar_25 : decode cJ4_indexOfChar 25 = .ok (.iinc 5 1, 3) := dk_132 5 1 (dk_at dksJ4_indexOfChar_1 1 rfl rfl)
theorem dJ4_indexOfChar_28 : decode cJ4_indexOfChar 28 = .ok (.goto (-21), 3) := dk_167 255 235 (dk_at dksJ4_indexOfChar_1 4 rfl rfl)
theorem dJ4_indexOfChar_31 : decode cJ4_indexOfChar 31 = .ok (.iconst (-1), 1) := dk_2 (dk_at dksJ4_indexOfChar_1 7 rfl rfl)
theorem dJ4_indexOfChar_32 : decode cJ4_indexOfChar 32 = .ok (.ireturn, 1) := dk_172 (dk_at dksJ4_indexOfChar_1 8 rfl rfl)
def dkwJ5_checkIndex_0 : List UInt8 := [26, 155, 0, 8, 26, 27, 161, 0, 10, 44, 26, 27, 184, 0, 95, 191, 26, 172]
abbrev dktJ5_checkIndex_0 : List UInt8 := dkwJ5_checkIndex_0 ++ []
theorem dksJ5_checkIndex_0 : cJ5_checkIndex.data.toList.drop 0 = dktJ5_checkIndex_0 := by decide +kernel
theorem dJ5_checkIndex_0 : decode cJ5_checkIndex 0 = .ok (.iload_n 0, 1) := dk_26 (dk_at dksJ5_checkIndex_0 0 rfl rfl)
theorem dJ5_checkIndex_1 : decode cJ5_checkIndex 1 = .ok (.ifCond .lt 8, 3) := dk_155 0 8 (dk_at dksJ5_checkIndex_0 1 rfl rfl)
theorem dJ5_checkIndex_4 : decode cJ5_checkIndex 4 = .ok (.iload_n 0, 1) := dk_26 (dk_at dksJ5_checkIndex_0 4 rfl rfl)
theorem dJ5_checkIndex_5 : decode cJ5_checkIndex 5 = .ok (.iload_n 1, 1) := dk_27 (dk_at dksJ5_checkIndex_0 5 rfl rfl)
theorem dJ5_checkIndex_6 : decode cJ5_checkIndex 6 = .ok (.if_icmp .lt 10, 3) := dk_161 0 10 (dk_at dksJ5_checkIndex_0 6 rfl rfl)
theorem dJ5_checkIndex_9 : decode cJ5_checkIndex 9 = .ok (.aload_n 2, 1) := dk_44 (dk_at dksJ5_checkIndex_0 9 rfl rfl)
theorem dJ5_checkIndex_10 : decode cJ5_checkIndex 10 = .ok (.iload_n 0, 1) := dk_26 (dk_at dksJ5_checkIndex_0 10 rfl rfl)
theorem dJ5_checkIndex_11 : decode cJ5_checkIndex 11 = .ok (.iload_n 1, 1) := dk_27 (dk_at dksJ5_checkIndex_0 11 rfl rfl)
theorem dJ5_checkIndex_12 : decode cJ5_checkIndex 12 = .ok (.invokestatic 95, 3) := dk_184 0 95 (dk_at dksJ5_checkIndex_0 12 rfl rfl)
theorem dJ5_checkIndex_15 : decode cJ5_checkIndex 15 = .ok (.athrow, 1) := dk_191 (dk_at dksJ5_checkIndex_0 15 rfl rfl)
theorem dJ5_checkIndex_16 : decode cJ5_checkIndex 16 = .ok (.iload_n 0, 1) := dk_26 (dk_at dksJ5_checkIndex_0 16 rfl rfl)
theorem dJ5_checkIndex_17 : decode cJ5_checkIndex 17 = .ok (.ireturn, 1) := dk_172 (dk_at dksJ5_checkIndex_0 17 rfl rfl)
def dkwJ5_checkFromToIndex_0 : List UInt8 := [26, 155, 0, 13, 26, 27, 163, 0, 8, 27, 28, 164, 0, 11, 45, 26, 27, 28, 184, 0, 99, 191, 26, 172]
abbrev dktJ5_checkFromToIndex_0 : List UInt8 := dkwJ5_checkFromToIndex_0 ++ []
theorem dksJ5_checkFromToIndex_0 : cJ5_checkFromToIndex.data.toList.drop 0 = dktJ5_checkFromToIndex_0 := by decide +kernel
theorem dJ5_checkFromToIndex_0 : decode cJ5_checkFromToIndex 0 = .ok (.iload_n 0, 1) := dk_26 (dk_at dksJ5_checkFromToIndex_0 0 rfl rfl)
theorem dJ5_checkFromToIndex_1 : decode cJ5_checkFromToIndex 1 = .ok (.ifCond .lt 13, 3) := dk_155 0 13 (dk_at dksJ5_checkFromToIndex_0 1 rfl rfl)
theorem dJ5_checkFromToIndex_4 : decode cJ5_checkFromToIndex 4 = .ok (.iload_n 0, 1) := dk_26 (dk_at dksJ5_checkFromToIndex_0 4 rfl rfl)
theorem dJ5_checkFromToIndex_5 : decode cJ5_checkFromToIndex 5 = .ok (.iload_n 1, 1) := dk_27 (dk_at dksJ5_checkFromToIndex_0 5 rfl rfl)
theorem dJ5_checkFromToIndex_6 : decode cJ5_checkFromToIndex 6 = .ok (.if_icmp .gt 8, 3) := dk_163 0 8 (dk_at dksJ5_checkFromToIndex_0 6 rfl rfl)
theorem dJ5_checkFromToIndex_9 : decode cJ5_checkFromToIndex 9 = .ok (.iload_n 1, 1) := dk_27 (dk_at dksJ5_checkFromToIndex_0 9 rfl rfl)
theorem dJ5_checkFromToIndex_10 : decode cJ5_checkFromToIndex 10 = .ok (.iload_n 2, 1) := dk_28 (dk_at dksJ5_checkFromToIndex_0 10 rfl rfl)
theorem dJ5_checkFromToIndex_11 : decode cJ5_checkFromToIndex 11 = .ok (.if_icmp .le 11, 3) := dk_164 0 11 (dk_at dksJ5_checkFromToIndex_0 11 rfl rfl)
theorem dJ5_checkFromToIndex_14 : decode cJ5_checkFromToIndex 14 = .ok (.aload_n 3, 1) := dk_45 (dk_at dksJ5_checkFromToIndex_0 14 rfl rfl)
theorem dJ5_checkFromToIndex_15 : decode cJ5_checkFromToIndex 15 = .ok (.iload_n 0, 1) := dk_26 (dk_at dksJ5_checkFromToIndex_0 15 rfl rfl)
theorem dJ5_checkFromToIndex_16 : decode cJ5_checkFromToIndex 16 = .ok (.iload_n 1, 1) := dk_27 (dk_at dksJ5_checkFromToIndex_0 16 rfl rfl)
theorem dJ5_checkFromToIndex_17 : decode cJ5_checkFromToIndex 17 = .ok (.iload_n 2, 1) := dk_28 (dk_at dksJ5_checkFromToIndex_0 17 rfl rfl)
theorem dJ5_checkFromToIndex_18 : decode cJ5_checkFromToIndex 18 = .ok (.invokestatic 99, 3) := dk_184 0 99 (dk_at dksJ5_checkFromToIndex_0 18 rfl rfl)
theorem dJ5_checkFromToIndex_21 : decode cJ5_checkFromToIndex 21 = .ok (.athrow, 1) := dk_191 (dk_at dksJ5_checkFromToIndex_0 21 rfl rfl)
theorem dJ5_checkFromToIndex_22 : decode cJ5_checkFromToIndex 22 = .ok (.iload_n 0, 1) := dk_26 (dk_at dksJ5_checkFromToIndex_0 22 rfl rfl)
theorem dJ5_checkFromToIndex_23 : decode cJ5_checkFromToIndex 23 = .ok (.ireturn, 1) := dk_172 (dk_at dksJ5_checkFromToIndex_0 23 rfl rfl)
def dkwJ6_charAt_0 : List UInt8 := [27, 42, 184, 0, 67, 42, 27, 184, 0, 71, 172]
abbrev dktJ6_charAt_0 : List UInt8 := dkwJ6_charAt_0 ++ []
theorem dksJ6_charAt_0 : cJ6_charAt.data.toList.drop 0 = dktJ6_charAt_0 := by decide +kernel
theorem dJ6_charAt_0 : decode cJ6_charAt 0 = .ok (.iload_n 1, 1) := dk_27 (dk_at dksJ6_charAt_0 0 rfl rfl)
theorem dJ6_charAt_1 : decode cJ6_charAt 1 = .ok (.aload_n 0, 1) := dk_42 (dk_at dksJ6_charAt_0 1 rfl rfl)
theorem dJ6_charAt_2 : decode cJ6_charAt 2 = .ok (.invokestatic 67, 3) := dk_184 0 67 (dk_at dksJ6_charAt_0 2 rfl rfl)
theorem dJ6_charAt_5 : decode cJ6_charAt 5 = .ok (.aload_n 0, 1) := dk_42 (dk_at dksJ6_charAt_0 5 rfl rfl)
theorem dJ6_charAt_6 : decode cJ6_charAt 6 = .ok (.iload_n 1, 1) := dk_27 (dk_at dksJ6_charAt_0 6 rfl rfl)
theorem dJ6_charAt_7 : decode cJ6_charAt 7 = .ok (.invokestatic 71, 3) := dk_184 0 71 (dk_at dksJ6_charAt_0 7 rfl rfl)
theorem dJ6_charAt_10 : decode cJ6_charAt 10 = .ok (.ireturn, 1) := dk_172 (dk_at dksJ6_charAt_0 10 rfl rfl)
def dkwJ6_checkIndex_0 : List UInt8 := [26, 43, 184, 0, 48, 184, 1, 158, 177]
abbrev dktJ6_checkIndex_0 : List UInt8 := dkwJ6_checkIndex_0 ++ []
theorem dksJ6_checkIndex_0 : cJ6_checkIndex.data.toList.drop 0 = dktJ6_checkIndex_0 := by decide +kernel
theorem dJ6_checkIndex_0 : decode cJ6_checkIndex 0 = .ok (.iload_n 0, 1) := dk_26 (dk_at dksJ6_checkIndex_0 0 rfl rfl)
theorem dJ6_checkIndex_1 : decode cJ6_checkIndex 1 = .ok (.aload_n 1, 1) := dk_43 (dk_at dksJ6_checkIndex_0 1 rfl rfl)
theorem dJ6_checkIndex_2 : decode cJ6_checkIndex 2 = .ok (.invokestatic 48, 3) := dk_184 0 48 (dk_at dksJ6_checkIndex_0 2 rfl rfl)
theorem dJ6_checkIndex_5 : decode cJ6_checkIndex 5 = .ok (.invokestatic 414, 3) := dk_184 1 158 (dk_at dksJ6_checkIndex_0 5 rfl rfl)
theorem dJ6_checkIndex_8 : decode cJ6_checkIndex 8 = .ok (.return_, 1) := dk_177 (dk_at dksJ6_checkIndex_0 8 rfl rfl)
def dkwJ6_length_0 : List UInt8 := [42, 190, 4, 122, 172]
abbrev dktJ6_length_0 : List UInt8 := dkwJ6_length_0 ++ []
theorem dksJ6_length_0 : cJ6_length.data.toList.drop 0 = dktJ6_length_0 := by decide +kernel
theorem dJ6_length_0 : decode cJ6_length 0 = .ok (.aload_n 0, 1) := dk_42 (dk_at dksJ6_length_0 0 rfl rfl)
theorem dJ6_length_1 : decode cJ6_length 1 = .ok (.arraylength, 1) := dk_190 (dk_at dksJ6_length_0 1 rfl rfl)
theorem dJ6_length_2 : decode cJ6_length 2 = .ok (.iconst 1, 1) := dk_4 (dk_at dksJ6_length_0 2 rfl rfl)
theorem dJ6_length_3 : decode cJ6_length 3 = .ok (.ishr, 1) := dk_122 (dk_at dksJ6_length_0 3 rfl rfl)
theorem dJ6_length_4 : decode cJ6_length 4 = .ok (.ireturn, 1) := dk_172 (dk_at dksJ6_length_0 4 rfl rfl)
def dkwJ6_getChar_2 : List UInt8 := [51, 17, 0, 255, 126, 178, 0, 63, 120, 128, 146, 172]
abbrev dktJ6_getChar_2 : List UInt8 := dkwJ6_getChar_2 ++ []
def dkwJ6_getChar_1 : List UInt8 := [183, 0, 56, 191, 27, 4, 120, 60, 42, 27, 132, 1, 1, 51, 17, 0, 255, 126, 178, 0, 59, 120, 42, 27]
abbrev dktJ6_getChar_1 : List UInt8 := dkwJ6_getChar_1 ++ dktJ6_getChar_2
def dkwJ6_getChar_0 : List UInt8 := [178, 0, 44, 154, 0, 25, 27, 155, 0, 11, 27, 42, 184, 0, 48, 161, 0, 13, 187, 0, 52, 89, 18, 54]
abbrev dktJ6_getChar_0 : List UInt8 := dkwJ6_getChar_0 ++ dktJ6_getChar_1
theorem dksJ6_getChar_0 : cJ6_getChar.data.toList.drop 0 = dktJ6_getChar_0 := by decide +kernel
theorem dksJ6_getChar_1 : cJ6_getChar.data.toList.drop 24 = dktJ6_getChar_1 := dk_seg dksJ6_getChar_0 24 rfl rfl
theorem dksJ6_getChar_2 : cJ6_getChar.data.toList.drop 48 = dktJ6_getChar_2 := dk_seg dksJ6_getChar_1 24 rfl rfl
theorem dJ6_getChar_0 : decode cJ6_getChar 0 = .ok (.getstatic 44, 3) := dk_178 0 44 (dk_at dksJ6_getChar_0 0 rfl rfl)
theorem dJ6_getChar_3 : decode cJ6_getChar 3 = .ok (.ifCond .ne 25, 3) := dk_154 0 25 (dk_at dksJ6_getChar_0 3 rfl rfl)
theorem dJ6_getChar_6 : decode cJ6_getChar 6 = .ok (.iload_n 1, 1) := dk_27 (dk_at dksJ6_getChar_0 6 rfl rfl)
theorem dJ6_getChar_7 : decode cJ6_getChar 7 = .ok (.ifCond .lt 11, 3) := dk_155 0 11 (dk_at dksJ6_getChar_0 7 rfl rfl)
theorem dJ6_getChar_10 : decode cJ6_getChar 10 = .ok (.iload_n 1, 1) := dk_27 (dk_at dksJ6_getChar_0 10 rfl rfl)
theorem dJ6_getChar_11 : decode cJ6_getChar 11 = .ok (.aload_n 0, 1) := dk_42 (dk_at dksJ6_getChar_0 11 rfl rfl)
theorem dJ6_getChar_12 : decode cJ6_getChar 12 = .ok (.invokestatic 48, 3) := dk_184 0 48 (dk_at dksJ6_getChar_0 12 rfl rfl)
theorem dJ6_getChar_15 : decode cJ6_getChar 15 = .ok (.if_icmp .lt 13, 3) := dk_161 0 13 (dk_at dksJ6_getChar_0 15 rfl rfl)
theorem dJ6_getChar_18 : decode cJ6_getChar 18 = .ok (.new 52, 3) := dk_187 0 52 (dk_at dksJ6_getChar_0 18 rfl rfl)
theorem dJ6_getChar_21 : decode cJ6_getChar 21 = .ok (.dup, 1) := dk_89 (dk_at dksJ6_getChar_0 21 rfl rfl)
theorem dJ6_getChar_22 : decode cJ6_getChar 22 = .ok (.ldc 54, 2) := dk_18 54 (dk_at dksJ6_getChar_0 22 rfl rfl)
theorem dJ6_getChar_24 : decode cJ6_getChar 24 = .ok (.invokespecial 56, 3) := dk_183 0 56 (dk_at dksJ6_getChar_1 0 rfl rfl)
theorem dJ6_getChar_27 : decode cJ6_getChar 27 = .ok (.athrow, 1) := dk_191 (dk_at dksJ6_getChar_1 3 rfl rfl)
theorem dJ6_getChar_28 : decode cJ6_getChar 28 = .ok (.iload_n 1, 1) := dk_27 (dk_at dksJ6_getChar_1 4 rfl rfl)
theorem dJ6_getChar_29 : decode cJ6_getChar 29 = .ok (.iconst 1, 1) := dk_4 (dk_at dksJ6_getChar_1 5 rfl rfl)
theorem dJ6_getChar_30 : decode cJ6_getChar 30 = .ok (.ishl, 1) := dk_120 (dk_at dksJ6_getChar_1 6 rfl rfl)
theorem dJ6_getChar_31 : decode cJ6_getChar 31 = .ok (.istore_n 1, 1) := dk_60 (dk_at dksJ6_getChar_1 7 rfl rfl)
theorem dJ6_getChar_32 : decode cJ6_getChar 32 = .ok (.aload_n 0, 1) := dk_42 (dk_at dksJ6_getChar_1 8 rfl rfl)
theorem dJ6_getChar_33 : decode cJ6_getChar 33 = .ok (.iload_n 1, 1) := dk_27 (dk_at dksJ6_getChar_1 9 rfl rfl)
theorem dJ6_getChar_34 : decode cJ6_getChar 34 = .ok (.iinc 1 1, 3) := dk_132 1 1 (dk_at dksJ6_getChar_1 10 rfl rfl)
theorem dJ6_getChar_37 : decode cJ6_getChar 37 = .ok (.baload, 1) := dk_51 (dk_at dksJ6_getChar_1 13 rfl rfl)
theorem dJ6_getChar_38 : decode cJ6_getChar 38 = .ok (.sipush 255, 3) := dk_17 0 255 (dk_at dksJ6_getChar_1 14 rfl rfl)
theorem dJ6_getChar_41 : decode cJ6_getChar 41 = .ok (.iand, 1) := dk_126 (dk_at dksJ6_getChar_1 17 rfl rfl)
theorem dJ6_getChar_42 : decode cJ6_getChar 42 = .ok (.getstatic 59, 3) := dk_178 0 59 (dk_at dksJ6_getChar_1 18 rfl rfl)
theorem dJ6_getChar_45 : decode cJ6_getChar 45 = .ok (.ishl, 1) := dk_120 (dk_at dksJ6_getChar_1 21 rfl rfl)
theorem dJ6_getChar_46 : decode cJ6_getChar 46 = .ok (.aload_n 0, 1) := dk_42 (dk_at dksJ6_getChar_1 22 rfl rfl)
theorem dJ6_getChar_47 : decode cJ6_getChar 47 = .ok (.iload_n 1, 1) := dk_27 (dk_at dksJ6_getChar_1 23 rfl rfl)
theorem dJ6_getChar_48 : decode cJ6_getChar 48 = .ok (.baload, 1) := dk_51 (dk_at dksJ6_getChar_2 0 rfl rfl)
theorem dJ6_getChar_49 : decode cJ6_getChar 49 = .ok (.sipush 255, 3) := dk_17 0 255 (dk_at dksJ6_getChar_2 1 rfl rfl)
theorem dJ6_getChar_52 : decode cJ6_getChar 52 = .ok (.iand, 1) := dk_126 (dk_at dksJ6_getChar_2 4 rfl rfl)
theorem dJ6_getChar_53 : decode cJ6_getChar 53 = .ok (.getstatic 63, 3) := dk_178 0 63 (dk_at dksJ6_getChar_2 5 rfl rfl)
theorem dJ6_getChar_56 : decode cJ6_getChar 56 = .ok (.ishl, 1) := dk_120 (dk_at dksJ6_getChar_2 8 rfl rfl)
theorem dJ6_getChar_57 : decode cJ6_getChar 57 = .ok (.ior, 1) := dk_128 (dk_at dksJ6_getChar_2 9 rfl rfl)
theorem dJ6_getChar_58 : decode cJ6_getChar 58 = .ok (.i2c, 1) := dk_146 (dk_at dksJ6_getChar_2 10 rfl rfl)
theorem dJ6_getChar_59 : decode cJ6_getChar 59 = .ok (.ireturn, 1) := dk_172 (dk_at dksJ6_getChar_2 11 rfl rfl)
def dkwJ6_indexOf_1 : List UInt8 := [18, 227, 162, 0, 11, 42, 27, 28, 29, 184, 0, 228, 172, 42, 27, 28, 29, 184, 0, 232, 172]
abbrev dktJ6_indexOf_1 : List UInt8 := dkwJ6_indexOf_1 ++ []
def dkwJ6_indexOf_0 : List UInt8 := [28, 3, 184, 0, 224, 61, 29, 42, 190, 4, 122, 184, 0, 183, 62, 28, 29, 161, 0, 5, 2, 172, 27]
abbrev dktJ6_indexOf_0 : List UInt8 := dkwJ6_indexOf_0 ++ dktJ6_indexOf_1
theorem dksJ6_indexOf_0 : cJ6_indexOf.data.toList.drop 0 = dktJ6_indexOf_0 := by decide +kernel
theorem dksJ6_indexOf_1 : cJ6_indexOf.data.toList.drop 23 = dktJ6_indexOf_1 := dk_seg dksJ6_indexOf_0 23 rfl rfl
theorem dJ6_indexOf_0 : decode cJ6_indexOf 0 = .ok (.iload_n 2, 1) := dk_28 (dk_at dksJ6_indexOf_0 0 rfl rfl)
theorem dJ6_indexOf_1 : decode cJ6_indexOf 1 = .ok (.iconst 0, 1) := dk_3 (dk_at dksJ6_indexOf_0 1 rfl rfl)
theorem dJ6_indexOf_2 : decode cJ6_indexOf 2 = .ok (.invokestatic 224, 3) := dk_184 0 224 (dk_at dksJ6_indexOf_0 2 rfl rfl)
theorem dJ6_indexOf_5 : decode cJ6_indexOf 5 = .ok (.istore_n 2, 1) := dk_61 (dk_at dksJ6_indexOf_0 5 rfl rfl)
theorem dJ6_indexOf_6 : decode cJ6_indexOf 6 = .ok (.iload_n 3, 1) := dk_29 (dk_at dksJ6_indexOf_0 6 rfl rfl)
theorem dJ6_indexOf_7 : decode cJ6_indexOf 7 = .ok (.aload_n 0, 1) := dk_42 (dk_at dksJ6_indexOf_0 7 rfl rfl)
theorem dJ6_indexOf_8 : decode cJ6_indexOf 8 = .ok (.arraylength, 1) := dk_190 (dk_at dksJ6_indexOf_0 8 rfl rfl)
theorem dJ6_indexOf_9 : decode cJ6_indexOf 9 = .ok (.iconst 1, 1) := dk_4 (dk_at dksJ6_indexOf_0 9 rfl rfl)
theorem dJ6_indexOf_10 : decode cJ6_indexOf 10 = .ok (.ishr, 1) := dk_122 (dk_at dksJ6_indexOf_0 10 rfl rfl)
theorem dJ6_indexOf_11 : decode cJ6_indexOf 11 = .ok (.invokestatic 183, 3) := dk_184 0 183 (dk_at dksJ6_indexOf_0 11 rfl rfl)
theorem dJ6_indexOf_14 : decode cJ6_indexOf 14 = .ok (.istore_n 3, 1) := dk_62 (dk_at dksJ6_indexOf_0 14 rfl rfl)
theorem dJ6_indexOf_15 : decode cJ6_indexOf 15 = .ok (.iload_n 2, 1) := dk_28 (dk_at dksJ6_indexOf_0 15 rfl rfl)
theorem dJ6_indexOf_16 : decode cJ6_indexOf 16 = .ok (.iload_n 3, 1) := dk_29 (dk_at dksJ6_indexOf_0 16 rfl rfl)
theorem dJ6_indexOf_17 : decode cJ6_indexOf 17 = .ok (.if_icmp .lt 5, 3) := dk_161 0 5 (dk_at dksJ6_indexOf_0 17 rfl rfl)
theorem dJ6_indexOf_20 : decode cJ6_indexOf 20 = .ok (.iconst (-1), 1) := dk_2 (dk_at dksJ6_indexOf_0 20 rfl rfl)
theorem dJ6_indexOf_21 : decode cJ6_indexOf 21 = .ok (.ireturn, 1) := dk_172 (dk_at dksJ6_indexOf_0 21 rfl rfl)
theorem dJ6_indexOf_22 : decode cJ6_indexOf 22 = .ok (.iload_n 1, 1) := dk_27 (dk_at dksJ6_indexOf_0 22 rfl rfl)
theorem dJ6_indexOf_23 : decode cJ6_indexOf 23 = .ok (.ldc 227, 2) := dk_18 227 (dk_at dksJ6_indexOf_1 0 rfl rfl)
theorem dJ6_indexOf_25 : decode cJ6_indexOf 25 = .ok (.if_icmp .ge 11, 3) := dk_162 0 11 (dk_at dksJ6_indexOf_1 2 rfl rfl)
theorem dJ6_indexOf_28 : decode cJ6_indexOf 28 = .ok (.aload_n 0, 1) := dk_42 (dk_at dksJ6_indexOf_1 5 rfl rfl)
theorem dJ6_indexOf_29 : decode cJ6_indexOf 29 = .ok (.iload_n 1, 1) := dk_27 (dk_at dksJ6_indexOf_1 6 rfl rfl)
theorem dJ6_indexOf_30 : decode cJ6_indexOf 30 = .ok (.iload_n 2, 1) := dk_28 (dk_at dksJ6_indexOf_1 7 rfl rfl)
theorem dJ6_indexOf_31 : decode cJ6_indexOf 31 = .ok (.iload_n 3, 1) := dk_29 (dk_at dksJ6_indexOf_1 8 rfl rfl)
theorem dJ6_indexOf_32 : decode cJ6_indexOf 32 = .ok (.invokestatic 228, 3) := dk_184 0 228 (dk_at dksJ6_indexOf_1 9 rfl rfl)
theorem dJ6_indexOf_35 : decode cJ6_indexOf 35 = .ok (.ireturn, 1) := dk_172 (dk_at dksJ6_indexOf_1 12 rfl rfl)
theorem dJ6_indexOf_36 : decode cJ6_indexOf 36 = .ok (.aload_n 0, 1) := dk_42 (dk_at dksJ6_indexOf_1 13 rfl rfl)
theorem dJ6_indexOf_37 : decode cJ6_indexOf 37 = .ok (.iload_n 1, 1) := dk_27 (dk_at dksJ6_indexOf_1 14 rfl rfl)
theorem dJ6_indexOf_38 : decode cJ6_indexOf 38 = .ok (.iload_n 2, 1) := dk_28 (dk_at dksJ6_indexOf_1 15 rfl rfl)
theorem dJ6_indexOf_39 : decode cJ6_indexOf 39 = .ok (.iload_n 3, 1) := dk_29 (dk_at dksJ6_indexOf_1 16 rfl rfl)
theorem dJ6_indexOf_40 : decode cJ6_indexOf 40 = .ok (.invokestatic 232, 3) := dk_184 0 232 (dk_at dksJ6_indexOf_1 17 rfl rfl)
theorem dJ6_indexOf_43 : decode cJ6_indexOf 43 = .ok (.ireturn, 1) := dk_172 (dk_at dksJ6_indexOf_1 20 rfl rfl)
def dkwJ6_indexOfChar_0 : List UInt8 := [28, 29, 42, 184, 0, 96, 42, 27, 28, 29, 184, 0, 244, 172]
abbrev dktJ6_indexOfChar_0 : List UInt8 := dkwJ6_indexOfChar_0 ++ []
theorem dksJ6_indexOfChar_0 : cJ6_indexOfChar.data.toList.drop 0 = dktJ6_indexOfChar_0 := by decide +kernel
theorem dJ6_indexOfChar_0 : decode cJ6_indexOfChar 0 = .ok (.iload_n 2, 1) := dk_28 (dk_at dksJ6_indexOfChar_0 0 rfl rfl)
theorem dJ6_indexOfChar_1 : decode cJ6_indexOfChar 1 = .ok (.iload_n 3, 1) := dk_29 (dk_at dksJ6_indexOfChar_0 1 rfl rfl)
theorem dJ6_indexOfChar_2 : decode cJ6_indexOfChar 2 = .ok (.aload_n 0, 1) := dk_42 (dk_at dksJ6_indexOfChar_0 2 rfl rfl)
theorem dJ6_indexOfChar_3 : decode cJ6_indexOfChar 3 = .ok (.invokestatic 96, 3) := dk_184 0 96 (dk_at dksJ6_indexOfChar_0 3 rfl rfl)
theorem dJ6_indexOfChar_6 : decode cJ6_indexOfChar 6 = .ok (.aload_n 0, 1) := dk_42 (dk_at dksJ6_indexOfChar_0 6 rfl rfl)
theorem dJ6_indexOfChar_7 : decode cJ6_indexOfChar 7 = .ok (.iload_n 1, 1) := dk_27 (dk_at dksJ6_indexOfChar_0 7 rfl rfl)
theorem dJ6_indexOfChar_8 : decode cJ6_indexOfChar 8 = .ok (.iload_n 2, 1) := dk_28 (dk_at dksJ6_indexOfChar_0 8 rfl rfl)
theorem dJ6_indexOfChar_9 : decode cJ6_indexOfChar 9 = .ok (.iload_n 3, 1) := dk_29 (dk_at dksJ6_indexOfChar_0 9 rfl rfl)
theorem dJ6_indexOfChar_10 : decode cJ6_indexOfChar 10 = .ok (.invokestatic 244, 3) := dk_184 0 244 (dk_at dksJ6_indexOfChar_0 10 rfl rfl)
theorem dJ6_indexOfChar_13 : decode cJ6_indexOfChar 13 = .ok (.ireturn, 1) := dk_172 (dk_at dksJ6_indexOfChar_0 13 rfl rfl)
def dkwJ6_checkBoundsBeginEnd_0 : List UInt8 := [26, 27, 44, 184, 0, 48, 184, 0, 241, 177]
abbrev dktJ6_checkBoundsBeginEnd_0 : List UInt8 := dkwJ6_checkBoundsBeginEnd_0 ++ []
theorem dksJ6_checkBoundsBeginEnd_0 : cJ6_checkBoundsBeginEnd.data.toList.drop 0 = dktJ6_checkBoundsBeginEnd_0 := by decide +kernel
theorem dJ6_checkBoundsBeginEnd_0 : decode cJ6_checkBoundsBeginEnd 0 = .ok (.iload_n 0, 1) := dk_26 (dk_at dksJ6_checkBoundsBeginEnd_0 0 rfl rfl)
theorem dJ6_checkBoundsBeginEnd_1 : decode cJ6_checkBoundsBeginEnd 1 = .ok (.iload_n 1, 1) := dk_27 (dk_at dksJ6_checkBoundsBeginEnd_0 1 rfl rfl)
theorem dJ6_checkBoundsBeginEnd_2 : decode cJ6_checkBoundsBeginEnd 2 = .ok (.aload_n 2, 1) := dk_44 (dk_at dksJ6_checkBoundsBeginEnd_0 2 rfl rfl)
theorem dJ6_checkBoundsBeginEnd_3 : decode cJ6_checkBoundsBeginEnd 3 = .ok (.invokestatic 48, 3) := dk_184 0 48 (dk_at dksJ6_checkBoundsBeginEnd_0 3 rfl rfl)
theorem dJ6_checkBoundsBeginEnd_6 : decode cJ6_checkBoundsBeginEnd 6 = .ok (.invokestatic 241, 3) := dk_184 0 241 (dk_at dksJ6_checkBoundsBeginEnd_0 6 rfl rfl)
theorem dJ6_checkBoundsBeginEnd_9 : decode cJ6_checkBoundsBeginEnd 9 = .ok (.return_, 1) := dk_177 (dk_at dksJ6_checkBoundsBeginEnd_0 9 rfl rfl)
def dkwJ6_indexOfCharUnsafe_1 : List UInt8 := [132, 4, 1, 167, 255, 234, 2, 172]
abbrev dktJ6_indexOfCharUnsafe_1 : List UInt8 := dkwJ6_indexOfCharUnsafe_1 ++ []
def dkwJ6_indexOfCharUnsafe_0 : List UInt8 := [28, 54, 4, 21, 4, 29, 162, 0, 22, 42, 21, 4, 184, 0, 71, 27, 160, 0, 6, 21, 4, 172]
abbrev dktJ6_indexOfCharUnsafe_0 : List UInt8 := dkwJ6_indexOfCharUnsafe_0 ++ dktJ6_indexOfCharUnsafe_1
theorem dksJ6_indexOfCharUnsafe_0 : cJ6_indexOfCharUnsafe.data.toList.drop 0 = dktJ6_indexOfCharUnsafe_0 := by decide +kernel
theorem dksJ6_indexOfCharUnsafe_1 : cJ6_indexOfCharUnsafe.data.toList.drop 22 = dktJ6_indexOfCharUnsafe_1 := dk_seg dksJ6_indexOfCharUnsafe_0 22 rfl rfl
theorem dJ6_indexOfCharUnsafe_0 : decode cJ6_indexOfCharUnsafe 0 = .ok (.iload_n 2, 1) := dk_28 (dk_at dksJ6_indexOfCharUnsafe_0 0 rfl rfl)
theorem dJ6_indexOfCharUnsafe_1 : decode cJ6_indexOfCharUnsafe 1 = .ok (.istore 4, 2) := dk_54 4 (dk_at dksJ6_indexOfCharUnsafe_0 1 rfl rfl)
theorem dJ6_indexOfCharUnsafe_3 : decode cJ6_indexOfCharUnsafe 3 = .ok (.iload 4, 2) := dk_21 4 (dk_at dksJ6_indexOfCharUnsafe_0 3 rfl rfl)
theorem dJ6_indexOfCharUnsafe_5 : decode cJ6_indexOfCharUnsafe 5 = .ok (.iload_n 3, 1) := dk_29 (dk_at dksJ6_indexOfCharUnsafe_0 5 rfl rfl)
theorem dJ6_indexOfCharUnsafe_6 : decode cJ6_indexOfCharUnsafe 6 = .ok (.if_icmp .ge 22, 3) := dk_162 0 22 (dk_at dksJ6_indexOfCharUnsafe_0 6 rfl rfl)
theorem dJ6_indexOfCharUnsafe_9 : decode cJ6_indexOfCharUnsafe 9 = .ok (.aload_n 0, 1) := dk_42 (dk_at dksJ6_indexOfCharUnsafe_0 9 rfl rfl)
theorem dJ6_indexOfCharUnsafe_10 : decode cJ6_indexOfCharUnsafe 10 = .ok (.iload 4, 2) := dk_21 4 (dk_at dksJ6_indexOfCharUnsafe_0 10 rfl rfl)
theorem dJ6_indexOfCharUnsafe_12 : decode cJ6_indexOfCharUnsafe 12 = .ok (.invokestatic 71, 3) := dk_184 0 71 (dk_at dksJ6_indexOfCharUnsafe_0 12 rfl rfl)
theorem dJ6_indexOfCharUnsafe_15 : decode cJ6_indexOfCharUnsafe 15 = .ok (.iload_n 1, 1) := dk_27 (dk_at dksJ6_indexOfCharUnsafe_0 15 rfl rfl)
theorem dJ6_indexOfCharUnsafe_16 : decode cJ6_indexOfCharUnsafe 16 = .ok (.if_icmp .ne 6, 3) := dk_160 0 6 (dk_at dksJ6_indexOfCharUnsafe_0 16 rfl rfl)
theorem dJ6_indexOfCharUnsafe_19 : decode cJ6_indexOfCharUnsafe 19 = .ok (.iload 4, 2) := dk_21 4 (dk_at dksJ6_indexOfCharUnsafe_0 19 rfl rfl)
theorem dJ6_indexOfCharUnsafe_21 : decode cJ6_indexOfCharUnsafe 21 = .ok (.ireturn, 1) := dk_172 (dk_at dksJ6_indexOfCharUnsafe_0 21 rfl rfl)
theorem dJ6_indexOfCharUnsafe_22 : decode cJ6_indexOfCharUnsafe 22 = .ok (.iinc 4 1, 3) := dk_132 4 1 (dk_at dksJ6_indexOfCharUnsafe_1 0 rfl rfl)
theorem dJ6_indexOfCharUnsafe_25 : decode cJ6_indexOfCharUnsafe 25 = .ok (.goto (-22), 3) := dk_167 255 234 (dk_at dksJ6_indexOfCharUnsafe_1 3 rfl rfl)
theorem dJ6_indexOfCharUnsafe_28 : decode cJ6_indexOfCharUnsafe 28 = .ok (.iconst (-1), 1) := dk_2 (dk_at dksJ6_indexOfCharUnsafe_1 6 rfl rfl)
theorem dJ6_indexOfCharUnsafe_29 : decode cJ6_indexOfCharUnsafe 29 = .ok (.ireturn, 1) := dk_172 (dk_at dksJ6_indexOfCharUnsafe_1 7 rfl rfl)
def dkwJ6_indexOfSupplementary_3 : List UInt8 := [167, 255, 218, 2, 172]
abbrev dktJ6_indexOfSupplementary_3 : List UInt8 := dkwJ6_indexOfSupplementary_3 ++ []
def dkwJ6_indexOfSupplementary_2 : List UInt8 := [160, 0, 19, 42, 21, 6, 4, 96, 184, 0, 71, 21, 5, 160, 0, 6, 21, 6, 172, 132, 6, 1]
abbrev dktJ6_indexOfSupplementary_2 : List UInt8 := dkwJ6_indexOfSupplementary_2 ++ dktJ6_indexOfSupplementary_3
def dkwJ6_indexOfSupplementary_1 : List UInt8 := [184, 0, 96, 28, 54, 6, 21, 6, 29, 4, 100, 162, 0, 36, 42, 21, 6, 184, 0, 71, 21, 4]
abbrev dktJ6_indexOfSupplementary_1 : List UInt8 := dkwJ6_indexOfSupplementary_1 ++ dktJ6_indexOfSupplementary_2
def dkwJ6_indexOfSupplementary_0 : List UInt8 := [27, 184, 0, 164, 153, 0, 65, 27, 184, 0, 157, 54, 4, 27, 184, 0, 161, 54, 5, 28, 29, 42]
abbrev dktJ6_indexOfSupplementary_0 : List UInt8 := dkwJ6_indexOfSupplementary_0 ++ dktJ6_indexOfSupplementary_1
theorem dksJ6_indexOfSupplementary_0 : cJ6_indexOfSupplementary.data.toList.drop 0 = dktJ6_indexOfSupplementary_0 := by decide +kernel
theorem dksJ6_indexOfSupplementary_1 : cJ6_indexOfSupplementary.data.toList.drop 22 = dktJ6_indexOfSupplementary_1 := dk_seg dksJ6_indexOfSupplementary_0 22 rfl rfl
theorem dksJ6_indexOfSupplementary_2 : cJ6_indexOfSupplementary.data.toList.drop 44 = dktJ6_indexOfSupplementary_2 := dk_seg dksJ6_indexOfSupplementary_1 22 rfl rfl
theorem dksJ6_indexOfSupplementary_3 : cJ6_indexOfSupplementary.data.toList.drop 66 = dktJ6_indexOfSupplementary_3 := dk_seg dksJ6_indexOfSupplementary_2 22 rfl rfl
theorem dJ6_indexOfSupplementary_0 : decode cJ6_indexOfSupplementary 0 = .ok (.iload_n 1, 1) := dk_27 (dk_at dksJ6_indexOfSupplementary_0 0 rfl rfl)
theorem dJ6_indexOfSupplementary_1 : decode cJ6_indexOfSupplementary 1 = .ok (.invokestatic 164, 3) := dk_184 0 164 (dk_at dksJ6_indexOfSupplementary_0 1 rfl rfl)
theorem dJ6_indexOfSupplementary_4 : decode cJ6_indexOfSupplementary 4 = .ok (.ifCond .eq 65, 3) := dk_153 0 65 (dk_at dksJ6_indexOfSupplementary_0 4 rfl rfl)
theorem dJ6_indexOfSupplementary_7 : decode cJ6_indexOfSupplementary 7 = .ok (.iload_n 1, 1) := dk_27 (dk_at dksJ6_indexOfSupplementary_0 7 rfl rfl)
theorem dJ6_indexOfSupplementary_8 : decode cJ6_indexOfSupplementary 8 = .ok (.invokestatic 157, 3) := dk_184 0 157 (dk_at dksJ6_indexOfSupplementary_0 8 rfl rfl)
theorem dJ6_indexOfSupplementary_11 : decode cJ6_indexOfSupplementary 11 = .ok (.istore 4, 2) := dk_54 4 (dk_at dksJ6_indexOfSupplementary_0 11 rfl rfl)
theorem dJ6_indexOfSupplementary_13 : decode cJ6_indexOfSupplementary 13 = .ok (.iload_n 1, 1) := dk_27 (dk_at dksJ6_indexOfSupplementary_0 13 rfl rfl)
theorem dJ6_indexOfSupplementary_14 : decode cJ6_indexOfSupplementary 14 = .ok (.invokestatic 161, 3) := dk_184 0 161 (dk_at dksJ6_indexOfSupplementary_0 14 rfl rfl)
theorem dJ6_indexOfSupplementary_17 : decode cJ6_indexOfSupplementary 17 = .ok (.istore 5, 2) := dk_54 5 (dk_at dksJ6_indexOfSupplementary_0 17 rfl rfl)
theorem dJ6_indexOfSupplementary_19 : decode cJ6_indexOfSupplementary 19 = .ok (.iload_n 2, 1) := dk_28 (dk_at dksJ6_indexOfSupplementary_0 19 rfl rfl)
theorem dJ6_indexOfSupplementary_20 : decode cJ6_indexOfSupplementary 20 = .ok (.iload_n 3, 1) := dk_29 (dk_at dksJ6_indexOfSupplementary_0 20 rfl rfl)
theorem dJ6_indexOfSupplementary_21 : decode cJ6_indexOfSupplementary 21 = .ok (.aload_n 0, 1) := dk_42 (dk_at dksJ6_indexOfSupplementary_0 21 rfl rfl)
theorem dJ6_indexOfSupplementary_22 : decode cJ6_indexOfSupplementary 22 = .ok (.invokestatic 96, 3) := dk_184 0 96 (dk_at dksJ6_indexOfSupplementary_1 0 rfl rfl)
theorem dJ6_indexOfSupplementary_25 : decode cJ6_indexOfSupplementary 25 = .ok (.iload_n 2, 1) := dk_28 (dk_at dksJ6_indexOfSupplementary_1 3 rfl rfl)
theorem dJ6_indexOfSupplementary_26 : decode cJ6_indexOfSupplementary 26 = .ok (.istore 6, 2) := dk_54 6 (dk_at dksJ6_indexOfSupplementary_1 4 rfl rfl)
theorem dJ6_indexOfSupplementary_28 : decode cJ6_indexOfSupplementary 28 = .ok (.iload 6, 2) := dk_21 6 (dk_at dksJ6_indexOfSupplementary_1 6 rfl rfl)
theorem dJ6_indexOfSupplementary_30 : decode cJ6_indexOfSupplementary 30 = .ok (.iload_n 3, 1) := dk_29 (dk_at dksJ6_indexOfSupplementary_1 8 rfl rfl)
theorem dJ6_indexOfSupplementary_31 : decode cJ6_indexOfSupplementary 31 = .ok (.iconst 1, 1) := dk_4 (dk_at dksJ6_indexOfSupplementary_1 9 rfl rfl)
theorem dJ6_indexOfSupplementary_32 : decode cJ6_indexOfSupplementary 32 = .ok (.isub, 1) := dk_100 (dk_at dksJ6_indexOfSupplementary_1 10 rfl rfl)
theorem dJ6_indexOfSupplementary_33 : decode cJ6_indexOfSupplementary 33 = .ok (.if_icmp .ge 36, 3) := dk_162 0 36 (dk_at dksJ6_indexOfSupplementary_1 11 rfl rfl)
theorem dJ6_indexOfSupplementary_36 : decode cJ6_indexOfSupplementary 36 = .ok (.aload_n 0, 1) := dk_42 (dk_at dksJ6_indexOfSupplementary_1 14 rfl rfl)
theorem dJ6_indexOfSupplementary_37 : decode cJ6_indexOfSupplementary 37 = .ok (.iload 6, 2) := dk_21 6 (dk_at dksJ6_indexOfSupplementary_1 15 rfl rfl)
theorem dJ6_indexOfSupplementary_39 : decode cJ6_indexOfSupplementary 39 = .ok (.invokestatic 71, 3) := dk_184 0 71 (dk_at dksJ6_indexOfSupplementary_1 17 rfl rfl)
theorem dJ6_indexOfSupplementary_42 : decode cJ6_indexOfSupplementary 42 = .ok (.iload 4, 2) := dk_21 4 (dk_at dksJ6_indexOfSupplementary_1 20 rfl rfl)
theorem dJ6_indexOfSupplementary_44 : decode cJ6_indexOfSupplementary 44 = .ok (.if_icmp .ne 19, 3) := dk_160 0 19 (dk_at dksJ6_indexOfSupplementary_2 0 rfl rfl)
theorem dJ6_indexOfSupplementary_47 : decode cJ6_indexOfSupplementary 47 = .ok (.aload_n 0, 1) := dk_42 (dk_at dksJ6_indexOfSupplementary_2 3 rfl rfl)
theorem dJ6_indexOfSupplementary_48 : decode cJ6_indexOfSupplementary 48 = .ok (.iload 6, 2) := dk_21 6 (dk_at dksJ6_indexOfSupplementary_2 4 rfl rfl)
theorem dJ6_indexOfSupplementary_50 : decode cJ6_indexOfSupplementary 50 = .ok (.iconst 1, 1) := dk_4 (dk_at dksJ6_indexOfSupplementary_2 6 rfl rfl)
theorem dJ6_indexOfSupplementary_51 : decode cJ6_indexOfSupplementary 51 = .ok (.iadd, 1) := dk_96 (dk_at dksJ6_indexOfSupplementary_2 7 rfl rfl)
theorem dJ6_indexOfSupplementary_52 : decode cJ6_indexOfSupplementary 52 = .ok (.invokestatic 71, 3) := dk_184 0 71 (dk_at dksJ6_indexOfSupplementary_2 8 rfl rfl)
theorem dJ6_indexOfSupplementary_55 : decode cJ6_indexOfSupplementary 55 = .ok (.iload 5, 2) := dk_21 5 (dk_at dksJ6_indexOfSupplementary_2 11 rfl rfl)
theorem dJ6_indexOfSupplementary_57 : decode cJ6_indexOfSupplementary 57 = .ok (.if_icmp .ne 6, 3) := dk_160 0 6 (dk_at dksJ6_indexOfSupplementary_2 13 rfl rfl)
theorem dJ6_indexOfSupplementary_60 : decode cJ6_indexOfSupplementary 60 = .ok (.iload 6, 2) := dk_21 6 (dk_at dksJ6_indexOfSupplementary_2 16 rfl rfl)
theorem dJ6_indexOfSupplementary_62 : decode cJ6_indexOfSupplementary 62 = .ok (.ireturn, 1) := dk_172 (dk_at dksJ6_indexOfSupplementary_2 18 rfl rfl)
theorem dJ6_indexOfSupplementary_63 : decode cJ6_indexOfSupplementary 63 = .ok (.iinc 6 1, 3) := dk_132 6 1 (dk_at dksJ6_indexOfSupplementary_2 19 rfl rfl)
theorem dJ6_indexOfSupplementary_66 : decode cJ6_indexOfSupplementary 66 = .ok (.goto (-38), 3) := dk_167 255 218 (dk_at dksJ6_indexOfSupplementary_3 0 rfl rfl)
theorem dJ6_indexOfSupplementary_69 : decode cJ6_indexOfSupplementary 69 = .ok (.iconst (-1), 1) := dk_2 (dk_at dksJ6_indexOfSupplementary_3 3 rfl rfl)
theorem dJ6_indexOfSupplementary_70 : decode cJ6_indexOfSupplementary 70 = .ok (.ireturn, 1) := dk_172 (dk_at dksJ6_indexOfSupplementary_3 4 rfl rfl)
def dkwJ7_min_0 : List UInt8 := [26, 27, 163, 0, 7, 26, 167, 0, 4, 27, 172]
abbrev dktJ7_min_0 : List UInt8 := dkwJ7_min_0 ++ []
theorem dksJ7_min_0 : cJ7_min.data.toList.drop 0 = dktJ7_min_0 := by decide +kernel
theorem dJ7_min_0 : decode cJ7_min 0 = .ok (.iload_n 0, 1) := dk_26 (dk_at dksJ7_min_0 0 rfl rfl)
theorem dJ7_min_1 : decode cJ7_min 1 = .ok (.iload_n 1, 1) := dk_27 (dk_at dksJ7_min_0 1 rfl rfl)
theorem dJ7_min_2 : decode cJ7_min 2 = .ok (.if_icmp .gt 7, 3) := dk_163 0 7 (dk_at dksJ7_min_0 2 rfl rfl)
theorem dJ7_min_5 : decode cJ7_min 5 = .ok (.iload_n 0, 1) := dk_26 (dk_at dksJ7_min_0 5 rfl rfl)
theorem dJ7_min_6 : decode cJ7_min 6 = .ok (.goto 4, 3) := dk_167 0 4 (dk_at dksJ7_min_0 6 rfl rfl)
theorem dJ7_min_9 : decode cJ7_min 9 = .ok (.iload_n 1, 1) := dk_27 (dk_at dksJ7_min_0 9 rfl rfl)
theorem dJ7_min_10 : decode cJ7_min 10 = .ok (.ireturn, 1) := dk_172 (dk_at dksJ7_min_0 10 rfl rfl)
def dkwJ7_max_0 : List UInt8 := [26, 27, 161, 0, 7, 26, 167, 0, 4, 27, 172]
abbrev dktJ7_max_0 : List UInt8 := dkwJ7_max_0 ++ []
theorem dksJ7_max_0 : cJ7_max.data.toList.drop 0 = dktJ7_max_0 := by decide +kernel
theorem dJ7_max_0 : decode cJ7_max 0 = .ok (.iload_n 0, 1) := dk_26 (dk_at dksJ7_max_0 0 rfl rfl)
theorem dJ7_max_1 : decode cJ7_max 1 = .ok (.iload_n 1, 1) := dk_27 (dk_at dksJ7_max_0 1 rfl rfl)
theorem dJ7_max_2 : decode cJ7_max 2 = .ok (.if_icmp .lt 7, 3) := dk_161 0 7 (dk_at dksJ7_max_0 2 rfl rfl)
theorem dJ7_max_5 : decode cJ7_max 5 = .ok (.iload_n 0, 1) := dk_26 (dk_at dksJ7_max_0 5 rfl rfl)
theorem dJ7_max_6 : decode cJ7_max 6 = .ok (.goto 4, 3) := dk_167 0 4 (dk_at dksJ7_max_0 6 rfl rfl)
theorem dJ7_max_9 : decode cJ7_max 9 = .ok (.iload_n 1, 1) := dk_27 (dk_at dksJ7_max_0 9 rfl rfl)
theorem dJ7_max_10 : decode cJ7_max 10 = .ok (.ireturn, 1) := dk_172 (dk_at dksJ7_max_0 10 rfl rfl)
def dkwJ7_max_2_0 : List UInt8 := [30, 32, 148, 155, 0, 7, 30, 167, 0, 4, 32, 173]
abbrev dktJ7_max_2_0 : List UInt8 := dkwJ7_max_2_0 ++ []
theorem dksJ7_max_2_0 : cJ7_max_2.data.toList.drop 0 = dktJ7_max_2_0 := by decide +kernel
theorem dJ7_max_2_0 : decode cJ7_max_2 0 = .ok (.lload_n 0, 1) := dk_30 (dk_at dksJ7_max_2_0 0 rfl rfl)
theorem dJ7_max_2_1 : decode cJ7_max_2 1 = .ok (.lload_n 2, 1) := dk_32 (dk_at dksJ7_max_2_0 1 rfl rfl)
theorem dJ7_max_2_2 : decode cJ7_max_2 2 = .ok (.lcmp, 1) := dk_148 (dk_at dksJ7_max_2_0 2 rfl rfl)
theorem dJ7_max_2_3 : decode cJ7_max_2 3 = .ok (.ifCond .lt 7, 3) := dk_155 0 7 (dk_at dksJ7_max_2_0 3 rfl rfl)
theorem dJ7_max_2_6 : decode cJ7_max_2 6 = .ok (.lload_n 0, 1) := dk_30 (dk_at dksJ7_max_2_0 6 rfl rfl)
theorem dJ7_max_2_7 : decode cJ7_max_2 7 = .ok (.goto 4, 3) := dk_167 0 4 (dk_at dksJ7_max_2_0 7 rfl rfl)
theorem dJ7_max_2_10 : decode cJ7_max_2 10 = .ok (.lload_n 2, 1) := dk_32 (dk_at dksJ7_max_2_0 10 rfl rfl)
theorem dJ7_max_2_11 : decode cJ7_max_2 11 = .ok (.lreturn, 1) := dk_173 (dk_at dksJ7_max_2_0 11 rfl rfl)
def dkwJ8_isValidCodePoint_0 : List UInt8 := [26, 16, 16, 124, 60, 27, 16, 17, 162, 0, 7, 4, 167, 0, 4, 3, 172]
abbrev dktJ8_isValidCodePoint_0 : List UInt8 := dkwJ8_isValidCodePoint_0 ++ []
theorem dksJ8_isValidCodePoint_0 : cJ8_isValidCodePoint.data.toList.drop 0 = dktJ8_isValidCodePoint_0 := by decide +kernel
theorem dJ8_isValidCodePoint_0 : decode cJ8_isValidCodePoint 0 = .ok (.iload_n 0, 1) := dk_26 (dk_at dksJ8_isValidCodePoint_0 0 rfl rfl)
theorem dJ8_isValidCodePoint_1 : decode cJ8_isValidCodePoint 1 = .ok (.bipush 16, 2) := dk_16 16 (dk_at dksJ8_isValidCodePoint_0 1 rfl rfl)
theorem dJ8_isValidCodePoint_3 : decode cJ8_isValidCodePoint 3 = .ok (.iushr, 1) := dk_124 (dk_at dksJ8_isValidCodePoint_0 3 rfl rfl)
theorem dJ8_isValidCodePoint_4 : decode cJ8_isValidCodePoint 4 = .ok (.istore_n 1, 1) := dk_60 (dk_at dksJ8_isValidCodePoint_0 4 rfl rfl)
theorem dJ8_isValidCodePoint_5 : decode cJ8_isValidCodePoint 5 = .ok (.iload_n 1, 1) := dk_27 (dk_at dksJ8_isValidCodePoint_0 5 rfl rfl)
theorem dJ8_isValidCodePoint_6 : decode cJ8_isValidCodePoint 6 = .ok (.bipush 17, 2) := dk_16 17 (dk_at dksJ8_isValidCodePoint_0 6 rfl rfl)
theorem dJ8_isValidCodePoint_8 : decode cJ8_isValidCodePoint 8 = .ok (.if_icmp .ge 7, 3) := dk_162 0 7 (dk_at dksJ8_isValidCodePoint_0 8 rfl rfl)
theorem dJ8_isValidCodePoint_11 : decode cJ8_isValidCodePoint 11 = .ok (.iconst 1, 1) := dk_4 (dk_at dksJ8_isValidCodePoint_0 11 rfl rfl)
theorem dJ8_isValidCodePoint_12 : decode cJ8_isValidCodePoint 12 = .ok (.goto 4, 3) := dk_167 0 4 (dk_at dksJ8_isValidCodePoint_0 12 rfl rfl)
theorem dJ8_isValidCodePoint_15 : decode cJ8_isValidCodePoint 15 = .ok (.iconst 0, 1) := dk_3 (dk_at dksJ8_isValidCodePoint_0 15 rfl rfl)
theorem dJ8_isValidCodePoint_16 : decode cJ8_isValidCodePoint 16 = .ok (.ireturn, 1) := dk_172 (dk_at dksJ8_isValidCodePoint_0 16 rfl rfl)
def dkwJ8_highSurrogate_0 : List UInt8 := [26, 16, 10, 124, 18, 110, 96, 146, 172]
abbrev dktJ8_highSurrogate_0 : List UInt8 := dkwJ8_highSurrogate_0 ++ []
theorem dksJ8_highSurrogate_0 : cJ8_highSurrogate.data.toList.drop 0 = dktJ8_highSurrogate_0 := by decide +kernel
theorem dJ8_highSurrogate_0 : decode cJ8_highSurrogate 0 = .ok (.iload_n 0, 1) := dk_26 (dk_at dksJ8_highSurrogate_0 0 rfl rfl)
theorem dJ8_highSurrogate_1 : decode cJ8_highSurrogate 1 = .ok (.bipush 10, 2) := dk_16 10 (dk_at dksJ8_highSurrogate_0 1 rfl rfl)
theorem dJ8_highSurrogate_3 : decode cJ8_highSurrogate 3 = .ok (.iushr, 1) := dk_124 (dk_at dksJ8_highSurrogate_0 3 rfl rfl)
theorem dJ8_highSurrogate_4 : decode cJ8_highSurrogate 4 = .ok (.ldc 110, 2) := dk_18 110 (dk_at dksJ8_highSurrogate_0 4 rfl rfl)
theorem dJ8_highSurrogate_6 : decode cJ8_highSurrogate 6 = .ok (.iadd, 1) := dk_96 (dk_at dksJ8_highSurrogate_0 6 rfl rfl)
theorem dJ8_highSurrogate_7 : decode cJ8_highSurrogate 7 = .ok (.i2c, 1) := dk_146 (dk_at dksJ8_highSurrogate_0 7 rfl rfl)
theorem dJ8_highSurrogate_8 : decode cJ8_highSurrogate 8 = .ok (.ireturn, 1) := dk_172 (dk_at dksJ8_highSurrogate_0 8 rfl rfl)
def dkwJ8_lowSurrogate_0 : List UInt8 := [26, 17, 3, 255, 126, 18, 76, 96, 146, 172]
abbrev dktJ8_lowSurrogate_0 : List UInt8 := dkwJ8_lowSurrogate_0 ++ []
theorem dksJ8_lowSurrogate_0 : cJ8_lowSurrogate.data.toList.drop 0 = dktJ8_lowSurrogate_0 := by decide +kernel
theorem dJ8_lowSurrogate_0 : decode cJ8_lowSurrogate 0 = .ok (.iload_n 0, 1) := dk_26 (dk_at dksJ8_lowSurrogate_0 0 rfl rfl)
theorem dJ8_lowSurrogate_1 : decode cJ8_lowSurrogate 1 = .ok (.sipush 1023, 3) := dk_17 3 255 (dk_at dksJ8_lowSurrogate_0 1 rfl rfl)
theorem dJ8_lowSurrogate_4 : decode cJ8_lowSurrogate 4 = .ok (.iand, 1) := dk_126 (dk_at dksJ8_lowSurrogate_0 4 rfl rfl)
theorem dJ8_lowSurrogate_5 : decode cJ8_lowSurrogate 5 = .ok (.ldc 76, 2) := dk_18 76 (dk_at dksJ8_lowSurrogate_0 5 rfl rfl)
theorem dJ8_lowSurrogate_7 : decode cJ8_lowSurrogate 7 = .ok (.iadd, 1) := dk_96 (dk_at dksJ8_lowSurrogate_0 7 rfl rfl)
theorem dJ8_lowSurrogate_8 : decode cJ8_lowSurrogate 8 = .ok (.i2c, 1) := dk_146 (dk_at dksJ8_lowSurrogate_0 8 rfl rfl)
theorem dJ8_lowSurrogate_9 : decode cJ8_lowSurrogate 9 = .ok (.ireturn, 1) := dk_172 (dk_at dksJ8_lowSurrogate_0 9 rfl rfl)
theorem dJ9_init_0 : decode cJ9_init 0 = .ok (.aload_n 0, 1) := by decide +kernel
theorem dJ9_init_1 : decode cJ9_init 1 = .ok (.invokespecial 1, 3) := by decide +kernel
theorem dJ9_init_4 : decode cJ9_init 4 = .ok (.return_, 1) := by decide +kernel
def dkwJ9_init_2_0 : List UInt8 := [42, 43, 183, 0, 7, 177]
abbrev dktJ9_init_2_0 : List UInt8 := dkwJ9_init_2_0 ++ []
theorem dksJ9_init_2_0 : cJ9_init_2.data.toList.drop 0 = dktJ9_init_2_0 := by decide +kernel
theorem dJ9_init_2_0 : decode cJ9_init_2 0 = .ok (.aload_n 0, 1) := dk_42 (dk_at dksJ9_init_2_0 0 rfl rfl)
theorem dJ9_init_2_1 : decode cJ9_init_2 1 = .ok (.aload_n 1, 1) := dk_43 (dk_at dksJ9_init_2_0 1 rfl rfl)
theorem dJ9_init_2_2 : decode cJ9_init_2 2 = .ok (.invokespecial 7, 3) := dk_183 0 7 (dk_at dksJ9_init_2_0 2 rfl rfl)
theorem dJ9_init_2_5 : decode cJ9_init_2 5 = .ok (.return_, 1) := dk_177 (dk_at dksJ9_init_2_0 5 rfl rfl)
def dkwJ10_init_0 : List UInt8 := [42, 43, 183, 0, 7, 177]
abbrev dktJ10_init_0 : List UInt8 := dkwJ10_init_0 ++ []
theorem dksJ10_init_0 : cJ10_init.data.toList.drop 0 = dktJ10_init_0 := by decide +kernel
theorem dJ10_init_0 : decode cJ10_init 0 = .ok (.aload_n 0, 1) := dk_42 (dk_at dksJ10_init_0 0 rfl rfl)
theorem dJ10_init_1 : decode cJ10_init 1 = .ok (.aload_n 1, 1) := dk_43 (dk_at dksJ10_init_0 1 rfl rfl)
theorem dJ10_init_2 : decode cJ10_init 2 = .ok (.invokespecial 7, 3) := dk_183 0 7 (dk_at dksJ10_init_0 2 rfl rfl)
theorem dJ10_init_5 : decode cJ10_init 5 = .ok (.return_, 1) := dk_177 (dk_at dksJ10_init_0 5 rfl rfl)
theorem dJ11_init_0 : decode cJ11_init 0 = .ok (.aload_n 0, 1) := by decide +kernel
theorem dJ11_init_1 : decode cJ11_init 1 = .ok (.invokespecial 1, 3) := by decide +kernel
theorem dJ11_init_4 : decode cJ11_init 4 = .ok (.return_, 1) := by decide +kernel
def dkwJ12_init_0 : List UInt8 := [42, 43, 183, 0, 7, 177]
abbrev dktJ12_init_0 : List UInt8 := dkwJ12_init_0 ++ []
theorem dksJ12_init_0 : cJ12_init.data.toList.drop 0 = dktJ12_init_0 := by decide +kernel
theorem dJ12_init_0 : decode cJ12_init 0 = .ok (.aload_n 0, 1) := dk_42 (dk_at dksJ12_init_0 0 rfl rfl)
theorem dJ12_init_1 : decode cJ12_init 1 = .ok (.aload_n 1, 1) := dk_43 (dk_at dksJ12_init_0 1 rfl rfl)
theorem dJ12_init_2 : decode cJ12_init 2 = .ok (.invokespecial 7, 3) := dk_183 0 7 (dk_at dksJ12_init_0 2 rfl rfl)
theorem dJ12_init_5 : decode cJ12_init 5 = .ok (.return_, 1) := dk_177 (dk_at dksJ12_init_0 5 rfl rfl)
def dkwJ13_init_0 : List UInt8 := [42, 43, 183, 0, 7, 177]
abbrev dktJ13_init_0 : List UInt8 := dkwJ13_init_0 ++ []
theorem dksJ13_init_0 : cJ13_init.data.toList.drop 0 = dktJ13_init_0 := by decide +kernel
theorem dJ13_init_0 : decode cJ13_init 0 = .ok (.aload_n 0, 1) := dk_42 (dk_at dksJ13_init_0 0 rfl rfl)
theorem dJ13_init_1 : decode cJ13_init 1 = .ok (.aload_n 1, 1) := dk_43 (dk_at dksJ13_init_0 1 rfl rfl)
theorem dJ13_init_2 : decode cJ13_init 2 = .ok (.invokespecial 7, 3) := dk_183 0 7 (dk_at dksJ13_init_0 2 rfl rfl)
theorem dJ13_init_5 : decode cJ13_init 5 = .ok (.return_, 1) := dk_177 (dk_at dksJ13_init_0 5 rfl rfl)
theorem dJ14_init_0 : decode cJ14_init 0 = .ok (.return_, 1) := by decide +kernel
