set_option maxRecDepth 100000
def dkwX0_plant_3 : List UInt8 := [42, 180, 0, 18, 4, 100, 172]
abbrev dktX0_plant_3 : List UInt8 := dkwX0_plant_3 ++ []
def dkwX0_plant_2 : List UInt8 := [180, 0, 51, 42, 180, 0, 18, 27, 28, 29, 184, 0, 55, 83, 42, 89, 180, 0, 18, 4, 96, 181, 0, 18]
abbrev dktX0_plant_2 : List UInt8 := dkwX0_plant_2 ++ dktX0_plant_3
def dkwX0_plant_1 : List UInt8 := [29, 184, 0, 47, 154, 0, 6, 16, 254, 172, 42, 180, 0, 18, 16, 8, 160, 0, 6, 16, 252, 172, 42]
abbrev dktX0_plant_1 : List UInt8 := dkwX0_plant_1 ++ dktX0_plant_2
def dkwX0_plant_0 : List UInt8 := [27, 133, 9, 20, 0, 43, 184, 0, 14, 153, 0, 22, 28, 133, 9, 20, 0, 45, 184, 0, 14, 153, 0, 10]
abbrev dktX0_plant_0 : List UInt8 := dkwX0_plant_0 ++ dktX0_plant_1
theorem dksX0_plant_0 : cX0_plant.data.toList.drop 0 = dktX0_plant_0 := by decide +kernel
theorem dksX0_plant_1 : cX0_plant.data.toList.drop 24 = dktX0_plant_1 := dk_seg dksX0_plant_0 24 rfl rfl
theorem dksX0_plant_2 : cX0_plant.data.toList.drop 47 = dktX0_plant_2 := dk_seg dksX0_plant_1 23 rfl rfl
theorem dksX0_plant_3 : cX0_plant.data.toList.drop 71 = dktX0_plant_3 := dk_seg dksX0_plant_2 24 rfl rfl
theorem dX0_plant_0 : decode cX0_plant 0 = .ok (.iload_n 1, 1) := dk_27 (dk_at dksX0_plant_0 0 rfl rfl)
theorem dX0_plant_1 : decode cX0_plant 1 = .ok (.i2l, 1) := dk_133 (dk_at dksX0_plant_0 1 rfl rfl)
theorem dX0_plant_2 : decode cX0_plant 2 = .ok (.lconst 0, 1) := dk_9 (dk_at dksX0_plant_0 2 rfl rfl)
theorem dX0_plant_3 : decode cX0_plant 3 = .ok (.ldc2_w 43, 3) := dk_20 0 43 (dk_at dksX0_plant_0 3 rfl rfl)
theorem dX0_plant_6 : decode cX0_plant 6 = .ok (.invokestatic 14, 3) := dk_184 0 14 (dk_at dksX0_plant_0 6 rfl rfl)
theorem dX0_plant_9 : decode cX0_plant 9 = .ok (.ifCond .eq 22, 3) := dk_153 0 22 (dk_at dksX0_plant_0 9 rfl rfl)
theorem dX0_plant_12 : decode cX0_plant 12 = .ok (.iload_n 2, 1) := dk_28 (dk_at dksX0_plant_0 12 rfl rfl)
theorem dX0_plant_13 : decode cX0_plant 13 = .ok (.i2l, 1) := dk_133 (dk_at dksX0_plant_0 13 rfl rfl)
theorem dX0_plant_14 : decode cX0_plant 14 = .ok (.lconst 0, 1) := dk_9 (dk_at dksX0_plant_0 14 rfl rfl)
theorem dX0_plant_15 : decode cX0_plant 15 = .ok (.ldc2_w 45, 3) := dk_20 0 45 (dk_at dksX0_plant_0 15 rfl rfl)
theorem dX0_plant_18 : decode cX0_plant 18 = .ok (.invokestatic 14, 3) := dk_184 0 14 (dk_at dksX0_plant_0 18 rfl rfl)
theorem dX0_plant_21 : decode cX0_plant 21 = .ok (.ifCond .eq 10, 3) := dk_153 0 10 (dk_at dksX0_plant_0 21 rfl rfl)
theorem dX0_plant_24 : decode cX0_plant 24 = .ok (.iload_n 3, 1) := dk_29 (dk_at dksX0_plant_1 0 rfl rfl)
theorem dX0_plant_25 : decode cX0_plant 25 = .ok (.invokestatic 47, 3) := dk_184 0 47 (dk_at dksX0_plant_1 1 rfl rfl)
theorem dX0_plant_28 : decode cX0_plant 28 = .ok (.ifCond .ne 6, 3) := dk_154 0 6 (dk_at dksX0_plant_1 4 rfl rfl)
theorem dX0_plant_31 : decode cX0_plant 31 = .ok (.bipush (-2), 2) := dk_16 254 (dk_at dksX0_plant_1 7 rfl rfl)
theorem dX0_plant_33 : decode cX0_plant 33 = .ok (.ireturn, 1) := dk_172 (dk_at dksX0_plant_1 9 rfl rfl)
theorem dX0_plant_34 : decode cX0_plant 34 = .ok (.aload_n 0, 1) := dk_42 (dk_at dksX0_plant_1 10 rfl rfl)
theorem dX0_plant_35 : decode cX0_plant 35 = .ok (.getfield 18, 3) := dk_180 0 18 (dk_at dksX0_plant_1 11 rfl rfl)
theorem dX0_plant_38 : decode cX0_plant 38 = .ok (.bipush 8, 2) := dk_16 8 (dk_at dksX0_plant_1 14 rfl rfl)
theorem dX0_plant_40 : decode cX0_plant 40 = .ok (.if_icmp .ne 6, 3) := dk_160 0 6 (dk_at dksX0_plant_1 16 rfl rfl)
theorem dX0_plant_43 : decode cX0_plant 43 = .ok (.bipush (-4), 2) := dk_16 252 (dk_at dksX0_plant_1 19 rfl rfl)
theorem dX0_plant_45 : decode cX0_plant 45 = .ok (.ireturn, 1) := dk_172 (dk_at dksX0_plant_1 21 rfl rfl)
theorem dX0_plant_46 : decode cX0_plant 46 = .ok (.aload_n 0, 1) := dk_42 (dk_at dksX0_plant_1 22 rfl rfl)
theorem dX0_plant_47 : decode cX0_plant 47 = .ok (.getfield 51, 3) := dk_180 0 51 (dk_at dksX0_plant_2 0 rfl rfl)
theorem dX0_plant_50 : decode cX0_plant 50 = .ok (.aload_n 0, 1) := dk_42 (dk_at dksX0_plant_2 3 rfl rfl)
theorem dX0_plant_51 : decode cX0_plant 51 = .ok (.getfield 18, 3) := dk_180 0 18 (dk_at dksX0_plant_2 4 rfl rfl)
theorem dX0_plant_54 : decode cX0_plant 54 = .ok (.iload_n 1, 1) := dk_27 (dk_at dksX0_plant_2 7 rfl rfl)
theorem dX0_plant_55 : decode cX0_plant 55 = .ok (.iload_n 2, 1) := dk_28 (dk_at dksX0_plant_2 8 rfl rfl)
theorem dX0_plant_56 : decode cX0_plant 56 = .ok (.iload_n 3, 1) := dk_29 (dk_at dksX0_plant_2 9 rfl rfl)
theorem dX0_plant_57 : decode cX0_plant 57 = .ok (.invokestatic 55, 3) := dk_184 0 55 (dk_at dksX0_plant_2 10 rfl rfl)
theorem dX0_plant_60 : decode cX0_plant 60 = .ok (.aastore, 1) := dk_83 (dk_at dksX0_plant_2 13 rfl rfl)
theorem dX0_plant_61 : decode cX0_plant 61 = .ok (.aload_n 0, 1) := dk_42 (dk_at dksX0_plant_2 14 rfl rfl)
theorem dX0_plant_62 : decode cX0_plant 62 = .ok (.dup, 1) := dk_89 (dk_at dksX0_plant_2 15 rfl rfl)
theorem dX0_plant_63 : decode cX0_plant 63 = .ok (.getfield 18, 3) := dk_180 0 18 (dk_at dksX0_plant_2 16 rfl rfl)
theorem dX0_plant_66 : decode cX0_plant 66 = .ok (.iconst 1, 1) := dk_4 (dk_at dksX0_plant_2 19 rfl rfl)
theorem dX0_plant_67 : decode cX0_plant 67 = .ok (.iadd, 1) := dk_96 (dk_at dksX0_plant_2 20 rfl rfl)
theorem dX0_plant_68 : decode cX0_plant 68 = .ok (.putfield 18, 3) := dk_181 0 18 (dk_at dksX0_plant_2 21 rfl rfl)
theorem dX0_plant_71 : decode cX0_plant 71 = .ok (.aload_n 0, 1) := dk_42 (dk_at dksX0_plant_3 0 rfl rfl)
theorem dX0_plant_72 : decode cX0_plant 72 = .ok (.getfield 18, 3) := dk_180 0 18 (dk_at dksX0_plant_3 1 rfl rfl)
theorem dX0_plant_75 : decode cX0_plant 75 = .ok (.iconst 1, 1) := dk_4 (dk_at dksX0_plant_3 4 rfl rfl)
theorem dX0_plant_76 : decode cX0_plant 76 = .ok (.isub, 1) := dk_100 (dk_at dksX0_plant_3 5 rfl rfl)
theorem dX0_plant_77 : decode cX0_plant 77 = .ok (.ireturn, 1) := dk_172 (dk_at dksX0_plant_3 6 rfl rfl)
def dkwX0_in_0 : List UInt8 := [30, 32, 148, 155, 0, 14, 30, 22, 4, 148, 157, 0, 7, 4, 167, 0, 4, 3, 172]
abbrev dktX0_in_0 : List UInt8 := dkwX0_in_0 ++ []
theorem dksX0_in_0 : cX0_in.data.toList.drop 0 = dktX0_in_0 := by decide +kernel
theorem dX0_in_0 : decode cX0_in 0 = .ok (.lload_n 0, 1) := dk_30 (dk_at dksX0_in_0 0 rfl rfl)
theorem dX0_in_1 : decode cX0_in 1 = .ok (.lload_n 2, 1) := dk_32 (dk_at dksX0_in_0 1 rfl rfl)
theorem dX0_in_2 : decode cX0_in 2 = .ok (.lcmp, 1) := dk_148 (dk_at dksX0_in_0 2 rfl rfl)
theorem dX0_in_3 : decode cX0_in 3 = .ok (.ifCond .lt 14, 3) := dk_155 0 14 (dk_at dksX0_in_0 3 rfl rfl)
theorem dX0_in_6 : decode cX0_in 6 = .ok (.lload_n 0, 1) := dk_30 (dk_at dksX0_in_0 6 rfl rfl)
theorem dX0_in_7 : decode cX0_in 7 = .ok (.lload 4, 2) := dk_22 4 (dk_at dksX0_in_0 7 rfl rfl)
theorem dX0_in_9 : decode cX0_in 9 = .ok (.lcmp, 1) := dk_148 (dk_at dksX0_in_0 9 rfl rfl)
theorem dX0_in_10 : decode cX0_in 10 = .ok (.ifCond .gt 7, 3) := dk_157 0 7 (dk_at dksX0_in_0 10 rfl rfl)
theorem dX0_in_13 : decode cX0_in 13 = .ok (.iconst 1, 1) := dk_4 (dk_at dksX0_in_0 13 rfl rfl)
theorem dX0_in_14 : decode cX0_in 14 = .ok (.goto 4, 3) := dk_167 0 4 (dk_at dksX0_in_0 14 rfl rfl)
theorem dX0_in_17 : decode cX0_in 17 = .ok (.iconst 0, 1) := dk_3 (dk_at dksX0_in_0 17 rfl rfl)
theorem dX0_in_18 : decode cX0_in 18 = .ok (.ireturn, 1) := dk_172 (dk_at dksX0_in_0 18 rfl rfl)
def dkwX0_isGarden_0 : List UInt8 := [26, 133, 9, 20, 0, 12, 184, 0, 14, 172]
abbrev dktX0_isGarden_0 : List UInt8 := dkwX0_isGarden_0 ++ []
theorem dksX0_isGarden_0 : cX0_isGarden.data.toList.drop 0 = dktX0_isGarden_0 := by decide +kernel
theorem dX0_isGarden_0 : decode cX0_isGarden 0 = .ok (.iload_n 0, 1) := dk_26 (dk_at dksX0_isGarden_0 0 rfl rfl)
theorem dX0_isGarden_1 : decode cX0_isGarden 1 = .ok (.i2l, 1) := dk_133 (dk_at dksX0_isGarden_0 1 rfl rfl)
theorem dX0_isGarden_2 : decode cX0_isGarden 2 = .ok (.lconst 0, 1) := dk_9 (dk_at dksX0_isGarden_0 2 rfl rfl)
theorem dX0_isGarden_3 : decode cX0_isGarden 3 = .ok (.ldc2_w 12, 3) := dk_20 0 12 (dk_at dksX0_isGarden_0 3 rfl rfl)
theorem dX0_isGarden_6 : decode cX0_isGarden 6 = .ok (.invokestatic 14, 3) := dk_184 0 14 (dk_at dksX0_isGarden_0 6 rfl rfl)
theorem dX0_isGarden_9 : decode cX0_isGarden 9 = .ok (.ireturn, 1) := dk_172 (dk_at dksX0_isGarden_0 9 rfl rfl)
def dkwX0_made_4 : List UInt8 := [183, 0, 39, 176, 187, 0, 40, 89, 27, 28, 183, 0, 42, 176]
abbrev dktX0_made_4 : List UInt8 := dkwX0_made_4 ++ []
def dkwX0_made_3 : List UInt8 := [27, 28, 183, 0, 33, 176, 187, 0, 34, 89, 27, 28, 183, 0, 36, 176, 187, 0, 37, 89, 27, 28]
abbrev dktX0_made_3 : List UInt8 := dkwX0_made_3 ++ dktX0_made_4
def dkwX0_made_2 : List UInt8 := [187, 0, 22, 89, 27, 28, 183, 0, 24, 176, 187, 0, 28, 89, 27, 28, 183, 0, 30, 176, 187, 0, 31, 89]
abbrev dktX0_made_2 : List UInt8 := dkwX0_made_2 ++ dktX0_made_3
def dkwX0_made_1 : List UInt8 := [170, 0, 0, 0, 0, 0, 85, 0, 0, 0, 1, 0, 0, 0, 5, 0, 0, 0, 35, 0, 0, 0, 45, 0, 0, 0, 55, 0, 0, 0, 65, 0, 0, 0, 75]
abbrev dktX0_made_1 : List UInt8 := dkwX0_made_1 ++ dktX0_made_2
def dkwX0_made_0 : List UInt8 := [26]
abbrev dktX0_made_0 : List UInt8 := dkwX0_made_0 ++ dktX0_made_1
theorem dksX0_made_0 : cX0_made.data.toList.drop 0 = dktX0_made_0 := by decide +kernel
theorem dksX0_made_1 : cX0_made.data.toList.drop 1 = dktX0_made_1 := dk_seg dksX0_made_0 1 rfl rfl
theorem dksX0_made_2 : cX0_made.data.toList.drop 36 = dktX0_made_2 := dk_seg dksX0_made_1 35 rfl rfl
theorem dksX0_made_3 : cX0_made.data.toList.drop 60 = dktX0_made_3 := dk_seg dksX0_made_2 24 rfl rfl
theorem dksX0_made_4 : cX0_made.data.toList.drop 82 = dktX0_made_4 := dk_seg dksX0_made_3 22 rfl rfl
theorem dX0_made_0 : decode cX0_made 0 = .ok (.iload_n 0, 1) := dk_26 (dk_at dksX0_made_0 0 rfl rfl)
theorem dX0_made_1 : decode cX0_made 1 = .ok (.tableswitch 85 1 5 #[35, 45, 55, 65, 75], 35) := by decide +kernel
theorem dX0_made_36 : decode cX0_made 36 = .ok (.new 22, 3) := dk_187 0 22 (dk_at dksX0_made_2 0 rfl rfl)
theorem dX0_made_39 : decode cX0_made 39 = .ok (.dup, 1) := dk_89 (dk_at dksX0_made_2 3 rfl rfl)
theorem dX0_made_40 : decode cX0_made 40 = .ok (.iload_n 1, 1) := dk_27 (dk_at dksX0_made_2 4 rfl rfl)
theorem dX0_made_41 : decode cX0_made 41 = .ok (.iload_n 2, 1) := dk_28 (dk_at dksX0_made_2 5 rfl rfl)
theorem dX0_made_42 : decode cX0_made 42 = .ok (.invokespecial 24, 3) := dk_183 0 24 (dk_at dksX0_made_2 6 rfl rfl)
theorem dX0_made_45 : decode cX0_made 45 = .ok (.areturn, 1) := dk_176 (dk_at dksX0_made_2 9 rfl rfl)
theorem dX0_made_46 : decode cX0_made 46 = .ok (.new 28, 3) := dk_187 0 28 (dk_at dksX0_made_2 10 rfl rfl)
theorem dX0_made_49 : decode cX0_made 49 = .ok (.dup, 1) := dk_89 (dk_at dksX0_made_2 13 rfl rfl)
theorem dX0_made_50 : decode cX0_made 50 = .ok (.iload_n 1, 1) := dk_27 (dk_at dksX0_made_2 14 rfl rfl)
theorem dX0_made_51 : decode cX0_made 51 = .ok (.iload_n 2, 1) := dk_28 (dk_at dksX0_made_2 15 rfl rfl)
theorem dX0_made_52 : decode cX0_made 52 = .ok (.invokespecial 30, 3) := dk_183 0 30 (dk_at dksX0_made_2 16 rfl rfl)
theorem dX0_made_55 : decode cX0_made 55 = .ok (.areturn, 1) := dk_176 (dk_at dksX0_made_2 19 rfl rfl)
theorem dX0_made_56 : decode cX0_made 56 = .ok (.new 31, 3) := dk_187 0 31 (dk_at dksX0_made_2 20 rfl rfl)
theorem dX0_made_59 : decode cX0_made 59 = .ok (.dup, 1) := dk_89 (dk_at dksX0_made_2 23 rfl rfl)
theorem dX0_made_60 : decode cX0_made 60 = .ok (.iload_n 1, 1) := dk_27 (dk_at dksX0_made_3 0 rfl rfl)
theorem dX0_made_61 : decode cX0_made 61 = .ok (.iload_n 2, 1) := dk_28 (dk_at dksX0_made_3 1 rfl rfl)
theorem dX0_made_62 : decode cX0_made 62 = .ok (.invokespecial 33, 3) := dk_183 0 33 (dk_at dksX0_made_3 2 rfl rfl)
theorem dX0_made_65 : decode cX0_made 65 = .ok (.areturn, 1) := dk_176 (dk_at dksX0_made_3 5 rfl rfl)
theorem dX0_made_66 : decode cX0_made 66 = .ok (.new 34, 3) := dk_187 0 34 (dk_at dksX0_made_3 6 rfl rfl)
theorem dX0_made_69 : decode cX0_made 69 = .ok (.dup, 1) := dk_89 (dk_at dksX0_made_3 9 rfl rfl)
theorem dX0_made_70 : decode cX0_made 70 = .ok (.iload_n 1, 1) := dk_27 (dk_at dksX0_made_3 10 rfl rfl)
theorem dX0_made_71 : decode cX0_made 71 = .ok (.iload_n 2, 1) := dk_28 (dk_at dksX0_made_3 11 rfl rfl)
theorem dX0_made_72 : decode cX0_made 72 = .ok (.invokespecial 36, 3) := dk_183 0 36 (dk_at dksX0_made_3 12 rfl rfl)
theorem dX0_made_75 : decode cX0_made 75 = .ok (.areturn, 1) := dk_176 (dk_at dksX0_made_3 15 rfl rfl)
theorem dX0_made_76 : decode cX0_made 76 = .ok (.new 37, 3) := dk_187 0 37 (dk_at dksX0_made_3 16 rfl rfl)
theorem dX0_made_79 : decode cX0_made 79 = .ok (.dup, 1) := dk_89 (dk_at dksX0_made_3 19 rfl rfl)
theorem dX0_made_80 : decode cX0_made 80 = .ok (.iload_n 1, 1) := dk_27 (dk_at dksX0_made_3 20 rfl rfl)
theorem dX0_made_81 : decode cX0_made 81 = .ok (.iload_n 2, 1) := dk_28 (dk_at dksX0_made_3 21 rfl rfl)
theorem dX0_made_82 : decode cX0_made 82 = .ok (.invokespecial 39, 3) := dk_183 0 39 (dk_at dksX0_made_4 0 rfl rfl)
theorem dX0_made_85 : decode cX0_made 85 = .ok (.areturn, 1) := dk_176 (dk_at dksX0_made_4 3 rfl rfl)
theorem dX0_made_86 : decode cX0_made 86 = .ok (.new 40, 3) := dk_187 0 40 (dk_at dksX0_made_4 4 rfl rfl)
theorem dX0_made_89 : decode cX0_made 89 = .ok (.dup, 1) := dk_89 (dk_at dksX0_made_4 7 rfl rfl)
theorem dX0_made_90 : decode cX0_made 90 = .ok (.iload_n 1, 1) := dk_27 (dk_at dksX0_made_4 8 rfl rfl)
theorem dX0_made_91 : decode cX0_made 91 = .ok (.iload_n 2, 1) := dk_28 (dk_at dksX0_made_4 9 rfl rfl)
theorem dX0_made_92 : decode cX0_made 92 = .ok (.invokespecial 42, 3) := dk_183 0 42 (dk_at dksX0_made_4 10 rfl rfl)
theorem dX0_made_95 : decode cX0_made 95 = .ok (.areturn, 1) := dk_176 (dk_at dksX0_made_4 13 rfl rfl)
def dkwX0_set_1 : List UInt8 := [29, 182, 0, 90, 21, 4, 172]
abbrev dktX0_set_1 : List UInt8 := dkwX0_set_1 ++ []
def dkwX0_set_0 : List UInt8 := [42, 27, 28, 29, 182, 0, 83, 154, 0, 6, 16, 254, 172, 42, 28, 27, 182, 0, 87, 54, 4, 42, 27, 28]
abbrev dktX0_set_0 : List UInt8 := dkwX0_set_0 ++ dktX0_set_1
theorem dksX0_set_0 : cX0_set.data.toList.drop 0 = dktX0_set_0 := by decide +kernel
theorem dksX0_set_1 : cX0_set.data.toList.drop 24 = dktX0_set_1 := dk_seg dksX0_set_0 24 rfl rfl
theorem dX0_set_0 : decode cX0_set 0 = .ok (.aload_n 0, 1) := dk_42 (dk_at dksX0_set_0 0 rfl rfl)
theorem dX0_set_1 : decode cX0_set 1 = .ok (.iload_n 1, 1) := dk_27 (dk_at dksX0_set_0 1 rfl rfl)
theorem dX0_set_2 : decode cX0_set 2 = .ok (.iload_n 2, 1) := dk_28 (dk_at dksX0_set_0 2 rfl rfl)
theorem dX0_set_3 : decode cX0_set 3 = .ok (.iload_n 3, 1) := dk_29 (dk_at dksX0_set_0 3 rfl rfl)
theorem dX0_set_4 : decode cX0_set 4 = .ok (.invokevirtual 83, 3) := dk_182 0 83 (dk_at dksX0_set_0 4 rfl rfl)
theorem dX0_set_7 : decode cX0_set 7 = .ok (.ifCond .ne 6, 3) := dk_154 0 6 (dk_at dksX0_set_0 7 rfl rfl)
theorem dX0_set_10 : decode cX0_set 10 = .ok (.bipush (-2), 2) := dk_16 254 (dk_at dksX0_set_0 10 rfl rfl)
theorem dX0_set_12 : decode cX0_set 12 = .ok (.ireturn, 1) := dk_172 (dk_at dksX0_set_0 12 rfl rfl)
theorem dX0_set_13 : decode cX0_set 13 = .ok (.aload_n 0, 1) := dk_42 (dk_at dksX0_set_0 13 rfl rfl)
theorem dX0_set_14 : decode cX0_set 14 = .ok (.iload_n 2, 1) := dk_28 (dk_at dksX0_set_0 14 rfl rfl)
theorem dX0_set_15 : decode cX0_set 15 = .ok (.iload_n 1, 1) := dk_27 (dk_at dksX0_set_0 15 rfl rfl)
theorem dX0_set_16 : decode cX0_set 16 = .ok (.invokevirtual 87, 3) := dk_182 0 87 (dk_at dksX0_set_0 16 rfl rfl)
theorem dX0_set_19 : decode cX0_set 19 = .ok (.istore 4, 2) := dk_54 4 (dk_at dksX0_set_0 19 rfl rfl)
theorem dX0_set_21 : decode cX0_set 21 = .ok (.aload_n 0, 1) := dk_42 (dk_at dksX0_set_0 21 rfl rfl)
theorem dX0_set_22 : decode cX0_set 22 = .ok (.iload_n 1, 1) := dk_27 (dk_at dksX0_set_0 22 rfl rfl)
theorem dX0_set_23 : decode cX0_set 23 = .ok (.iload_n 2, 1) := dk_28 (dk_at dksX0_set_0 23 rfl rfl)
theorem dX0_set_24 : decode cX0_set 24 = .ok (.iload_n 3, 1) := dk_29 (dk_at dksX0_set_1 0 rfl rfl)
theorem dX0_set_25 : decode cX0_set 25 = .ok (.invokevirtual 90, 3) := dk_182 0 90 (dk_at dksX0_set_1 1 rfl rfl)
theorem dX0_set_28 : decode cX0_set 28 = .ok (.iload 4, 2) := dk_21 4 (dk_at dksX0_set_1 4 rfl rfl)
theorem dX0_set_30 : decode cX0_set 30 = .ok (.ireturn, 1) := dk_172 (dk_at dksX0_set_1 6 rfl rfl)
def dkwX0_isSo_7 : List UInt8 := [167, 0, 4, 3, 172]
abbrev dktX0_isSo_7 : List UInt8 := dkwX0_isSo_7 ++ []
def dkwX0_isSo_6 : List UInt8 := [160, 0, 27, 42, 28, 182, 0, 61, 153, 0, 19, 29, 133, 9, 20, 0, 64, 184, 0, 14, 153, 0, 7, 4]
abbrev dktX0_isSo_6 : List UInt8 := dkwX0_isSo_6 ++ dktX0_isSo_7
def dkwX0_isSo_5 : List UInt8 := [42, 28, 182, 0, 61, 153, 0, 14, 29, 184, 0, 47, 153, 0, 7, 4, 167, 0, 4, 3, 172, 27, 8]
abbrev dktX0_isSo_5 : List UInt8 := dkwX0_isSo_5 ++ dktX0_isSo_6
def dkwX0_isSo_4 : List UInt8 := [182, 0, 61, 153, 0, 19, 29, 133, 9, 20, 0, 45, 184, 0, 14, 153, 0, 7, 4, 167, 0, 4, 3, 172]
abbrev dktX0_isSo_4 : List UInt8 := dkwX0_isSo_4 ++ dktX0_isSo_5
def dkwX0_isSo_3 : List UInt8 := [153, 0, 19, 29, 133, 9, 20, 0, 45, 184, 0, 14, 153, 0, 7, 4, 167, 0, 4, 3, 172, 42, 28]
abbrev dktX0_isSo_3 : List UInt8 := dkwX0_isSo_3 ++ dktX0_isSo_4
def dkwX0_isSo_2 : List UInt8 := [29, 133, 9, 20, 0, 59, 184, 0, 14, 172, 29, 133, 9, 20, 0, 45, 184, 0, 14, 172, 28, 184, 0, 47]
abbrev dktX0_isSo_2 : List UInt8 := dkwX0_isSo_2 ++ dktX0_isSo_3
def dkwX0_isSo_1 : List UInt8 := [170, 0, 0, 0, 0, 0, 127, 0, 0, 0, 0, 0, 0, 0, 4, 0, 0, 0, 35, 0, 0, 0, 45, 0, 0, 0, 55, 0, 0, 0, 80, 0, 0, 0, 106]
abbrev dktX0_isSo_1 : List UInt8 := dkwX0_isSo_1 ++ dktX0_isSo_2
def dkwX0_isSo_0 : List UInt8 := [27]
abbrev dktX0_isSo_0 : List UInt8 := dkwX0_isSo_0 ++ dktX0_isSo_1
theorem dksX0_isSo_0 : cX0_isSo.data.toList.drop 0 = dktX0_isSo_0 := by decide +kernel
theorem dksX0_isSo_1 : cX0_isSo.data.toList.drop 1 = dktX0_isSo_1 := dk_seg dksX0_isSo_0 1 rfl rfl
theorem dksX0_isSo_2 : cX0_isSo.data.toList.drop 36 = dktX0_isSo_2 := dk_seg dksX0_isSo_1 35 rfl rfl
theorem dksX0_isSo_3 : cX0_isSo.data.toList.drop 60 = dktX0_isSo_3 := dk_seg dksX0_isSo_2 24 rfl rfl
theorem dksX0_isSo_4 : cX0_isSo.data.toList.drop 83 = dktX0_isSo_4 := dk_seg dksX0_isSo_3 23 rfl rfl
theorem dksX0_isSo_5 : cX0_isSo.data.toList.drop 107 = dktX0_isSo_5 := dk_seg dksX0_isSo_4 24 rfl rfl
theorem dksX0_isSo_6 : cX0_isSo.data.toList.drop 130 = dktX0_isSo_6 := dk_seg dksX0_isSo_5 23 rfl rfl
theorem dksX0_isSo_7 : cX0_isSo.data.toList.drop 154 = dktX0_isSo_7 := dk_seg dksX0_isSo_6 24 rfl rfl
theorem dX0_isSo_0 : decode cX0_isSo 0 = .ok (.iload_n 1, 1) := dk_27 (dk_at dksX0_isSo_0 0 rfl rfl)
theorem dX0_isSo_1 : decode cX0_isSo 1 = .ok (.tableswitch 127 0 4 #[35, 45, 55, 80, 106], 35) := by decide +kernel
theorem dX0_isSo_36 : decode cX0_isSo 36 = .ok (.iload_n 3, 1) := dk_29 (dk_at dksX0_isSo_2 0 rfl rfl)
theorem dX0_isSo_37 : decode cX0_isSo 37 = .ok (.i2l, 1) := dk_133 (dk_at dksX0_isSo_2 1 rfl rfl)
theorem dX0_isSo_38 : decode cX0_isSo 38 = .ok (.lconst 0, 1) := dk_9 (dk_at dksX0_isSo_2 2 rfl rfl)
theorem dX0_isSo_39 : decode cX0_isSo 39 = .ok (.ldc2_w 59, 3) := dk_20 0 59 (dk_at dksX0_isSo_2 3 rfl rfl)
theorem dX0_isSo_42 : decode cX0_isSo 42 = .ok (.invokestatic 14, 3) := dk_184 0 14 (dk_at dksX0_isSo_2 6 rfl rfl)
theorem dX0_isSo_45 : decode cX0_isSo 45 = .ok (.ireturn, 1) := dk_172 (dk_at dksX0_isSo_2 9 rfl rfl)
theorem dX0_isSo_46 : decode cX0_isSo 46 = .ok (.iload_n 3, 1) := dk_29 (dk_at dksX0_isSo_2 10 rfl rfl)
theorem dX0_isSo_47 : decode cX0_isSo 47 = .ok (.i2l, 1) := dk_133 (dk_at dksX0_isSo_2 11 rfl rfl)
theorem dX0_isSo_48 : decode cX0_isSo 48 = .ok (.lconst 0, 1) := dk_9 (dk_at dksX0_isSo_2 12 rfl rfl)
theorem dX0_isSo_49 : decode cX0_isSo 49 = .ok (.ldc2_w 45, 3) := dk_20 0 45 (dk_at dksX0_isSo_2 13 rfl rfl)
theorem dX0_isSo_52 : decode cX0_isSo 52 = .ok (.invokestatic 14, 3) := dk_184 0 14 (dk_at dksX0_isSo_2 16 rfl rfl)
theorem dX0_isSo_55 : decode cX0_isSo 55 = .ok (.ireturn, 1) := dk_172 (dk_at dksX0_isSo_2 19 rfl rfl)
theorem dX0_isSo_56 : decode cX0_isSo 56 = .ok (.iload_n 2, 1) := dk_28 (dk_at dksX0_isSo_2 20 rfl rfl)
theorem dX0_isSo_57 : decode cX0_isSo 57 = .ok (.invokestatic 47, 3) := dk_184 0 47 (dk_at dksX0_isSo_2 21 rfl rfl)
theorem dX0_isSo_60 : decode cX0_isSo 60 = .ok (.ifCond .eq 19, 3) := dk_153 0 19 (dk_at dksX0_isSo_3 0 rfl rfl)
theorem dX0_isSo_63 : decode cX0_isSo 63 = .ok (.iload_n 3, 1) := dk_29 (dk_at dksX0_isSo_3 3 rfl rfl)
theorem dX0_isSo_64 : decode cX0_isSo 64 = .ok (.i2l, 1) := dk_133 (dk_at dksX0_isSo_3 4 rfl rfl)
theorem dX0_isSo_65 : decode cX0_isSo 65 = .ok (.lconst 0, 1) := dk_9 (dk_at dksX0_isSo_3 5 rfl rfl)
theorem dX0_isSo_66 : decode cX0_isSo 66 = .ok (.ldc2_w 45, 3) := dk_20 0 45 (dk_at dksX0_isSo_3 6 rfl rfl)
theorem dX0_isSo_69 : decode cX0_isSo 69 = .ok (.invokestatic 14, 3) := dk_184 0 14 (dk_at dksX0_isSo_3 9 rfl rfl)
theorem dX0_isSo_72 : decode cX0_isSo 72 = .ok (.ifCond .eq 7, 3) := dk_153 0 7 (dk_at dksX0_isSo_3 12 rfl rfl)
theorem dX0_isSo_75 : decode cX0_isSo 75 = .ok (.iconst 1, 1) := dk_4 (dk_at dksX0_isSo_3 15 rfl rfl)
theorem dX0_isSo_76 : decode cX0_isSo 76 = .ok (.goto 4, 3) := dk_167 0 4 (dk_at dksX0_isSo_3 16 rfl rfl)
theorem dX0_isSo_79 : decode cX0_isSo 79 = .ok (.iconst 0, 1) := dk_3 (dk_at dksX0_isSo_3 19 rfl rfl)
theorem dX0_isSo_80 : decode cX0_isSo 80 = .ok (.ireturn, 1) := dk_172 (dk_at dksX0_isSo_3 20 rfl rfl)
theorem dX0_isSo_81 : decode cX0_isSo 81 = .ok (.aload_n 0, 1) := dk_42 (dk_at dksX0_isSo_3 21 rfl rfl)
theorem dX0_isSo_82 : decode cX0_isSo 82 = .ok (.iload_n 2, 1) := dk_28 (dk_at dksX0_isSo_3 22 rfl rfl)
theorem dX0_isSo_83 : decode cX0_isSo 83 = .ok (.invokevirtual 61, 3) := dk_182 0 61 (dk_at dksX0_isSo_4 0 rfl rfl)
theorem dX0_isSo_86 : decode cX0_isSo 86 = .ok (.ifCond .eq 19, 3) := dk_153 0 19 (dk_at dksX0_isSo_4 3 rfl rfl)
theorem dX0_isSo_89 : decode cX0_isSo 89 = .ok (.iload_n 3, 1) := dk_29 (dk_at dksX0_isSo_4 6 rfl rfl)
theorem dX0_isSo_90 : decode cX0_isSo 90 = .ok (.i2l, 1) := dk_133 (dk_at dksX0_isSo_4 7 rfl rfl)
theorem dX0_isSo_91 : decode cX0_isSo 91 = .ok (.lconst 0, 1) := dk_9 (dk_at dksX0_isSo_4 8 rfl rfl)
theorem dX0_isSo_92 : decode cX0_isSo 92 = .ok (.ldc2_w 45, 3) := dk_20 0 45 (dk_at dksX0_isSo_4 9 rfl rfl)
theorem dX0_isSo_95 : decode cX0_isSo 95 = .ok (.invokestatic 14, 3) := dk_184 0 14 (dk_at dksX0_isSo_4 12 rfl rfl)
theorem dX0_isSo_98 : decode cX0_isSo 98 = .ok (.ifCond .eq 7, 3) := dk_153 0 7 (dk_at dksX0_isSo_4 15 rfl rfl)
theorem dX0_isSo_101 : decode cX0_isSo 101 = .ok (.iconst 1, 1) := dk_4 (dk_at dksX0_isSo_4 18 rfl rfl)
theorem dX0_isSo_102 : decode cX0_isSo 102 = .ok (.goto 4, 3) := dk_167 0 4 (dk_at dksX0_isSo_4 19 rfl rfl)
theorem dX0_isSo_105 : decode cX0_isSo 105 = .ok (.iconst 0, 1) := dk_3 (dk_at dksX0_isSo_4 22 rfl rfl)
theorem dX0_isSo_106 : decode cX0_isSo 106 = .ok (.ireturn, 1) := dk_172 (dk_at dksX0_isSo_4 23 rfl rfl)
theorem dX0_isSo_107 : decode cX0_isSo 107 = .ok (.aload_n 0, 1) := dk_42 (dk_at dksX0_isSo_5 0 rfl rfl)
theorem dX0_isSo_108 : decode cX0_isSo 108 = .ok (.iload_n 2, 1) := dk_28 (dk_at dksX0_isSo_5 1 rfl rfl)
theorem dX0_isSo_109 : decode cX0_isSo 109 = .ok (.invokevirtual 61, 3) := dk_182 0 61 (dk_at dksX0_isSo_5 2 rfl rfl)
theorem dX0_isSo_112 : decode cX0_isSo 112 = .ok (.ifCond .eq 14, 3) := dk_153 0 14 (dk_at dksX0_isSo_5 5 rfl rfl)
theorem dX0_isSo_115 : decode cX0_isSo 115 = .ok (.iload_n 3, 1) := dk_29 (dk_at dksX0_isSo_5 8 rfl rfl)
theorem dX0_isSo_116 : decode cX0_isSo 116 = .ok (.invokestatic 47, 3) := dk_184 0 47 (dk_at dksX0_isSo_5 9 rfl rfl)
theorem dX0_isSo_119 : decode cX0_isSo 119 = .ok (.ifCond .eq 7, 3) := dk_153 0 7 (dk_at dksX0_isSo_5 12 rfl rfl)
theorem dX0_isSo_122 : decode cX0_isSo 122 = .ok (.iconst 1, 1) := dk_4 (dk_at dksX0_isSo_5 15 rfl rfl)
theorem dX0_isSo_123 : decode cX0_isSo 123 = .ok (.goto 4, 3) := dk_167 0 4 (dk_at dksX0_isSo_5 16 rfl rfl)
theorem dX0_isSo_126 : decode cX0_isSo 126 = .ok (.iconst 0, 1) := dk_3 (dk_at dksX0_isSo_5 19 rfl rfl)
theorem dX0_isSo_127 : decode cX0_isSo 127 = .ok (.ireturn, 1) := dk_172 (dk_at dksX0_isSo_5 20 rfl rfl)
theorem dX0_isSo_128 : decode cX0_isSo 128 = .ok (.iload_n 1, 1) := dk_27 (dk_at dksX0_isSo_5 21 rfl rfl)
theorem dX0_isSo_129 : decode cX0_isSo 129 = .ok (.iconst 5, 1) := dk_8 (dk_at dksX0_isSo_5 22 rfl rfl)
theorem dX0_isSo_130 : decode cX0_isSo 130 = .ok (.if_icmp .ne 27, 3) := dk_160 0 27 (dk_at dksX0_isSo_6 0 rfl rfl)
theorem dX0_isSo_133 : decode cX0_isSo 133 = .ok (.aload_n 0, 1) := dk_42 (dk_at dksX0_isSo_6 3 rfl rfl)
theorem dX0_isSo_134 : decode cX0_isSo 134 = .ok (.iload_n 2, 1) := dk_28 (dk_at dksX0_isSo_6 4 rfl rfl)
theorem dX0_isSo_135 : decode cX0_isSo 135 = .ok (.invokevirtual 61, 3) := dk_182 0 61 (dk_at dksX0_isSo_6 5 rfl rfl)
theorem dX0_isSo_138 : decode cX0_isSo 138 = .ok (.ifCond .eq 19, 3) := dk_153 0 19 (dk_at dksX0_isSo_6 8 rfl rfl)
theorem dX0_isSo_141 : decode cX0_isSo 141 = .ok (.iload_n 3, 1) := dk_29 (dk_at dksX0_isSo_6 11 rfl rfl)
theorem dX0_isSo_142 : decode cX0_isSo 142 = .ok (.i2l, 1) := dk_133 (dk_at dksX0_isSo_6 12 rfl rfl)
theorem dX0_isSo_143 : decode cX0_isSo 143 = .ok (.lconst 0, 1) := dk_9 (dk_at dksX0_isSo_6 13 rfl rfl)
theorem dX0_isSo_144 : decode cX0_isSo 144 = .ok (.ldc2_w 64, 3) := dk_20 0 64 (dk_at dksX0_isSo_6 14 rfl rfl)
theorem dX0_isSo_147 : decode cX0_isSo 147 = .ok (.invokestatic 14, 3) := dk_184 0 14 (dk_at dksX0_isSo_6 17 rfl rfl)
theorem dX0_isSo_150 : decode cX0_isSo 150 = .ok (.ifCond .eq 7, 3) := dk_153 0 7 (dk_at dksX0_isSo_6 20 rfl rfl)
theorem dX0_isSo_153 : decode cX0_isSo 153 = .ok (.iconst 1, 1) := dk_4 (dk_at dksX0_isSo_6 23 rfl rfl)
theorem dX0_isSo_154 : decode cX0_isSo 154 = .ok (.goto 4, 3) := dk_167 0 4 (dk_at dksX0_isSo_7 0 rfl rfl)
theorem dX0_isSo_157 : decode cX0_isSo 157 = .ok (.iconst 0, 1) := dk_3 (dk_at dksX0_isSo_7 3 rfl rfl)
theorem dX0_isSo_158 : decode cX0_isSo 158 = .ok (.ireturn, 1) := dk_172 (dk_at dksX0_isSo_7 4 rfl rfl)
def dkwX0_isPlant_0 : List UInt8 := [27, 133, 9, 42, 180, 0, 18, 4, 100, 133, 184, 0, 14, 172]
abbrev dktX0_isPlant_0 : List UInt8 := dkwX0_isPlant_0 ++ []
theorem dksX0_isPlant_0 : cX0_isPlant.data.toList.drop 0 = dktX0_isPlant_0 := by decide +kernel
theorem dX0_isPlant_0 : decode cX0_isPlant 0 = .ok (.iload_n 1, 1) := dk_27 (dk_at dksX0_isPlant_0 0 rfl rfl)
theorem dX0_isPlant_1 : decode cX0_isPlant 1 = .ok (.i2l, 1) := dk_133 (dk_at dksX0_isPlant_0 1 rfl rfl)
theorem dX0_isPlant_2 : decode cX0_isPlant 2 = .ok (.lconst 0, 1) := dk_9 (dk_at dksX0_isPlant_0 2 rfl rfl)
theorem dX0_isPlant_3 : decode cX0_isPlant 3 = .ok (.aload_n 0, 1) := dk_42 (dk_at dksX0_isPlant_0 3 rfl rfl)
theorem dX0_isPlant_4 : decode cX0_isPlant 4 = .ok (.getfield 18, 3) := dk_180 0 18 (dk_at dksX0_isPlant_0 4 rfl rfl)
theorem dX0_isPlant_7 : decode cX0_isPlant 7 = .ok (.iconst 1, 1) := dk_4 (dk_at dksX0_isPlant_0 7 rfl rfl)
theorem dX0_isPlant_8 : decode cX0_isPlant 8 = .ok (.isub, 1) := dk_100 (dk_at dksX0_isPlant_0 8 rfl rfl)
theorem dX0_isPlant_9 : decode cX0_isPlant 9 = .ok (.i2l, 1) := dk_133 (dk_at dksX0_isPlant_0 9 rfl rfl)
theorem dX0_isPlant_10 : decode cX0_isPlant 10 = .ok (.invokestatic 14, 3) := dk_184 0 14 (dk_at dksX0_isPlant_0 10 rfl rfl)
theorem dX0_isPlant_13 : decode cX0_isPlant 13 = .ok (.ireturn, 1) := dk_172 (dk_at dksX0_isPlant_0 13 rfl rfl)
def dkwX0_told_4 : List UInt8 := [182, 0, 61, 153, 0, 12, 42, 27, 28, 182, 0, 116, 167, 0, 5, 16, 254, 172]
abbrev dktX0_told_4 : List UInt8 := dkwX0_told_4 ++ []
def dkwX0_told_3 : List UInt8 := [167, 0, 5, 16, 254, 172, 28, 133, 20, 0, 112, 20, 0, 114, 184, 0, 14, 153, 0, 20, 42, 27]
abbrev dktX0_told_3 : List UInt8 := dkwX0_told_3 ++ dktX0_told_4
def dkwX0_told_2 : List UInt8 := [42, 180, 0, 66, 172, 42, 180, 0, 69, 172, 27, 184, 0, 47, 153, 0, 12, 42, 180, 0, 72, 27, 46]
abbrev dktX0_told_2 : List UInt8 := dkwX0_told_2 ++ dktX0_told_3
def dkwX0_told_1 : List UInt8 := [170, 0, 0, 0, 0, 0, 56, 0, 0, 0, 0, 0, 0, 0, 2, 0, 0, 0, 27, 0, 0, 0, 32, 0, 0, 0, 37]
abbrev dktX0_told_1 : List UInt8 := dkwX0_told_1 ++ dktX0_told_2
def dkwX0_told_0 : List UInt8 := [28]
abbrev dktX0_told_0 : List UInt8 := dkwX0_told_0 ++ dktX0_told_1
theorem dksX0_told_0 : cX0_told.data.toList.drop 0 = dktX0_told_0 := by decide +kernel
theorem dksX0_told_1 : cX0_told.data.toList.drop 1 = dktX0_told_1 := dk_seg dksX0_told_0 1 rfl rfl
theorem dksX0_told_2 : cX0_told.data.toList.drop 28 = dktX0_told_2 := dk_seg dksX0_told_1 27 rfl rfl
theorem dksX0_told_3 : cX0_told.data.toList.drop 51 = dktX0_told_3 := dk_seg dksX0_told_2 23 rfl rfl
theorem dksX0_told_4 : cX0_told.data.toList.drop 73 = dktX0_told_4 := dk_seg dksX0_told_3 22 rfl rfl
theorem dX0_told_0 : decode cX0_told 0 = .ok (.iload_n 2, 1) := dk_28 (dk_at dksX0_told_0 0 rfl rfl)
theorem dX0_told_1 : decode cX0_told 1 = .ok (.tableswitch 56 0 2 #[27, 32, 37], 27) := by decide +kernel
theorem dX0_told_28 : decode cX0_told 28 = .ok (.aload_n 0, 1) := dk_42 (dk_at dksX0_told_2 0 rfl rfl)
theorem dX0_told_29 : decode cX0_told 29 = .ok (.getfield 66, 3) := dk_180 0 66 (dk_at dksX0_told_2 1 rfl rfl)
theorem dX0_told_32 : decode cX0_told 32 = .ok (.ireturn, 1) := dk_172 (dk_at dksX0_told_2 4 rfl rfl)
theorem dX0_told_33 : decode cX0_told 33 = .ok (.aload_n 0, 1) := dk_42 (dk_at dksX0_told_2 5 rfl rfl)
theorem dX0_told_34 : decode cX0_told 34 = .ok (.getfield 69, 3) := dk_180 0 69 (dk_at dksX0_told_2 6 rfl rfl)
theorem dX0_told_37 : decode cX0_told 37 = .ok (.ireturn, 1) := dk_172 (dk_at dksX0_told_2 9 rfl rfl)
theorem dX0_told_38 : decode cX0_told 38 = .ok (.iload_n 1, 1) := dk_27 (dk_at dksX0_told_2 10 rfl rfl)
theorem dX0_told_39 : decode cX0_told 39 = .ok (.invokestatic 47, 3) := dk_184 0 47 (dk_at dksX0_told_2 11 rfl rfl)
theorem dX0_told_42 : decode cX0_told 42 = .ok (.ifCond .eq 12, 3) := dk_153 0 12 (dk_at dksX0_told_2 14 rfl rfl)
theorem dX0_told_45 : decode cX0_told 45 = .ok (.aload_n 0, 1) := dk_42 (dk_at dksX0_told_2 17 rfl rfl)
theorem dX0_told_46 : decode cX0_told 46 = .ok (.getfield 72, 3) := dk_180 0 72 (dk_at dksX0_told_2 18 rfl rfl)
theorem dX0_told_49 : decode cX0_told 49 = .ok (.iload_n 1, 1) := dk_27 (dk_at dksX0_told_2 21 rfl rfl)
theorem dX0_told_50 : decode cX0_told 50 = .ok (.iaload, 1) := dk_46 (dk_at dksX0_told_2 22 rfl rfl)
theorem dX0_told_51 : decode cX0_told 51 = .ok (.goto 5, 3) := dk_167 0 5 (dk_at dksX0_told_3 0 rfl rfl)
theorem dX0_told_54 : decode cX0_told 54 = .ok (.bipush (-2), 2) := dk_16 254 (dk_at dksX0_told_3 3 rfl rfl)
theorem dX0_told_56 : decode cX0_told 56 = .ok (.ireturn, 1) := dk_172 (dk_at dksX0_told_3 5 rfl rfl)
theorem dX0_told_57 : decode cX0_told 57 = .ok (.iload_n 2, 1) := dk_28 (dk_at dksX0_told_3 6 rfl rfl)
theorem dX0_told_58 : decode cX0_told 58 = .ok (.i2l, 1) := dk_133 (dk_at dksX0_told_3 7 rfl rfl)
theorem dX0_told_59 : decode cX0_told 59 = .ok (.ldc2_w 112, 3) := dk_20 0 112 (dk_at dksX0_told_3 8 rfl rfl)
theorem dX0_told_62 : decode cX0_told 62 = .ok (.ldc2_w 114, 3) := dk_20 0 114 (dk_at dksX0_told_3 11 rfl rfl)
theorem dX0_told_65 : decode cX0_told 65 = .ok (.invokestatic 14, 3) := dk_184 0 14 (dk_at dksX0_told_3 14 rfl rfl)
theorem dX0_told_68 : decode cX0_told 68 = .ok (.ifCond .eq 20, 3) := dk_153 0 20 (dk_at dksX0_told_3 17 rfl rfl)
theorem dX0_told_71 : decode cX0_told 71 = .ok (.aload_n 0, 1) := dk_42 (dk_at dksX0_told_3 20 rfl rfl)
theorem dX0_told_72 : decode cX0_told 72 = .ok (.iload_n 1, 1) := dk_27 (dk_at dksX0_told_3 21 rfl rfl)
theorem dX0_told_73 : decode cX0_told 73 = .ok (.invokevirtual 61, 3) := dk_182 0 61 (dk_at dksX0_told_4 0 rfl rfl)
theorem dX0_told_76 : decode cX0_told 76 = .ok (.ifCond .eq 12, 3) := dk_153 0 12 (dk_at dksX0_told_4 3 rfl rfl)
theorem dX0_told_79 : decode cX0_told 79 = .ok (.aload_n 0, 1) := dk_42 (dk_at dksX0_told_4 6 rfl rfl)
theorem dX0_told_80 : decode cX0_told 80 = .ok (.iload_n 1, 1) := dk_27 (dk_at dksX0_told_4 7 rfl rfl)
theorem dX0_told_81 : decode cX0_told 81 = .ok (.iload_n 2, 1) := dk_28 (dk_at dksX0_told_4 8 rfl rfl)
theorem dX0_told_82 : decode cX0_told 82 = .ok (.invokevirtual 116, 3) := dk_182 0 116 (dk_at dksX0_told_4 9 rfl rfl)
theorem dX0_told_85 : decode cX0_told 85 = .ok (.goto 5, 3) := dk_167 0 5 (dk_at dksX0_told_4 12 rfl rfl)
theorem dX0_told_88 : decode cX0_told 88 = .ok (.bipush (-2), 2) := dk_16 254 (dk_at dksX0_told_4 15 rfl rfl)
theorem dX0_told_90 : decode cX0_told 90 = .ok (.ireturn, 1) := dk_172 (dk_at dksX0_told_4 17 rfl rfl)
def dkwX0_toldOf_4 : List UInt8 := [182, 0, 102, 172, 45, 182, 0, 106, 172, 42, 5, 27, 182, 0, 109, 172]
abbrev dktX0_toldOf_4 : List UInt8 := dkwX0_toldOf_4 ++ []
def dkwX0_toldOf_3 : List UInt8 := [182, 0, 98, 172, 45, 45, 180, 0, 82, 42, 180, 0, 72, 45, 180, 0, 79, 46, 42, 180, 0, 66]
abbrev dktX0_toldOf_3 : List UInt8 := dkwX0_toldOf_3 ++ dktX0_toldOf_4
def dkwX0_toldOf_2 : List UInt8 := [45, 180, 0, 76, 172, 45, 180, 0, 79, 172, 45, 180, 0, 82, 172, 45, 182, 0, 94, 172, 42, 27]
abbrev dktX0_toldOf_2 : List UInt8 := dkwX0_toldOf_2 ++ dktX0_toldOf_3
def dkwX0_toldOf_1 : List UInt8 := [170, 0, 0, 0, 0, 0, 0, 97, 0, 0, 0, 3, 0, 0, 0, 9, 0, 0, 0, 44, 0, 0, 0, 49, 0, 0, 0, 54, 0, 0, 0, 59, 0, 0, 0, 64, 0, 0, 0, 70, 0, 0, 0, 92]
abbrev dktX0_toldOf_1 : List UInt8 := dkwX0_toldOf_1 ++ dktX0_toldOf_2
def dkwX0_toldOf_0 : List UInt8 := [42, 180, 0, 51, 27, 50, 78, 28]
abbrev dktX0_toldOf_0 : List UInt8 := dkwX0_toldOf_0 ++ dktX0_toldOf_1
theorem dksX0_toldOf_0 : cX0_toldOf.data.toList.drop 0 = dktX0_toldOf_0 := by decide +kernel
theorem dksX0_toldOf_1 : cX0_toldOf.data.toList.drop 8 = dktX0_toldOf_1 := dk_seg dksX0_toldOf_0 8 rfl rfl
theorem dksX0_toldOf_2 : cX0_toldOf.data.toList.drop 52 = dktX0_toldOf_2 := dk_seg dksX0_toldOf_1 44 rfl rfl
theorem dksX0_toldOf_3 : cX0_toldOf.data.toList.drop 74 = dktX0_toldOf_3 := dk_seg dksX0_toldOf_2 22 rfl rfl
theorem dksX0_toldOf_4 : cX0_toldOf.data.toList.drop 96 = dktX0_toldOf_4 := dk_seg dksX0_toldOf_3 22 rfl rfl
theorem dX0_toldOf_0 : decode cX0_toldOf 0 = .ok (.aload_n 0, 1) := dk_42 (dk_at dksX0_toldOf_0 0 rfl rfl)
theorem dX0_toldOf_1 : decode cX0_toldOf 1 = .ok (.getfield 51, 3) := dk_180 0 51 (dk_at dksX0_toldOf_0 1 rfl rfl)
theorem dX0_toldOf_4 : decode cX0_toldOf 4 = .ok (.iload_n 1, 1) := dk_27 (dk_at dksX0_toldOf_0 4 rfl rfl)
theorem dX0_toldOf_5 : decode cX0_toldOf 5 = .ok (.aaload, 1) := dk_50 (dk_at dksX0_toldOf_0 5 rfl rfl)
theorem dX0_toldOf_6 : decode cX0_toldOf 6 = .ok (.astore_n 3, 1) := dk_78 (dk_at dksX0_toldOf_0 6 rfl rfl)
theorem dX0_toldOf_7 : decode cX0_toldOf 7 = .ok (.iload_n 2, 1) := dk_28 (dk_at dksX0_toldOf_0 7 rfl rfl)
theorem dX0_toldOf_8 : decode cX0_toldOf 8 = .ok (.tableswitch 97 3 9 #[44, 49, 54, 59, 64, 70, 92], 44) := by decide +kernel
theorem dX0_toldOf_52 : decode cX0_toldOf 52 = .ok (.aload_n 3, 1) := dk_45 (dk_at dksX0_toldOf_2 0 rfl rfl)
theorem dX0_toldOf_53 : decode cX0_toldOf 53 = .ok (.getfield 76, 3) := dk_180 0 76 (dk_at dksX0_toldOf_2 1 rfl rfl)
theorem dX0_toldOf_56 : decode cX0_toldOf 56 = .ok (.ireturn, 1) := dk_172 (dk_at dksX0_toldOf_2 4 rfl rfl)
theorem dX0_toldOf_57 : decode cX0_toldOf 57 = .ok (.aload_n 3, 1) := dk_45 (dk_at dksX0_toldOf_2 5 rfl rfl)
theorem dX0_toldOf_58 : decode cX0_toldOf 58 = .ok (.getfield 79, 3) := dk_180 0 79 (dk_at dksX0_toldOf_2 6 rfl rfl)
theorem dX0_toldOf_61 : decode cX0_toldOf 61 = .ok (.ireturn, 1) := dk_172 (dk_at dksX0_toldOf_2 9 rfl rfl)
theorem dX0_toldOf_62 : decode cX0_toldOf 62 = .ok (.aload_n 3, 1) := dk_45 (dk_at dksX0_toldOf_2 10 rfl rfl)
theorem dX0_toldOf_63 : decode cX0_toldOf 63 = .ok (.getfield 82, 3) := dk_180 0 82 (dk_at dksX0_toldOf_2 11 rfl rfl)
theorem dX0_toldOf_66 : decode cX0_toldOf 66 = .ok (.ireturn, 1) := dk_172 (dk_at dksX0_toldOf_2 14 rfl rfl)
theorem dX0_toldOf_67 : decode cX0_toldOf 67 = .ok (.aload_n 3, 1) := dk_45 (dk_at dksX0_toldOf_2 15 rfl rfl)
theorem dX0_toldOf_68 : decode cX0_toldOf 68 = .ok (.invokevirtual 94, 3) := dk_182 0 94 (dk_at dksX0_toldOf_2 16 rfl rfl)
theorem dX0_toldOf_71 : decode cX0_toldOf 71 = .ok (.ireturn, 1) := dk_172 (dk_at dksX0_toldOf_2 19 rfl rfl)
theorem dX0_toldOf_72 : decode cX0_toldOf 72 = .ok (.aload_n 0, 1) := dk_42 (dk_at dksX0_toldOf_2 20 rfl rfl)
theorem dX0_toldOf_73 : decode cX0_toldOf 73 = .ok (.iload_n 1, 1) := dk_27 (dk_at dksX0_toldOf_2 21 rfl rfl)
theorem dX0_toldOf_74 : decode cX0_toldOf 74 = .ok (.invokevirtual 98, 3) := dk_182 0 98 (dk_at dksX0_toldOf_3 0 rfl rfl)
theorem dX0_toldOf_77 : decode cX0_toldOf 77 = .ok (.ireturn, 1) := dk_172 (dk_at dksX0_toldOf_3 3 rfl rfl)
theorem dX0_toldOf_78 : decode cX0_toldOf 78 = .ok (.aload_n 3, 1) := dk_45 (dk_at dksX0_toldOf_3 4 rfl rfl)
theorem dX0_toldOf_79 : decode cX0_toldOf 79 = .ok (.aload_n 3, 1) := dk_45 (dk_at dksX0_toldOf_3 5 rfl rfl)
theorem dX0_toldOf_80 : decode cX0_toldOf 80 = .ok (.getfield 82, 3) := dk_180 0 82 (dk_at dksX0_toldOf_3 6 rfl rfl)
theorem dX0_toldOf_83 : decode cX0_toldOf 83 = .ok (.aload_n 0, 1) := dk_42 (dk_at dksX0_toldOf_3 9 rfl rfl)
theorem dX0_toldOf_84 : decode cX0_toldOf 84 = .ok (.getfield 72, 3) := dk_180 0 72 (dk_at dksX0_toldOf_3 10 rfl rfl)
theorem dX0_toldOf_87 : decode cX0_toldOf 87 = .ok (.aload_n 3, 1) := dk_45 (dk_at dksX0_toldOf_3 13 rfl rfl)
theorem dX0_toldOf_88 : decode cX0_toldOf 88 = .ok (.getfield 79, 3) := dk_180 0 79 (dk_at dksX0_toldOf_3 14 rfl rfl)
theorem dX0_toldOf_91 : decode cX0_toldOf 91 = .ok (.iaload, 1) := dk_46 (dk_at dksX0_toldOf_3 17 rfl rfl)
theorem dX0_toldOf_92 : decode cX0_toldOf 92 = .ok (.aload_n 0, 1) := dk_42 (dk_at dksX0_toldOf_3 18 rfl rfl)
theorem dX0_toldOf_93 : decode cX0_toldOf 93 = .ok (.getfield 66, 3) := dk_180 0 66 (dk_at dksX0_toldOf_3 19 rfl rfl)
theorem dX0_toldOf_96 : decode cX0_toldOf 96 = .ok (.invokevirtual 102, 3) := dk_182 0 102 (dk_at dksX0_toldOf_4 0 rfl rfl)
theorem dX0_toldOf_99 : decode cX0_toldOf 99 = .ok (.ireturn, 1) := dk_172 (dk_at dksX0_toldOf_4 3 rfl rfl)
theorem dX0_toldOf_100 : decode cX0_toldOf 100 = .ok (.aload_n 3, 1) := dk_45 (dk_at dksX0_toldOf_4 4 rfl rfl)
theorem dX0_toldOf_101 : decode cX0_toldOf 101 = .ok (.invokevirtual 106, 3) := dk_182 0 106 (dk_at dksX0_toldOf_4 5 rfl rfl)
theorem dX0_toldOf_104 : decode cX0_toldOf 104 = .ok (.ireturn, 1) := dk_172 (dk_at dksX0_toldOf_4 8 rfl rfl)
theorem dX0_toldOf_105 : decode cX0_toldOf 105 = .ok (.aload_n 0, 1) := dk_42 (dk_at dksX0_toldOf_4 9 rfl rfl)
theorem dX0_toldOf_106 : decode cX0_toldOf 106 = .ok (.iconst 2, 1) := dk_5 (dk_at dksX0_toldOf_4 10 rfl rfl)
theorem dX0_toldOf_107 : decode cX0_toldOf 107 = .ok (.iload_n 1, 1) := dk_27 (dk_at dksX0_toldOf_4 11 rfl rfl)
theorem dX0_toldOf_108 : decode cX0_toldOf 108 = .ok (.invokevirtual 109, 3) := dk_182 0 109 (dk_at dksX0_toldOf_4 12 rfl rfl)
theorem dX0_toldOf_111 : decode cX0_toldOf 111 = .ok (.ireturn, 1) := dk_172 (dk_at dksX0_toldOf_4 15 rfl rfl)
def dkwX0_rotsOf_1 : List UInt8 := [180, 0, 79, 46, 182, 1, 91, 172]
abbrev dktX0_rotsOf_1 : List UInt8 := dkwX0_rotsOf_1 ++ []
def dkwX0_rotsOf_0 : List UInt8 := [42, 180, 0, 51, 27, 50, 42, 3, 27, 182, 0, 109, 42, 180, 0, 72, 42, 180, 0, 51, 27, 50]
abbrev dktX0_rotsOf_0 : List UInt8 := dkwX0_rotsOf_0 ++ dktX0_rotsOf_1
theorem dksX0_rotsOf_0 : cX0_rotsOf.data.toList.drop 0 = dktX0_rotsOf_0 := by decide +kernel
theorem dksX0_rotsOf_1 : cX0_rotsOf.data.toList.drop 22 = dktX0_rotsOf_1 := dk_seg dksX0_rotsOf_0 22 rfl rfl
theorem dX0_rotsOf_0 : decode cX0_rotsOf 0 = .ok (.aload_n 0, 1) := dk_42 (dk_at dksX0_rotsOf_0 0 rfl rfl)
theorem dX0_rotsOf_1 : decode cX0_rotsOf 1 = .ok (.getfield 51, 3) := dk_180 0 51 (dk_at dksX0_rotsOf_0 1 rfl rfl)
theorem dX0_rotsOf_4 : decode cX0_rotsOf 4 = .ok (.iload_n 1, 1) := dk_27 (dk_at dksX0_rotsOf_0 4 rfl rfl)
theorem dX0_rotsOf_5 : decode cX0_rotsOf 5 = .ok (.aaload, 1) := dk_50 (dk_at dksX0_rotsOf_0 5 rfl rfl)
theorem dX0_rotsOf_6 : decode cX0_rotsOf 6 = .ok (.aload_n 0, 1) := dk_42 (dk_at dksX0_rotsOf_0 6 rfl rfl)
theorem dX0_rotsOf_7 : decode cX0_rotsOf 7 = .ok (.iconst 0, 1) := dk_3 (dk_at dksX0_rotsOf_0 7 rfl rfl)
theorem dX0_rotsOf_8 : decode cX0_rotsOf 8 = .ok (.iload_n 1, 1) := dk_27 (dk_at dksX0_rotsOf_0 8 rfl rfl)
theorem dX0_rotsOf_9 : decode cX0_rotsOf 9 = .ok (.invokevirtual 109, 3) := dk_182 0 109 (dk_at dksX0_rotsOf_0 9 rfl rfl)
theorem dX0_rotsOf_12 : decode cX0_rotsOf 12 = .ok (.aload_n 0, 1) := dk_42 (dk_at dksX0_rotsOf_0 12 rfl rfl)
theorem dX0_rotsOf_13 : decode cX0_rotsOf 13 = .ok (.getfield 72, 3) := dk_180 0 72 (dk_at dksX0_rotsOf_0 13 rfl rfl)
theorem dX0_rotsOf_16 : decode cX0_rotsOf 16 = .ok (.aload_n 0, 1) := dk_42 (dk_at dksX0_rotsOf_0 16 rfl rfl)
theorem dX0_rotsOf_17 : decode cX0_rotsOf 17 = .ok (.getfield 51, 3) := dk_180 0 51 (dk_at dksX0_rotsOf_0 17 rfl rfl)
theorem dX0_rotsOf_20 : decode cX0_rotsOf 20 = .ok (.iload_n 1, 1) := dk_27 (dk_at dksX0_rotsOf_0 20 rfl rfl)
theorem dX0_rotsOf_21 : decode cX0_rotsOf 21 = .ok (.aaload, 1) := dk_50 (dk_at dksX0_rotsOf_0 21 rfl rfl)
theorem dX0_rotsOf_22 : decode cX0_rotsOf 22 = .ok (.getfield 79, 3) := dk_180 0 79 (dk_at dksX0_rotsOf_1 0 rfl rfl)
theorem dX0_rotsOf_25 : decode cX0_rotsOf 25 = .ok (.iaload, 1) := dk_46 (dk_at dksX0_rotsOf_1 3 rfl rfl)
theorem dX0_rotsOf_26 : decode cX0_rotsOf 26 = .ok (.invokevirtual 347, 3) := dk_182 1 91 (dk_at dksX0_rotsOf_1 4 rfl rfl)
theorem dX0_rotsOf_29 : decode cX0_rotsOf 29 = .ok (.ireturn, 1) := dk_172 (dk_at dksX0_rotsOf_1 7 rfl rfl)
def dkwX0_asks_1 : List UInt8 := [160, 0, 8, 16, 99, 167, 0, 5, 16, 100, 184, 1, 88, 172]
abbrev dktX0_asks_1 : List UInt8 := dkwX0_asks_1 ++ []
def dkwX0_asks_0 : List UInt8 := [42, 28, 181, 1, 82, 42, 180, 0, 255, 42, 180, 1, 79, 50, 27, 50, 182, 1, 85, 3, 27, 4]
abbrev dktX0_asks_0 : List UInt8 := dkwX0_asks_0 ++ dktX0_asks_1
theorem dksX0_asks_0 : cX0_asks.data.toList.drop 0 = dktX0_asks_0 := by decide +kernel
theorem dksX0_asks_1 : cX0_asks.data.toList.drop 22 = dktX0_asks_1 := dk_seg dksX0_asks_0 22 rfl rfl
theorem dX0_asks_0 : decode cX0_asks 0 = .ok (.aload_n 0, 1) := dk_42 (dk_at dksX0_asks_0 0 rfl rfl)
theorem dX0_asks_1 : decode cX0_asks 1 = .ok (.iload_n 2, 1) := dk_28 (dk_at dksX0_asks_0 1 rfl rfl)
theorem dX0_asks_2 : decode cX0_asks 2 = .ok (.putfield 338, 3) := dk_181 1 82 (dk_at dksX0_asks_0 2 rfl rfl)
theorem dX0_asks_5 : decode cX0_asks 5 = .ok (.aload_n 0, 1) := dk_42 (dk_at dksX0_asks_0 5 rfl rfl)
theorem dX0_asks_6 : decode cX0_asks 6 = .ok (.getfield 255, 3) := dk_180 0 255 (dk_at dksX0_asks_0 6 rfl rfl)
theorem dX0_asks_9 : decode cX0_asks 9 = .ok (.aload_n 0, 1) := dk_42 (dk_at dksX0_asks_0 9 rfl rfl)
theorem dX0_asks_10 : decode cX0_asks 10 = .ok (.getfield 335, 3) := dk_180 1 79 (dk_at dksX0_asks_0 10 rfl rfl)
theorem dX0_asks_13 : decode cX0_asks 13 = .ok (.aaload, 1) := dk_50 (dk_at dksX0_asks_0 13 rfl rfl)
theorem dX0_asks_14 : decode cX0_asks 14 = .ok (.iload_n 1, 1) := dk_27 (dk_at dksX0_asks_0 14 rfl rfl)
theorem dX0_asks_15 : decode cX0_asks 15 = .ok (.aaload, 1) := dk_50 (dk_at dksX0_asks_0 15 rfl rfl)
theorem dX0_asks_16 : decode cX0_asks 16 = .ok (.invokevirtual 341, 3) := dk_182 1 85 (dk_at dksX0_asks_0 16 rfl rfl)
theorem dX0_asks_19 : decode cX0_asks 19 = .ok (.iconst 0, 1) := dk_3 (dk_at dksX0_asks_0 19 rfl rfl)
theorem dX0_asks_20 : decode cX0_asks 20 = .ok (.iload_n 1, 1) := dk_27 (dk_at dksX0_asks_0 20 rfl rfl)
theorem dX0_asks_21 : decode cX0_asks 21 = .ok (.iconst 1, 1) := dk_4 (dk_at dksX0_asks_0 21 rfl rfl)
theorem dX0_asks_22 : decode cX0_asks 22 = .ok (.if_icmp .ne 8, 3) := dk_160 0 8 (dk_at dksX0_asks_1 0 rfl rfl)
theorem dX0_asks_25 : decode cX0_asks 25 = .ok (.bipush 99, 2) := dk_16 99 (dk_at dksX0_asks_1 3 rfl rfl)
theorem dX0_asks_27 : decode cX0_asks 27 = .ok (.goto 5, 3) := dk_167 0 5 (dk_at dksX0_asks_1 5 rfl rfl)
theorem dX0_asks_30 : decode cX0_asks 30 = .ok (.bipush 100, 2) := dk_16 100 (dk_at dksX0_asks_1 8 rfl rfl)
theorem dX0_asks_32 : decode cX0_asks 32 = .ok (.invokestatic 344, 3) := dk_184 1 88 (dk_at dksX0_asks_1 10 rfl rfl)
theorem dX0_asks_35 : decode cX0_asks 35 = .ok (.ireturn, 1) := dk_172 (dk_at dksX0_asks_1 13 rfl rfl)
def dkwX0_held_0 : List UInt8 := [27, 28, 26, 184, 0, 1, 184, 0, 7, 172]
abbrev dktX0_held_0 : List UInt8 := dkwX0_held_0 ++ []
theorem dksX0_held_0 : cX0_held.data.toList.drop 0 = dktX0_held_0 := by decide +kernel
theorem dX0_held_0 : decode cX0_held 0 = .ok (.iload_n 1, 1) := dk_27 (dk_at dksX0_held_0 0 rfl rfl)
theorem dX0_held_1 : decode cX0_held 1 = .ok (.iload_n 2, 1) := dk_28 (dk_at dksX0_held_0 1 rfl rfl)
theorem dX0_held_2 : decode cX0_held 2 = .ok (.iload_n 0, 1) := dk_26 (dk_at dksX0_held_0 2 rfl rfl)
theorem dX0_held_3 : decode cX0_held 3 = .ok (.invokestatic 1, 3) := dk_184 0 1 (dk_at dksX0_held_0 3 rfl rfl)
theorem dX0_held_6 : decode cX0_held 6 = .ok (.invokestatic 7, 3) := dk_184 0 7 (dk_at dksX0_held_0 6 rfl rfl)
theorem dX0_held_9 : decode cX0_held 9 = .ok (.ireturn, 1) := dk_172 (dk_at dksX0_held_0 9 rfl rfl)
def dkwX0_becomes_4 : List UInt8 := [181, 0, 79, 167, 0, 13, 42, 180, 0, 51, 28, 50, 29, 181, 0, 82, 177]
abbrev dktX0_becomes_4 : List UInt8 := dkwX0_becomes_4 ++ []
def dkwX0_becomes_3 : List UInt8 := [167, 0, 39, 42, 180, 0, 51, 28, 50, 29, 181, 0, 76, 167, 0, 26, 42, 180, 0, 51, 28, 50, 29]
abbrev dktX0_becomes_3 : List UInt8 := dkwX0_becomes_3 ++ dktX0_becomes_4
def dkwX0_becomes_2 : List UInt8 := [42, 29, 181, 0, 66, 167, 0, 57, 42, 29, 181, 0, 69, 167, 0, 49, 42, 180, 0, 72, 28, 29, 79]
abbrev dktX0_becomes_2 : List UInt8 := dkwX0_becomes_2 ++ dktX0_becomes_3
def dkwX0_becomes_1 : List UInt8 := [170, 0, 0, 0, 0, 0, 87, 0, 0, 0, 0, 0, 0, 0, 4, 0, 0, 0, 35, 0, 0, 0, 43, 0, 0, 0, 51, 0, 0, 0, 61, 0, 0, 0, 74]
abbrev dktX0_becomes_1 : List UInt8 := dkwX0_becomes_1 ++ dktX0_becomes_2
def dkwX0_becomes_0 : List UInt8 := [27]
abbrev dktX0_becomes_0 : List UInt8 := dkwX0_becomes_0 ++ dktX0_becomes_1
theorem dksX0_becomes_0 : cX0_becomes.data.toList.drop 0 = dktX0_becomes_0 := by decide +kernel
theorem dksX0_becomes_1 : cX0_becomes.data.toList.drop 1 = dktX0_becomes_1 := dk_seg dksX0_becomes_0 1 rfl rfl
theorem dksX0_becomes_2 : cX0_becomes.data.toList.drop 36 = dktX0_becomes_2 := dk_seg dksX0_becomes_1 35 rfl rfl
theorem dksX0_becomes_3 : cX0_becomes.data.toList.drop 59 = dktX0_becomes_3 := dk_seg dksX0_becomes_2 23 rfl rfl
theorem dksX0_becomes_4 : cX0_becomes.data.toList.drop 82 = dktX0_becomes_4 := dk_seg dksX0_becomes_3 23 rfl rfl
theorem dX0_becomes_0 : decode cX0_becomes 0 = .ok (.iload_n 1, 1) := dk_27 (dk_at dksX0_becomes_0 0 rfl rfl)
theorem dX0_becomes_1 : decode cX0_becomes 1 = .ok (.tableswitch 87 0 4 #[35, 43, 51, 61, 74], 35) := by decide +kernel
theorem dX0_becomes_36 : decode cX0_becomes 36 = .ok (.aload_n 0, 1) := dk_42 (dk_at dksX0_becomes_2 0 rfl rfl)
theorem dX0_becomes_37 : decode cX0_becomes 37 = .ok (.iload_n 3, 1) := dk_29 (dk_at dksX0_becomes_2 1 rfl rfl)
theorem dX0_becomes_38 : decode cX0_becomes 38 = .ok (.putfield 66, 3) := dk_181 0 66 (dk_at dksX0_becomes_2 2 rfl rfl)
theorem dX0_becomes_41 : decode cX0_becomes 41 = .ok (.goto 57, 3) := dk_167 0 57 (dk_at dksX0_becomes_2 5 rfl rfl)
theorem dX0_becomes_44 : decode cX0_becomes 44 = .ok (.aload_n 0, 1) := dk_42 (dk_at dksX0_becomes_2 8 rfl rfl)
theorem dX0_becomes_45 : decode cX0_becomes 45 = .ok (.iload_n 3, 1) := dk_29 (dk_at dksX0_becomes_2 9 rfl rfl)
theorem dX0_becomes_46 : decode cX0_becomes 46 = .ok (.putfield 69, 3) := dk_181 0 69 (dk_at dksX0_becomes_2 10 rfl rfl)
theorem dX0_becomes_49 : decode cX0_becomes 49 = .ok (.goto 49, 3) := dk_167 0 49 (dk_at dksX0_becomes_2 13 rfl rfl)
theorem dX0_becomes_52 : decode cX0_becomes 52 = .ok (.aload_n 0, 1) := dk_42 (dk_at dksX0_becomes_2 16 rfl rfl)
theorem dX0_becomes_53 : decode cX0_becomes 53 = .ok (.getfield 72, 3) := dk_180 0 72 (dk_at dksX0_becomes_2 17 rfl rfl)
theorem dX0_becomes_56 : decode cX0_becomes 56 = .ok (.iload_n 2, 1) := dk_28 (dk_at dksX0_becomes_2 20 rfl rfl)
theorem dX0_becomes_57 : decode cX0_becomes 57 = .ok (.iload_n 3, 1) := dk_29 (dk_at dksX0_becomes_2 21 rfl rfl)
theorem dX0_becomes_58 : decode cX0_becomes 58 = .ok (.iastore, 1) := dk_79 (dk_at dksX0_becomes_2 22 rfl rfl)
theorem dX0_becomes_59 : decode cX0_becomes 59 = .ok (.goto 39, 3) := dk_167 0 39 (dk_at dksX0_becomes_3 0 rfl rfl)
theorem dX0_becomes_62 : decode cX0_becomes 62 = .ok (.aload_n 0, 1) := dk_42 (dk_at dksX0_becomes_3 3 rfl rfl)
theorem dX0_becomes_63 : decode cX0_becomes 63 = .ok (.getfield 51, 3) := dk_180 0 51 (dk_at dksX0_becomes_3 4 rfl rfl)
theorem dX0_becomes_66 : decode cX0_becomes 66 = .ok (.iload_n 2, 1) := dk_28 (dk_at dksX0_becomes_3 7 rfl rfl)
theorem dX0_becomes_67 : decode cX0_becomes 67 = .ok (.aaload, 1) := dk_50 (dk_at dksX0_becomes_3 8 rfl rfl)
theorem dX0_becomes_68 : decode cX0_becomes 68 = .ok (.iload_n 3, 1) := dk_29 (dk_at dksX0_becomes_3 9 rfl rfl)
theorem dX0_becomes_69 : decode cX0_becomes 69 = .ok (.putfield 76, 3) := dk_181 0 76 (dk_at dksX0_becomes_3 10 rfl rfl)
theorem dX0_becomes_72 : decode cX0_becomes 72 = .ok (.goto 26, 3) := dk_167 0 26 (dk_at dksX0_becomes_3 13 rfl rfl)
theorem dX0_becomes_75 : decode cX0_becomes 75 = .ok (.aload_n 0, 1) := dk_42 (dk_at dksX0_becomes_3 16 rfl rfl)
theorem dX0_becomes_76 : decode cX0_becomes 76 = .ok (.getfield 51, 3) := dk_180 0 51 (dk_at dksX0_becomes_3 17 rfl rfl)
theorem dX0_becomes_79 : decode cX0_becomes 79 = .ok (.iload_n 2, 1) := dk_28 (dk_at dksX0_becomes_3 20 rfl rfl)
theorem dX0_becomes_80 : decode cX0_becomes 80 = .ok (.aaload, 1) := dk_50 (dk_at dksX0_becomes_3 21 rfl rfl)
theorem dX0_becomes_81 : decode cX0_becomes 81 = .ok (.iload_n 3, 1) := dk_29 (dk_at dksX0_becomes_3 22 rfl rfl)
theorem dX0_becomes_82 : decode cX0_becomes 82 = .ok (.putfield 79, 3) := dk_181 0 79 (dk_at dksX0_becomes_4 0 rfl rfl)
theorem dX0_becomes_85 : decode cX0_becomes 85 = .ok (.goto 13, 3) := dk_167 0 13 (dk_at dksX0_becomes_4 3 rfl rfl)
theorem dX0_becomes_88 : decode cX0_becomes 88 = .ok (.aload_n 0, 1) := dk_42 (dk_at dksX0_becomes_4 6 rfl rfl)
theorem dX0_becomes_89 : decode cX0_becomes 89 = .ok (.getfield 51, 3) := dk_180 0 51 (dk_at dksX0_becomes_4 7 rfl rfl)
theorem dX0_becomes_92 : decode cX0_becomes 92 = .ok (.iload_n 2, 1) := dk_28 (dk_at dksX0_becomes_4 10 rfl rfl)
theorem dX0_becomes_93 : decode cX0_becomes 93 = .ok (.aaload, 1) := dk_50 (dk_at dksX0_becomes_4 11 rfl rfl)
theorem dX0_becomes_94 : decode cX0_becomes 94 = .ok (.iload_n 3, 1) := dk_29 (dk_at dksX0_becomes_4 12 rfl rfl)
theorem dX0_becomes_95 : decode cX0_becomes 95 = .ok (.putfield 82, 3) := dk_181 0 82 (dk_at dksX0_becomes_4 13 rfl rfl)
theorem dX0_becomes_98 : decode cX0_becomes 98 = .ok (.return_, 1) := dk_177 (dk_at dksX0_becomes_4 16 rfl rfl)
def dkwX0_feed_2 : List UInt8 := [181, 0, 248, 42, 180, 0, 248, 172]
abbrev dktX0_feed_2 : List UInt8 := dkwX0_feed_2 ++ []
def dkwX0_feed_1 : List UInt8 := [160, 0, 6, 16, 252, 172, 42, 180, 0, 122, 42, 180, 0, 248, 27, 145, 84, 42, 89, 180, 0, 248, 4, 96]
abbrev dktX0_feed_1 : List UInt8 := dkwX0_feed_1 ++ dktX0_feed_2
def dkwX0_feed_0 : List UInt8 := [27, 133, 9, 20, 1, 9, 184, 0, 14, 154, 0, 6, 16, 254, 172, 42, 180, 0, 248, 17, 0, 160]
abbrev dktX0_feed_0 : List UInt8 := dkwX0_feed_0 ++ dktX0_feed_1
theorem dksX0_feed_0 : cX0_feed.data.toList.drop 0 = dktX0_feed_0 := by decide +kernel
theorem dksX0_feed_1 : cX0_feed.data.toList.drop 22 = dktX0_feed_1 := dk_seg dksX0_feed_0 22 rfl rfl
theorem dksX0_feed_2 : cX0_feed.data.toList.drop 46 = dktX0_feed_2 := dk_seg dksX0_feed_1 24 rfl rfl
theorem dX0_feed_0 : decode cX0_feed 0 = .ok (.iload_n 1, 1) := dk_27 (dk_at dksX0_feed_0 0 rfl rfl)
theorem dX0_feed_1 : decode cX0_feed 1 = .ok (.i2l, 1) := dk_133 (dk_at dksX0_feed_0 1 rfl rfl)
theorem dX0_feed_2 : decode cX0_feed 2 = .ok (.lconst 0, 1) := dk_9 (dk_at dksX0_feed_0 2 rfl rfl)
theorem dX0_feed_3 : decode cX0_feed 3 = .ok (.ldc2_w 265, 3) := dk_20 1 9 (dk_at dksX0_feed_0 3 rfl rfl)
theorem dX0_feed_6 : decode cX0_feed 6 = .ok (.invokestatic 14, 3) := dk_184 0 14 (dk_at dksX0_feed_0 6 rfl rfl)
theorem dX0_feed_9 : decode cX0_feed 9 = .ok (.ifCond .ne 6, 3) := dk_154 0 6 (dk_at dksX0_feed_0 9 rfl rfl)
theorem dX0_feed_12 : decode cX0_feed 12 = .ok (.bipush (-2), 2) := dk_16 254 (dk_at dksX0_feed_0 12 rfl rfl)
theorem dX0_feed_14 : decode cX0_feed 14 = .ok (.ireturn, 1) := dk_172 (dk_at dksX0_feed_0 14 rfl rfl)
theorem dX0_feed_15 : decode cX0_feed 15 = .ok (.aload_n 0, 1) := dk_42 (dk_at dksX0_feed_0 15 rfl rfl)
theorem dX0_feed_16 : decode cX0_feed 16 = .ok (.getfield 248, 3) := dk_180 0 248 (dk_at dksX0_feed_0 16 rfl rfl)
theorem dX0_feed_19 : decode cX0_feed 19 = .ok (.sipush 160, 3) := dk_17 0 160 (dk_at dksX0_feed_0 19 rfl rfl)
theorem dX0_feed_22 : decode cX0_feed 22 = .ok (.if_icmp .ne 6, 3) := dk_160 0 6 (dk_at dksX0_feed_1 0 rfl rfl)
theorem dX0_feed_25 : decode cX0_feed 25 = .ok (.bipush (-4), 2) := dk_16 252 (dk_at dksX0_feed_1 3 rfl rfl)
theorem dX0_feed_27 : decode cX0_feed 27 = .ok (.ireturn, 1) := dk_172 (dk_at dksX0_feed_1 5 rfl rfl)
theorem dX0_feed_28 : decode cX0_feed 28 = .ok (.aload_n 0, 1) := dk_42 (dk_at dksX0_feed_1 6 rfl rfl)
theorem dX0_feed_29 : decode cX0_feed 29 = .ok (.getfield 122, 3) := dk_180 0 122 (dk_at dksX0_feed_1 7 rfl rfl)
theorem dX0_feed_32 : decode cX0_feed 32 = .ok (.aload_n 0, 1) := dk_42 (dk_at dksX0_feed_1 10 rfl rfl)
theorem dX0_feed_33 : decode cX0_feed 33 = .ok (.getfield 248, 3) := dk_180 0 248 (dk_at dksX0_feed_1 11 rfl rfl)
theorem dX0_feed_36 : decode cX0_feed 36 = .ok (.iload_n 1, 1) := dk_27 (dk_at dksX0_feed_1 14 rfl rfl)
theorem dX0_feed_37 : decode cX0_feed 37 = .ok (.i2b, 1) := dk_145 (dk_at dksX0_feed_1 15 rfl rfl)
theorem dX0_feed_38 : decode cX0_feed 38 = .ok (.bastore, 1) := dk_84 (dk_at dksX0_feed_1 16 rfl rfl)
theorem dX0_feed_39 : decode cX0_feed 39 = .ok (.aload_n 0, 1) := dk_42 (dk_at dksX0_feed_1 17 rfl rfl)
theorem dX0_feed_40 : decode cX0_feed 40 = .ok (.dup, 1) := dk_89 (dk_at dksX0_feed_1 18 rfl rfl)
theorem dX0_feed_41 : decode cX0_feed 41 = .ok (.getfield 248, 3) := dk_180 0 248 (dk_at dksX0_feed_1 19 rfl rfl)
theorem dX0_feed_44 : decode cX0_feed 44 = .ok (.iconst 1, 1) := dk_4 (dk_at dksX0_feed_1 22 rfl rfl)
theorem dX0_feed_45 : decode cX0_feed 45 = .ok (.iadd, 1) := dk_96 (dk_at dksX0_feed_1 23 rfl rfl)
theorem dX0_feed_46 : decode cX0_feed 46 = .ok (.putfield 248, 3) := dk_181 0 248 (dk_at dksX0_feed_2 0 rfl rfl)
theorem dX0_feed_49 : decode cX0_feed 49 = .ok (.aload_n 0, 1) := dk_42 (dk_at dksX0_feed_2 3 rfl rfl)
theorem dX0_feed_50 : decode cX0_feed 50 = .ok (.getfield 248, 3) := dk_180 0 248 (dk_at dksX0_feed_2 4 rfl rfl)
theorem dX0_feed_53 : decode cX0_feed 53 = .ok (.ireturn, 1) := dk_172 (dk_at dksX0_feed_2 7 rfl rfl)
def dkwX0_text_0 : List UInt8 := [42, 180, 1, 3, 16, 6, 160, 0, 8, 16, 252, 167, 0, 7, 42, 182, 1, 6, 172]
abbrev dktX0_text_0 : List UInt8 := dkwX0_text_0 ++ []
theorem dksX0_text_0 : cX0_text.data.toList.drop 0 = dktX0_text_0 := by decide +kernel
theorem dX0_text_0 : decode cX0_text 0 = .ok (.aload_n 0, 1) := dk_42 (dk_at dksX0_text_0 0 rfl rfl)
theorem dX0_text_1 : decode cX0_text 1 = .ok (.getfield 259, 3) := dk_180 1 3 (dk_at dksX0_text_0 1 rfl rfl)
theorem dX0_text_4 : decode cX0_text 4 = .ok (.bipush 6, 2) := dk_16 6 (dk_at dksX0_text_0 4 rfl rfl)
theorem dX0_text_6 : decode cX0_text 6 = .ok (.if_icmp .ne 8, 3) := dk_160 0 8 (dk_at dksX0_text_0 6 rfl rfl)
theorem dX0_text_9 : decode cX0_text 9 = .ok (.bipush (-4), 2) := dk_16 252 (dk_at dksX0_text_0 9 rfl rfl)
theorem dX0_text_11 : decode cX0_text 11 = .ok (.goto 7, 3) := dk_167 0 7 (dk_at dksX0_text_0 11 rfl rfl)
theorem dX0_text_14 : decode cX0_text 14 = .ok (.aload_n 0, 1) := dk_42 (dk_at dksX0_text_0 14 rfl rfl)
theorem dX0_text_15 : decode cX0_text 15 = .ok (.invokevirtual 262, 3) := dk_182 1 6 (dk_at dksX0_text_0 15 rfl rfl)
theorem dX0_text_18 : decode cX0_text 18 = .ok (.ireturn, 1) := dk_172 (dk_at dksX0_text_0 18 rfl rfl)
def dkwX0_newText_5 : List UInt8 := [100, 172]
abbrev dktX0_newText_5 : List UInt8 := dkwX0_newText_5 ++ []
def dkwX0_newText_4 : List UInt8 := [180, 0, 255, 42, 180, 1, 3, 43, 83, 42, 89, 180, 1, 3, 4, 96, 181, 1, 3, 42, 180, 1, 3, 4]
abbrev dktX0_newText_4 : List UInt8 := dkwX0_newText_4 ++ dktX0_newText_5
def dkwX0_newText_3 : List UInt8 := [180, 0, 143, 153, 0, 8, 42, 180, 0, 169, 191, 167, 0, 12, 77, 16, 156, 42, 180, 0, 140, 100, 172, 42]
abbrev dktX0_newText_3 : List UInt8 := dkwX0_newText_3 ++ dktX0_newText_4
def dkwX0_newText_2 : List UInt8 := [43, 28, 42, 182, 0, 245, 83, 42, 42, 16, 59, 182, 0, 226, 182, 0, 196, 132, 2, 1, 167, 255, 222, 42]
abbrev dktX0_newText_2 : List UInt8 := dkwX0_newText_2 ++ dktX0_newText_3
def dkwX0_newText_1 : List UInt8 := [189, 0, 251, 76, 42, 182, 0, 190, 3, 61, 28, 6, 162, 0, 35, 42, 42, 28, 182, 0, 204, 182, 0, 196]
abbrev dktX0_newText_1 : List UInt8 := dkwX0_newText_1 ++ dktX0_newText_2
def dkwX0_newText_0 : List UInt8 := [42, 42, 180, 0, 248, 181, 0, 119, 42, 3, 181, 0, 248, 42, 3, 181, 0, 134, 42, 3, 181, 0, 193, 6]
abbrev dktX0_newText_0 : List UInt8 := dkwX0_newText_0 ++ dktX0_newText_1
theorem dksX0_newText_0 : cX0_newText.data.toList.drop 0 = dktX0_newText_0 := by decide +kernel
theorem dksX0_newText_1 : cX0_newText.data.toList.drop 24 = dktX0_newText_1 := dk_seg dksX0_newText_0 24 rfl rfl
theorem dksX0_newText_2 : cX0_newText.data.toList.drop 48 = dktX0_newText_2 := dk_seg dksX0_newText_1 24 rfl rfl
theorem dksX0_newText_3 : cX0_newText.data.toList.drop 72 = dktX0_newText_3 := dk_seg dksX0_newText_2 24 rfl rfl
theorem dksX0_newText_4 : cX0_newText.data.toList.drop 96 = dktX0_newText_4 := dk_seg dksX0_newText_3 24 rfl rfl
theorem dksX0_newText_5 : cX0_newText.data.toList.drop 120 = dktX0_newText_5 := dk_seg dksX0_newText_4 24 rfl rfl
theorem dX0_newText_0 : decode cX0_newText 0 = .ok (.aload_n 0, 1) := dk_42 (dk_at dksX0_newText_0 0 rfl rfl)
theorem dX0_newText_1 : decode cX0_newText 1 = .ok (.aload_n 0, 1) := dk_42 (dk_at dksX0_newText_0 1 rfl rfl)
theorem dX0_newText_2 : decode cX0_newText 2 = .ok (.getfield 248, 3) := dk_180 0 248 (dk_at dksX0_newText_0 2 rfl rfl)
theorem dX0_newText_5 : decode cX0_newText 5 = .ok (.putfield 119, 3) := dk_181 0 119 (dk_at dksX0_newText_0 5 rfl rfl)
theorem dX0_newText_8 : decode cX0_newText 8 = .ok (.aload_n 0, 1) := dk_42 (dk_at dksX0_newText_0 8 rfl rfl)
theorem dX0_newText_9 : decode cX0_newText 9 = .ok (.iconst 0, 1) := dk_3 (dk_at dksX0_newText_0 9 rfl rfl)
theorem dX0_newText_10 : decode cX0_newText 10 = .ok (.putfield 248, 3) := dk_181 0 248 (dk_at dksX0_newText_0 10 rfl rfl)
theorem dX0_newText_13 : decode cX0_newText 13 = .ok (.aload_n 0, 1) := dk_42 (dk_at dksX0_newText_0 13 rfl rfl)
theorem dX0_newText_14 : decode cX0_newText 14 = .ok (.iconst 0, 1) := dk_3 (dk_at dksX0_newText_0 14 rfl rfl)
theorem dX0_newText_15 : decode cX0_newText 15 = .ok (.putfield 134, 3) := dk_181 0 134 (dk_at dksX0_newText_0 15 rfl rfl)
theorem dX0_newText_18 : decode cX0_newText 18 = .ok (.aload_n 0, 1) := dk_42 (dk_at dksX0_newText_0 18 rfl rfl)
theorem dX0_newText_19 : decode cX0_newText 19 = .ok (.iconst 0, 1) := dk_3 (dk_at dksX0_newText_0 19 rfl rfl)
theorem dX0_newText_20 : decode cX0_newText 20 = .ok (.putfield 193, 3) := dk_181 0 193 (dk_at dksX0_newText_0 20 rfl rfl)
theorem dX0_newText_23 : decode cX0_newText 23 = .ok (.iconst 3, 1) := dk_6 (dk_at dksX0_newText_0 23 rfl rfl)
theorem dX0_newText_24 : decode cX0_newText 24 = .ok (.anewarray 251, 3) := dk_189 0 251 (dk_at dksX0_newText_1 0 rfl rfl)
theorem dX0_newText_27 : decode cX0_newText 27 = .ok (.astore_n 1, 1) := dk_76 (dk_at dksX0_newText_1 3 rfl rfl)
theorem dX0_newText_28 : decode cX0_newText 28 = .ok (.aload_n 0, 1) := dk_42 (dk_at dksX0_newText_1 4 rfl rfl)
theorem dX0_newText_29 : decode cX0_newText 29 = .ok (.invokevirtual 190, 3) := dk_182 0 190 (dk_at dksX0_newText_1 5 rfl rfl)
theorem dX0_newText_32 : decode cX0_newText 32 = .ok (.iconst 0, 1) := dk_3 (dk_at dksX0_newText_1 8 rfl rfl)
theorem dX0_newText_33 : decode cX0_newText 33 = .ok (.istore_n 2, 1) := dk_61 (dk_at dksX0_newText_1 9 rfl rfl)
theorem dX0_newText_34 : decode cX0_newText 34 = .ok (.iload_n 2, 1) := dk_28 (dk_at dksX0_newText_1 10 rfl rfl)
theorem dX0_newText_35 : decode cX0_newText 35 = .ok (.iconst 3, 1) := dk_6 (dk_at dksX0_newText_1 11 rfl rfl)
theorem dX0_newText_36 : decode cX0_newText 36 = .ok (.if_icmp .ge 35, 3) := dk_162 0 35 (dk_at dksX0_newText_1 12 rfl rfl)
theorem dX0_newText_39 : decode cX0_newText 39 = .ok (.aload_n 0, 1) := dk_42 (dk_at dksX0_newText_1 15 rfl rfl)
theorem dX0_newText_40 : decode cX0_newText 40 = .ok (.aload_n 0, 1) := dk_42 (dk_at dksX0_newText_1 16 rfl rfl)
theorem dX0_newText_41 : decode cX0_newText 41 = .ok (.iload_n 2, 1) := dk_28 (dk_at dksX0_newText_1 17 rfl rfl)
theorem dX0_newText_42 : decode cX0_newText 42 = .ok (.invokevirtual 204, 3) := dk_182 0 204 (dk_at dksX0_newText_1 18 rfl rfl)
theorem dX0_newText_45 : decode cX0_newText 45 = .ok (.invokevirtual 196, 3) := dk_182 0 196 (dk_at dksX0_newText_1 21 rfl rfl)
theorem dX0_newText_48 : decode cX0_newText 48 = .ok (.aload_n 1, 1) := dk_43 (dk_at dksX0_newText_2 0 rfl rfl)
theorem dX0_newText_49 : decode cX0_newText 49 = .ok (.iload_n 2, 1) := dk_28 (dk_at dksX0_newText_2 1 rfl rfl)
theorem dX0_newText_50 : decode cX0_newText 50 = .ok (.aload_n 0, 1) := dk_42 (dk_at dksX0_newText_2 2 rfl rfl)
theorem dX0_newText_51 : decode cX0_newText 51 = .ok (.invokevirtual 245, 3) := dk_182 0 245 (dk_at dksX0_newText_2 3 rfl rfl)
theorem dX0_newText_54 : decode cX0_newText 54 = .ok (.aastore, 1) := dk_83 (dk_at dksX0_newText_2 6 rfl rfl)
theorem dX0_newText_55 : decode cX0_newText 55 = .ok (.aload_n 0, 1) := dk_42 (dk_at dksX0_newText_2 7 rfl rfl)
theorem dX0_newText_56 : decode cX0_newText 56 = .ok (.aload_n 0, 1) := dk_42 (dk_at dksX0_newText_2 8 rfl rfl)
theorem dX0_newText_57 : decode cX0_newText 57 = .ok (.bipush 59, 2) := dk_16 59 (dk_at dksX0_newText_2 9 rfl rfl)
theorem dX0_newText_59 : decode cX0_newText 59 = .ok (.invokevirtual 226, 3) := dk_182 0 226 (dk_at dksX0_newText_2 11 rfl rfl)
theorem dX0_newText_62 : decode cX0_newText 62 = .ok (.invokevirtual 196, 3) := dk_182 0 196 (dk_at dksX0_newText_2 14 rfl rfl)
theorem dX0_newText_65 : decode cX0_newText 65 = .ok (.iinc 2 1, 3) := dk_132 2 1 (dk_at dksX0_newText_2 17 rfl rfl)
theorem dX0_newText_68 : decode cX0_newText 68 = .ok (.goto (-34), 3) := dk_167 255 222 (dk_at dksX0_newText_2 20 rfl rfl)
theorem dX0_newText_71 : decode cX0_newText 71 = .ok (.aload_n 0, 1) := dk_42 (dk_at dksX0_newText_2 23 rfl rfl)
theorem dX0_newText_72 : decode cX0_newText 72 = .ok (.getfield 143, 3) := dk_180 0 143 (dk_at dksX0_newText_3 0 rfl rfl)
theorem dX0_newText_75 : decode cX0_newText 75 = .ok (.ifCond .eq 8, 3) := dk_153 0 8 (dk_at dksX0_newText_3 3 rfl rfl)
theorem dX0_newText_78 : decode cX0_newText 78 = .ok (.aload_n 0, 1) := dk_42 (dk_at dksX0_newText_3 6 rfl rfl)
theorem dX0_newText_79 : decode cX0_newText 79 = .ok (.getfield 169, 3) := dk_180 0 169 (dk_at dksX0_newText_3 7 rfl rfl)
theorem dX0_newText_82 : decode cX0_newText 82 = .ok (.athrow, 1) := dk_191 (dk_at dksX0_newText_3 10 rfl rfl)
theorem dX0_newText_83 : decode cX0_newText 83 = .ok (.goto 12, 3) := dk_167 0 12 (dk_at dksX0_newText_3 11 rfl rfl)
theorem dX0_newText_86 : decode cX0_newText 86 = .ok (.astore_n 2, 1) := dk_77 (dk_at dksX0_newText_3 14 rfl rfl)
theorem dX0_newText_87 : decode cX0_newText 87 = .ok (.bipush (-100), 2) := dk_16 156 (dk_at dksX0_newText_3 15 rfl rfl)
theorem dX0_newText_89 : decode cX0_newText 89 = .ok (.aload_n 0, 1) := dk_42 (dk_at dksX0_newText_3 17 rfl rfl)
theorem dX0_newText_90 : decode cX0_newText 90 = .ok (.getfield 140, 3) := dk_180 0 140 (dk_at dksX0_newText_3 18 rfl rfl)
theorem dX0_newText_93 : decode cX0_newText 93 = .ok (.isub, 1) := dk_100 (dk_at dksX0_newText_3 21 rfl rfl)
theorem dX0_newText_94 : decode cX0_newText 94 = .ok (.ireturn, 1) := dk_172 (dk_at dksX0_newText_3 22 rfl rfl)
theorem dX0_newText_95 : decode cX0_newText 95 = .ok (.aload_n 0, 1) := dk_42 (dk_at dksX0_newText_3 23 rfl rfl)
theorem dX0_newText_96 : decode cX0_newText 96 = .ok (.getfield 255, 3) := dk_180 0 255 (dk_at dksX0_newText_4 0 rfl rfl)
theorem dX0_newText_99 : decode cX0_newText 99 = .ok (.aload_n 0, 1) := dk_42 (dk_at dksX0_newText_4 3 rfl rfl)
theorem dX0_newText_100 : decode cX0_newText 100 = .ok (.getfield 259, 3) := dk_180 1 3 (dk_at dksX0_newText_4 4 rfl rfl)
theorem dX0_newText_103 : decode cX0_newText 103 = .ok (.aload_n 1, 1) := dk_43 (dk_at dksX0_newText_4 7 rfl rfl)
theorem dX0_newText_104 : decode cX0_newText 104 = .ok (.aastore, 1) := dk_83 (dk_at dksX0_newText_4 8 rfl rfl)
theorem dX0_newText_105 : decode cX0_newText 105 = .ok (.aload_n 0, 1) := dk_42 (dk_at dksX0_newText_4 9 rfl rfl)
theorem dX0_newText_106 : decode cX0_newText 106 = .ok (.dup, 1) := dk_89 (dk_at dksX0_newText_4 10 rfl rfl)
theorem dX0_newText_107 : decode cX0_newText 107 = .ok (.getfield 259, 3) := dk_180 1 3 (dk_at dksX0_newText_4 11 rfl rfl)
theorem dX0_newText_110 : decode cX0_newText 110 = .ok (.iconst 1, 1) := dk_4 (dk_at dksX0_newText_4 14 rfl rfl)
theorem dX0_newText_111 : decode cX0_newText 111 = .ok (.iadd, 1) := dk_96 (dk_at dksX0_newText_4 15 rfl rfl)
theorem dX0_newText_112 : decode cX0_newText 112 = .ok (.putfield 259, 3) := dk_181 1 3 (dk_at dksX0_newText_4 16 rfl rfl)
theorem dX0_newText_115 : decode cX0_newText 115 = .ok (.aload_n 0, 1) := dk_42 (dk_at dksX0_newText_4 19 rfl rfl)
theorem dX0_newText_116 : decode cX0_newText 116 = .ok (.getfield 259, 3) := dk_180 1 3 (dk_at dksX0_newText_4 20 rfl rfl)
theorem dX0_newText_119 : decode cX0_newText 119 = .ok (.iconst 1, 1) := dk_4 (dk_at dksX0_newText_4 23 rfl rfl)
theorem dX0_newText_120 : decode cX0_newText 120 = .ok (.isub, 1) := dk_100 (dk_at dksX0_newText_5 0 rfl rfl)
theorem dX0_newText_121 : decode cX0_newText 121 = .ok (.ireturn, 1) := dk_172 (dk_at dksX0_newText_5 1 rfl rfl)
def dkwX0_next_5 : List UInt8 := [18, 162, 27, 182, 0, 164, 156, 0, 8, 42, 180, 0, 169, 191, 177]
abbrev dktX0_next_5 : List UInt8 := dkwX0_next_5 ++ []
def dkwX0_next_4 : List UInt8 := [167, 0, 37, 42, 7, 181, 0, 143, 42, 27, 181, 0, 159, 42, 89, 180, 0, 134, 4, 96, 181, 0, 134]
abbrev dktX0_next_4 : List UInt8 := dkwX0_next_4 ++ dktX0_next_5
def dkwX0_next_3 : List UInt8 := [184, 0, 146, 153, 0, 10, 42, 182, 0, 149, 167, 0, 51, 27, 184, 0, 153, 153, 0, 10, 42, 182, 0, 156]
abbrev dktX0_next_3 : List UInt8 := dkwX0_next_3 ++ dktX0_next_4
def dkwX0_next_2 : List UInt8 := [42, 42, 180, 0, 134, 182, 0, 137, 60, 27, 2, 160, 0, 11, 42, 3, 181, 0, 143, 167, 0, 65, 27]
abbrev dktX0_next_2 : List UInt8 := dkwX0_next_2 ++ dktX0_next_3
def dkwX0_next_1 : List UInt8 := [160, 0, 16, 42, 89, 180, 0, 134, 4, 96, 181, 0, 134, 167, 255, 220, 42, 42, 180, 0, 134, 181, 0, 140]
abbrev dktX0_next_1 : List UInt8 := dkwX0_next_1 ++ dktX0_next_2
def dkwX0_next_0 : List UInt8 := [42, 42, 180, 0, 134, 182, 0, 137, 16, 32, 159, 0, 16, 42, 42, 180, 0, 134, 182, 0, 137, 16, 10]
abbrev dktX0_next_0 : List UInt8 := dkwX0_next_0 ++ dktX0_next_1
theorem dksX0_next_0 : cX0_next.data.toList.drop 0 = dktX0_next_0 := by decide +kernel
theorem dksX0_next_1 : cX0_next.data.toList.drop 23 = dktX0_next_1 := dk_seg dksX0_next_0 23 rfl rfl
theorem dksX0_next_2 : cX0_next.data.toList.drop 47 = dktX0_next_2 := dk_seg dksX0_next_1 24 rfl rfl
theorem dksX0_next_3 : cX0_next.data.toList.drop 70 = dktX0_next_3 := dk_seg dksX0_next_2 23 rfl rfl
theorem dksX0_next_4 : cX0_next.data.toList.drop 94 = dktX0_next_4 := dk_seg dksX0_next_3 24 rfl rfl
theorem dksX0_next_5 : cX0_next.data.toList.drop 117 = dktX0_next_5 := dk_seg dksX0_next_4 23 rfl rfl
theorem dX0_next_0 : decode cX0_next 0 = .ok (.aload_n 0, 1) := dk_42 (dk_at dksX0_next_0 0 rfl rfl)
theorem dX0_next_1 : decode cX0_next 1 = .ok (.aload_n 0, 1) := dk_42 (dk_at dksX0_next_0 1 rfl rfl)
theorem dX0_next_2 : decode cX0_next 2 = .ok (.getfield 134, 3) := dk_180 0 134 (dk_at dksX0_next_0 2 rfl rfl)
theorem dX0_next_5 : decode cX0_next 5 = .ok (.invokevirtual 137, 3) := dk_182 0 137 (dk_at dksX0_next_0 5 rfl rfl)
theorem dX0_next_8 : decode cX0_next 8 = .ok (.bipush 32, 2) := dk_16 32 (dk_at dksX0_next_0 8 rfl rfl)
theorem dX0_next_10 : decode cX0_next 10 = .ok (.if_icmp .eq 16, 3) := dk_159 0 16 (dk_at dksX0_next_0 10 rfl rfl)
theorem dX0_next_13 : decode cX0_next 13 = .ok (.aload_n 0, 1) := dk_42 (dk_at dksX0_next_0 13 rfl rfl)
theorem dX0_next_14 : decode cX0_next 14 = .ok (.aload_n 0, 1) := dk_42 (dk_at dksX0_next_0 14 rfl rfl)
theorem dX0_next_15 : decode cX0_next 15 = .ok (.getfield 134, 3) := dk_180 0 134 (dk_at dksX0_next_0 15 rfl rfl)
theorem dX0_next_18 : decode cX0_next 18 = .ok (.invokevirtual 137, 3) := dk_182 0 137 (dk_at dksX0_next_0 18 rfl rfl)
theorem dX0_next_21 : decode cX0_next 21 = .ok (.bipush 10, 2) := dk_16 10 (dk_at dksX0_next_0 21 rfl rfl)
theorem dX0_next_23 : decode cX0_next 23 = .ok (.if_icmp .ne 16, 3) := dk_160 0 16 (dk_at dksX0_next_1 0 rfl rfl)
theorem dX0_next_26 : decode cX0_next 26 = .ok (.aload_n 0, 1) := dk_42 (dk_at dksX0_next_1 3 rfl rfl)
theorem dX0_next_27 : decode cX0_next 27 = .ok (.dup, 1) := dk_89 (dk_at dksX0_next_1 4 rfl rfl)
theorem dX0_next_28 : decode cX0_next 28 = .ok (.getfield 134, 3) := dk_180 0 134 (dk_at dksX0_next_1 5 rfl rfl)
theorem dX0_next_31 : decode cX0_next 31 = .ok (.iconst 1, 1) := dk_4 (dk_at dksX0_next_1 8 rfl rfl)
theorem dX0_next_32 : decode cX0_next 32 = .ok (.iadd, 1) := dk_96 (dk_at dksX0_next_1 9 rfl rfl)
theorem dX0_next_33 : decode cX0_next 33 = .ok (.putfield 134, 3) := dk_181 0 134 (dk_at dksX0_next_1 10 rfl rfl)
theorem dX0_next_36 : decode cX0_next 36 = .ok (.goto (-36), 3) := dk_167 255 220 (dk_at dksX0_next_1 13 rfl rfl)
theorem dX0_next_39 : decode cX0_next 39 = .ok (.aload_n 0, 1) := dk_42 (dk_at dksX0_next_1 16 rfl rfl)
theorem dX0_next_40 : decode cX0_next 40 = .ok (.aload_n 0, 1) := dk_42 (dk_at dksX0_next_1 17 rfl rfl)
theorem dX0_next_41 : decode cX0_next 41 = .ok (.getfield 134, 3) := dk_180 0 134 (dk_at dksX0_next_1 18 rfl rfl)
theorem dX0_next_44 : decode cX0_next 44 = .ok (.putfield 140, 3) := dk_181 0 140 (dk_at dksX0_next_1 21 rfl rfl)
theorem dX0_next_47 : decode cX0_next 47 = .ok (.aload_n 0, 1) := dk_42 (dk_at dksX0_next_2 0 rfl rfl)
theorem dX0_next_48 : decode cX0_next 48 = .ok (.aload_n 0, 1) := dk_42 (dk_at dksX0_next_2 1 rfl rfl)
theorem dX0_next_49 : decode cX0_next 49 = .ok (.getfield 134, 3) := dk_180 0 134 (dk_at dksX0_next_2 2 rfl rfl)
theorem dX0_next_52 : decode cX0_next 52 = .ok (.invokevirtual 137, 3) := dk_182 0 137 (dk_at dksX0_next_2 5 rfl rfl)
theorem dX0_next_55 : decode cX0_next 55 = .ok (.istore_n 1, 1) := dk_60 (dk_at dksX0_next_2 8 rfl rfl)
theorem dX0_next_56 : decode cX0_next 56 = .ok (.iload_n 1, 1) := dk_27 (dk_at dksX0_next_2 9 rfl rfl)
theorem dX0_next_57 : decode cX0_next 57 = .ok (.iconst (-1), 1) := dk_2 (dk_at dksX0_next_2 10 rfl rfl)
theorem dX0_next_58 : decode cX0_next 58 = .ok (.if_icmp .ne 11, 3) := dk_160 0 11 (dk_at dksX0_next_2 11 rfl rfl)
theorem dX0_next_61 : decode cX0_next 61 = .ok (.aload_n 0, 1) := dk_42 (dk_at dksX0_next_2 14 rfl rfl)
theorem dX0_next_62 : decode cX0_next 62 = .ok (.iconst 0, 1) := dk_3 (dk_at dksX0_next_2 15 rfl rfl)
theorem dX0_next_63 : decode cX0_next 63 = .ok (.putfield 143, 3) := dk_181 0 143 (dk_at dksX0_next_2 16 rfl rfl)
theorem dX0_next_66 : decode cX0_next 66 = .ok (.goto 65, 3) := dk_167 0 65 (dk_at dksX0_next_2 19 rfl rfl)
theorem dX0_next_69 : decode cX0_next 69 = .ok (.iload_n 1, 1) := dk_27 (dk_at dksX0_next_2 22 rfl rfl)
theorem dX0_next_70 : decode cX0_next 70 = .ok (.invokestatic 146, 3) := dk_184 0 146 (dk_at dksX0_next_3 0 rfl rfl)
theorem dX0_next_73 : decode cX0_next 73 = .ok (.ifCond .eq 10, 3) := dk_153 0 10 (dk_at dksX0_next_3 3 rfl rfl)
theorem dX0_next_76 : decode cX0_next 76 = .ok (.aload_n 0, 1) := dk_42 (dk_at dksX0_next_3 6 rfl rfl)
theorem dX0_next_77 : decode cX0_next 77 = .ok (.invokevirtual 149, 3) := dk_182 0 149 (dk_at dksX0_next_3 7 rfl rfl)
theorem dX0_next_80 : decode cX0_next 80 = .ok (.goto 51, 3) := dk_167 0 51 (dk_at dksX0_next_3 10 rfl rfl)
theorem dX0_next_83 : decode cX0_next 83 = .ok (.iload_n 1, 1) := dk_27 (dk_at dksX0_next_3 13 rfl rfl)
theorem dX0_next_84 : decode cX0_next 84 = .ok (.invokestatic 153, 3) := dk_184 0 153 (dk_at dksX0_next_3 14 rfl rfl)
theorem dX0_next_87 : decode cX0_next 87 = .ok (.ifCond .eq 10, 3) := dk_153 0 10 (dk_at dksX0_next_3 17 rfl rfl)
theorem dX0_next_90 : decode cX0_next 90 = .ok (.aload_n 0, 1) := dk_42 (dk_at dksX0_next_3 20 rfl rfl)
theorem dX0_next_91 : decode cX0_next 91 = .ok (.invokevirtual 156, 3) := dk_182 0 156 (dk_at dksX0_next_3 21 rfl rfl)
theorem dX0_next_94 : decode cX0_next 94 = .ok (.goto 37, 3) := dk_167 0 37 (dk_at dksX0_next_4 0 rfl rfl)
theorem dX0_next_97 : decode cX0_next 97 = .ok (.aload_n 0, 1) := dk_42 (dk_at dksX0_next_4 3 rfl rfl)
theorem dX0_next_98 : decode cX0_next 98 = .ok (.iconst 4, 1) := dk_7 (dk_at dksX0_next_4 4 rfl rfl)
theorem dX0_next_99 : decode cX0_next 99 = .ok (.putfield 143, 3) := dk_181 0 143 (dk_at dksX0_next_4 5 rfl rfl)
theorem dX0_next_102 : decode cX0_next 102 = .ok (.aload_n 0, 1) := dk_42 (dk_at dksX0_next_4 8 rfl rfl)
theorem dX0_next_103 : decode cX0_next 103 = .ok (.iload_n 1, 1) := dk_27 (dk_at dksX0_next_4 9 rfl rfl)
theorem dX0_next_104 : decode cX0_next 104 = .ok (.putfield 159, 3) := dk_181 0 159 (dk_at dksX0_next_4 10 rfl rfl)
theorem dX0_next_107 : decode cX0_next 107 = .ok (.aload_n 0, 1) := dk_42 (dk_at dksX0_next_4 13 rfl rfl)
theorem dX0_next_108 : decode cX0_next 108 = .ok (.dup, 1) := dk_89 (dk_at dksX0_next_4 14 rfl rfl)
theorem dX0_next_109 : decode cX0_next 109 = .ok (.getfield 134, 3) := dk_180 0 134 (dk_at dksX0_next_4 15 rfl rfl)
theorem dX0_next_112 : decode cX0_next 112 = .ok (.iconst 1, 1) := dk_4 (dk_at dksX0_next_4 18 rfl rfl)
theorem dX0_next_113 : decode cX0_next 113 = .ok (.iadd, 1) := dk_96 (dk_at dksX0_next_4 19 rfl rfl)
theorem dX0_next_114 : decode cX0_next 114 = .ok (.putfield 134, 3) := dk_181 0 134 (dk_at dksX0_next_4 20 rfl rfl)
theorem dX0_next_117 : decode cX0_next 117 = .ok (.ldc 162, 2) := dk_18 162 (dk_at dksX0_next_5 0 rfl rfl)
theorem dX0_next_119 : decode cX0_next 119 = .ok (.iload_n 1, 1) := dk_27 (dk_at dksX0_next_5 2 rfl rfl)
theorem dX0_next_120 : decode cX0_next 120 = .ok (.invokevirtual 164, 3) := dk_182 0 164 (dk_at dksX0_next_5 3 rfl rfl)
theorem dX0_next_123 : decode cX0_next 123 = .ok (.ifCond .ge 8, 3) := dk_156 0 8 (dk_at dksX0_next_5 6 rfl rfl)
theorem dX0_next_126 : decode cX0_next 126 = .ok (.aload_n 0, 1) := dk_42 (dk_at dksX0_next_5 9 rfl rfl)
theorem dX0_next_127 : decode cX0_next 127 = .ok (.getfield 169, 3) := dk_180 0 169 (dk_at dksX0_next_5 10 rfl rfl)
theorem dX0_next_130 : decode cX0_next 130 = .ok (.athrow, 1) := dk_191 (dk_at dksX0_next_5 13 rfl rfl)
theorem dX0_next_131 : decode cX0_next 131 = .ok (.return_, 1) := dk_177 (dk_at dksX0_next_5 14 rfl rfl)
def dkwX0_byteAt_0 : List UInt8 := [27, 42, 180, 0, 119, 162, 0, 16, 42, 180, 0, 122, 27, 51, 17, 0, 255, 126, 167, 0, 4, 2, 172]
abbrev dktX0_byteAt_0 : List UInt8 := dkwX0_byteAt_0 ++ []
theorem dksX0_byteAt_0 : cX0_byteAt.data.toList.drop 0 = dktX0_byteAt_0 := by decide +kernel
theorem dX0_byteAt_0 : decode cX0_byteAt 0 = .ok (.iload_n 1, 1) := dk_27 (dk_at dksX0_byteAt_0 0 rfl rfl)
theorem dX0_byteAt_1 : decode cX0_byteAt 1 = .ok (.aload_n 0, 1) := dk_42 (dk_at dksX0_byteAt_0 1 rfl rfl)
theorem dX0_byteAt_2 : decode cX0_byteAt 2 = .ok (.getfield 119, 3) := dk_180 0 119 (dk_at dksX0_byteAt_0 2 rfl rfl)
theorem dX0_byteAt_5 : decode cX0_byteAt 5 = .ok (.if_icmp .ge 16, 3) := dk_162 0 16 (dk_at dksX0_byteAt_0 5 rfl rfl)
theorem dX0_byteAt_8 : decode cX0_byteAt 8 = .ok (.aload_n 0, 1) := dk_42 (dk_at dksX0_byteAt_0 8 rfl rfl)
theorem dX0_byteAt_9 : decode cX0_byteAt 9 = .ok (.getfield 122, 3) := dk_180 0 122 (dk_at dksX0_byteAt_0 9 rfl rfl)
theorem dX0_byteAt_12 : decode cX0_byteAt 12 = .ok (.iload_n 1, 1) := dk_27 (dk_at dksX0_byteAt_0 12 rfl rfl)
theorem dX0_byteAt_13 : decode cX0_byteAt 13 = .ok (.baload, 1) := dk_51 (dk_at dksX0_byteAt_0 13 rfl rfl)
theorem dX0_byteAt_14 : decode cX0_byteAt 14 = .ok (.sipush 255, 3) := dk_17 0 255 (dk_at dksX0_byteAt_0 14 rfl rfl)
theorem dX0_byteAt_17 : decode cX0_byteAt 17 = .ok (.iand, 1) := dk_126 (dk_at dksX0_byteAt_0 17 rfl rfl)
theorem dX0_byteAt_18 : decode cX0_byteAt 18 = .ok (.goto 4, 3) := dk_167 0 4 (dk_at dksX0_byteAt_0 18 rfl rfl)
theorem dX0_byteAt_21 : decode cX0_byteAt 21 = .ok (.iconst (-1), 1) := dk_2 (dk_at dksX0_byteAt_0 21 rfl rfl)
theorem dX0_byteAt_22 : decode cX0_byteAt 22 = .ok (.ireturn, 1) := dk_172 (dk_at dksX0_byteAt_0 22 rfl rfl)
def dkwX0_isLetter_0 : List UInt8 := [26, 133, 20, 0, 126, 20, 0, 128, 184, 0, 14, 172]
abbrev dktX0_isLetter_0 : List UInt8 := dkwX0_isLetter_0 ++ []
theorem dksX0_isLetter_0 : cX0_isLetter.data.toList.drop 0 = dktX0_isLetter_0 := by decide +kernel
theorem dX0_isLetter_0 : decode cX0_isLetter 0 = .ok (.iload_n 0, 1) := dk_26 (dk_at dksX0_isLetter_0 0 rfl rfl)
theorem dX0_isLetter_1 : decode cX0_isLetter 1 = .ok (.i2l, 1) := dk_133 (dk_at dksX0_isLetter_0 1 rfl rfl)
theorem dX0_isLetter_2 : decode cX0_isLetter 2 = .ok (.ldc2_w 126, 3) := dk_20 0 126 (dk_at dksX0_isLetter_0 2 rfl rfl)
theorem dX0_isLetter_5 : decode cX0_isLetter 5 = .ok (.ldc2_w 128, 3) := dk_20 0 128 (dk_at dksX0_isLetter_0 5 rfl rfl)
theorem dX0_isLetter_8 : decode cX0_isLetter 8 = .ok (.invokestatic 14, 3) := dk_184 0 14 (dk_at dksX0_isLetter_0 8 rfl rfl)
theorem dX0_isLetter_11 : decode cX0_isLetter 11 = .ok (.ireturn, 1) := dk_172 (dk_at dksX0_isLetter_0 11 rfl rfl)
def dkwX0_word_3 : List UInt8 := [42, 180, 0, 159, 2, 160, 0, 8, 42, 180, 0, 169, 191, 177]
abbrev dktX0_word_3 : List UInt8 := dkwX0_word_3 ++ []
def dkwX0_word_2 : List UInt8 := [181, 0, 143, 42, 27, 2, 160, 0, 14, 42, 42, 180, 0, 187, 182, 0, 183, 167, 0, 4, 27, 181, 0, 159]
abbrev dktX0_word_2 : List UInt8 := dkwX0_word_2 ++ dktX0_word_3
def dkwX0_word_1 : List UInt8 := [167, 255, 232, 42, 42, 180, 0, 179, 182, 0, 183, 60, 42, 27, 2, 160, 0, 7, 5, 167, 0, 4, 4]
abbrev dktX0_word_1 : List UInt8 := dkwX0_word_1 ++ dktX0_word_2
def dkwX0_word_0 : List UInt8 := [42, 42, 180, 0, 134, 182, 0, 137, 184, 0, 146, 153, 0, 16, 42, 89, 180, 0, 134, 4, 96, 181, 0, 134]
abbrev dktX0_word_0 : List UInt8 := dkwX0_word_0 ++ dktX0_word_1
theorem dksX0_word_0 : cX0_word.data.toList.drop 0 = dktX0_word_0 := by decide +kernel
theorem dksX0_word_1 : cX0_word.data.toList.drop 24 = dktX0_word_1 := dk_seg dksX0_word_0 24 rfl rfl
theorem dksX0_word_2 : cX0_word.data.toList.drop 47 = dktX0_word_2 := dk_seg dksX0_word_1 23 rfl rfl
theorem dksX0_word_3 : cX0_word.data.toList.drop 71 = dktX0_word_3 := dk_seg dksX0_word_2 24 rfl rfl
theorem dX0_word_0 : decode cX0_word 0 = .ok (.aload_n 0, 1) := dk_42 (dk_at dksX0_word_0 0 rfl rfl)
theorem dX0_word_1 : decode cX0_word 1 = .ok (.aload_n 0, 1) := dk_42 (dk_at dksX0_word_0 1 rfl rfl)
theorem dX0_word_2 : decode cX0_word 2 = .ok (.getfield 134, 3) := dk_180 0 134 (dk_at dksX0_word_0 2 rfl rfl)
theorem dX0_word_5 : decode cX0_word 5 = .ok (.invokevirtual 137, 3) := dk_182 0 137 (dk_at dksX0_word_0 5 rfl rfl)
theorem dX0_word_8 : decode cX0_word 8 = .ok (.invokestatic 146, 3) := dk_184 0 146 (dk_at dksX0_word_0 8 rfl rfl)
theorem dX0_word_11 : decode cX0_word 11 = .ok (.ifCond .eq 16, 3) := dk_153 0 16 (dk_at dksX0_word_0 11 rfl rfl)
theorem dX0_word_14 : decode cX0_word 14 = .ok (.aload_n 0, 1) := dk_42 (dk_at dksX0_word_0 14 rfl rfl)
theorem dX0_word_15 : decode cX0_word 15 = .ok (.dup, 1) := dk_89 (dk_at dksX0_word_0 15 rfl rfl)
theorem dX0_word_16 : decode cX0_word 16 = .ok (.getfield 134, 3) := dk_180 0 134 (dk_at dksX0_word_0 16 rfl rfl)
theorem dX0_word_19 : decode cX0_word 19 = .ok (.iconst 1, 1) := dk_4 (dk_at dksX0_word_0 19 rfl rfl)
theorem dX0_word_20 : decode cX0_word 20 = .ok (.iadd, 1) := dk_96 (dk_at dksX0_word_0 20 rfl rfl)
theorem dX0_word_21 : decode cX0_word 21 = .ok (.putfield 134, 3) := dk_181 0 134 (dk_at dksX0_word_0 21 rfl rfl)
theorem dX0_word_24 : decode cX0_word 24 = .ok (.goto (-24), 3) := dk_167 255 232 (dk_at dksX0_word_1 0 rfl rfl)
theorem dX0_word_27 : decode cX0_word 27 = .ok (.aload_n 0, 1) := dk_42 (dk_at dksX0_word_1 3 rfl rfl)
theorem dX0_word_28 : decode cX0_word 28 = .ok (.aload_n 0, 1) := dk_42 (dk_at dksX0_word_1 4 rfl rfl)
theorem dX0_word_29 : decode cX0_word 29 = .ok (.getfield 179, 3) := dk_180 0 179 (dk_at dksX0_word_1 5 rfl rfl)
theorem dX0_word_32 : decode cX0_word 32 = .ok (.invokevirtual 183, 3) := dk_182 0 183 (dk_at dksX0_word_1 8 rfl rfl)
theorem dX0_word_35 : decode cX0_word 35 = .ok (.istore_n 1, 1) := dk_60 (dk_at dksX0_word_1 11 rfl rfl)
theorem dX0_word_36 : decode cX0_word 36 = .ok (.aload_n 0, 1) := dk_42 (dk_at dksX0_word_1 12 rfl rfl)
theorem dX0_word_37 : decode cX0_word 37 = .ok (.iload_n 1, 1) := dk_27 (dk_at dksX0_word_1 13 rfl rfl)
theorem dX0_word_38 : decode cX0_word 38 = .ok (.iconst (-1), 1) := dk_2 (dk_at dksX0_word_1 14 rfl rfl)
theorem dX0_word_39 : decode cX0_word 39 = .ok (.if_icmp .ne 7, 3) := dk_160 0 7 (dk_at dksX0_word_1 15 rfl rfl)
theorem dX0_word_42 : decode cX0_word 42 = .ok (.iconst 2, 1) := dk_5 (dk_at dksX0_word_1 18 rfl rfl)
theorem dX0_word_43 : decode cX0_word 43 = .ok (.goto 4, 3) := dk_167 0 4 (dk_at dksX0_word_1 19 rfl rfl)
theorem dX0_word_46 : decode cX0_word 46 = .ok (.iconst 1, 1) := dk_4 (dk_at dksX0_word_1 22 rfl rfl)
theorem dX0_word_47 : decode cX0_word 47 = .ok (.putfield 143, 3) := dk_181 0 143 (dk_at dksX0_word_2 0 rfl rfl)
theorem dX0_word_50 : decode cX0_word 50 = .ok (.aload_n 0, 1) := dk_42 (dk_at dksX0_word_2 3 rfl rfl)
theorem dX0_word_51 : decode cX0_word 51 = .ok (.iload_n 1, 1) := dk_27 (dk_at dksX0_word_2 4 rfl rfl)
theorem dX0_word_52 : decode cX0_word 52 = .ok (.iconst (-1), 1) := dk_2 (dk_at dksX0_word_2 5 rfl rfl)
theorem dX0_word_53 : decode cX0_word 53 = .ok (.if_icmp .ne 14, 3) := dk_160 0 14 (dk_at dksX0_word_2 6 rfl rfl)
theorem dX0_word_56 : decode cX0_word 56 = .ok (.aload_n 0, 1) := dk_42 (dk_at dksX0_word_2 9 rfl rfl)
theorem dX0_word_57 : decode cX0_word 57 = .ok (.aload_n 0, 1) := dk_42 (dk_at dksX0_word_2 10 rfl rfl)
theorem dX0_word_58 : decode cX0_word 58 = .ok (.getfield 187, 3) := dk_180 0 187 (dk_at dksX0_word_2 11 rfl rfl)
theorem dX0_word_61 : decode cX0_word 61 = .ok (.invokevirtual 183, 3) := dk_182 0 183 (dk_at dksX0_word_2 14 rfl rfl)
theorem dX0_word_64 : decode cX0_word 64 = .ok (.goto 4, 3) := dk_167 0 4 (dk_at dksX0_word_2 17 rfl rfl)
theorem dX0_word_67 : decode cX0_word 67 = .ok (.iload_n 1, 1) := dk_27 (dk_at dksX0_word_2 20 rfl rfl)
theorem dX0_word_68 : decode cX0_word 68 = .ok (.putfield 159, 3) := dk_181 0 159 (dk_at dksX0_word_2 21 rfl rfl)
theorem dX0_word_71 : decode cX0_word 71 = .ok (.aload_n 0, 1) := dk_42 (dk_at dksX0_word_3 0 rfl rfl)
theorem dX0_word_72 : decode cX0_word 72 = .ok (.getfield 159, 3) := dk_180 0 159 (dk_at dksX0_word_3 1 rfl rfl)
theorem dX0_word_75 : decode cX0_word 75 = .ok (.iconst (-1), 1) := dk_2 (dk_at dksX0_word_3 4 rfl rfl)
theorem dX0_word_76 : decode cX0_word 76 = .ok (.if_icmp .ne 8, 3) := dk_160 0 8 (dk_at dksX0_word_3 5 rfl rfl)
theorem dX0_word_79 : decode cX0_word 79 = .ok (.aload_n 0, 1) := dk_42 (dk_at dksX0_word_3 8 rfl rfl)
theorem dX0_word_80 : decode cX0_word 80 = .ok (.getfield 169, 3) := dk_180 0 169 (dk_at dksX0_word_3 9 rfl rfl)
theorem dX0_word_83 : decode cX0_word 83 = .ok (.athrow, 1) := dk_191 (dk_at dksX0_word_3 12 rfl rfl)
theorem dX0_word_84 : decode cX0_word 84 = .ok (.return_, 1) := dk_177 (dk_at dksX0_word_3 13 rfl rfl)
def dkwX0_placeIn_4 : List UInt8 := [132, 2, 1, 167, 255, 162, 2, 172]
abbrev dktX0_placeIn_4 : List UInt8 := dkwX0_placeIn_4 ++ []
def dkwX0_placeIn_3 : List UInt8 := [182, 0, 137, 160, 0, 7, 4, 167, 0, 4, 3, 62, 132, 4, 1, 167, 255, 207, 29, 153, 0, 5, 28, 172]
abbrev dktX0_placeIn_3 : List UInt8 := dkwX0_placeIn_3 ++ dktX0_placeIn_4
def dkwX0_placeIn_2 : List UInt8 := [180, 0, 140, 100, 162, 0, 37, 43, 28, 50, 21, 4, 182, 0, 175, 42, 42, 180, 0, 140, 21, 4, 96]
abbrev dktX0_placeIn_2 : List UInt8 := dkwX0_placeIn_2 ++ dktX0_placeIn_3
def dkwX0_placeIn_1 : List UInt8 := [160, 0, 7, 4, 167, 0, 4, 3, 62, 3, 54, 4, 29, 153, 0, 51, 21, 4, 42, 180, 0, 134, 42]
abbrev dktX0_placeIn_1 : List UInt8 := dkwX0_placeIn_1 ++ dktX0_placeIn_2
def dkwX0_placeIn_0 : List UInt8 := [3, 61, 28, 43, 190, 162, 0, 94, 43, 28, 50, 182, 0, 173, 42, 180, 0, 134, 42, 180, 0, 140, 100]
abbrev dktX0_placeIn_0 : List UInt8 := dkwX0_placeIn_0 ++ dktX0_placeIn_1
theorem dksX0_placeIn_0 : cX0_placeIn.data.toList.drop 0 = dktX0_placeIn_0 := by decide +kernel
theorem dksX0_placeIn_1 : cX0_placeIn.data.toList.drop 23 = dktX0_placeIn_1 := dk_seg dksX0_placeIn_0 23 rfl rfl
theorem dksX0_placeIn_2 : cX0_placeIn.data.toList.drop 46 = dktX0_placeIn_2 := dk_seg dksX0_placeIn_1 23 rfl rfl
theorem dksX0_placeIn_3 : cX0_placeIn.data.toList.drop 69 = dktX0_placeIn_3 := dk_seg dksX0_placeIn_2 23 rfl rfl
theorem dksX0_placeIn_4 : cX0_placeIn.data.toList.drop 93 = dktX0_placeIn_4 := dk_seg dksX0_placeIn_3 24 rfl rfl
theorem dX0_placeIn_0 : decode cX0_placeIn 0 = .ok (.iconst 0, 1) := dk_3 (dk_at dksX0_placeIn_0 0 rfl rfl)
theorem dX0_placeIn_1 : decode cX0_placeIn 1 = .ok (.istore_n 2, 1) := dk_61 (dk_at dksX0_placeIn_0 1 rfl rfl)
theorem dX0_placeIn_2 : decode cX0_placeIn 2 = .ok (.iload_n 2, 1) := dk_28 (dk_at dksX0_placeIn_0 2 rfl rfl)
theorem dX0_placeIn_3 : decode cX0_placeIn 3 = .ok (.aload_n 1, 1) := dk_43 (dk_at dksX0_placeIn_0 3 rfl rfl)
theorem dX0_placeIn_4 : decode cX0_placeIn 4 = .ok (.arraylength, 1) := dk_190 (dk_at dksX0_placeIn_0 4 rfl rfl)
theorem dX0_placeIn_5 : decode cX0_placeIn 5 = .ok (.if_icmp .ge 94, 3) := dk_162 0 94 (dk_at dksX0_placeIn_0 5 rfl rfl)
theorem dX0_placeIn_8 : decode cX0_placeIn 8 = .ok (.aload_n 1, 1) := dk_43 (dk_at dksX0_placeIn_0 8 rfl rfl)
theorem dX0_placeIn_9 : decode cX0_placeIn 9 = .ok (.iload_n 2, 1) := dk_28 (dk_at dksX0_placeIn_0 9 rfl rfl)
theorem dX0_placeIn_10 : decode cX0_placeIn 10 = .ok (.aaload, 1) := dk_50 (dk_at dksX0_placeIn_0 10 rfl rfl)
theorem dX0_placeIn_11 : decode cX0_placeIn 11 = .ok (.invokevirtual 173, 3) := dk_182 0 173 (dk_at dksX0_placeIn_0 11 rfl rfl)
theorem dX0_placeIn_14 : decode cX0_placeIn 14 = .ok (.aload_n 0, 1) := dk_42 (dk_at dksX0_placeIn_0 14 rfl rfl)
theorem dX0_placeIn_15 : decode cX0_placeIn 15 = .ok (.getfield 134, 3) := dk_180 0 134 (dk_at dksX0_placeIn_0 15 rfl rfl)
theorem dX0_placeIn_18 : decode cX0_placeIn 18 = .ok (.aload_n 0, 1) := dk_42 (dk_at dksX0_placeIn_0 18 rfl rfl)
theorem dX0_placeIn_19 : decode cX0_placeIn 19 = .ok (.getfield 140, 3) := dk_180 0 140 (dk_at dksX0_placeIn_0 19 rfl rfl)
theorem dX0_placeIn_22 : decode cX0_placeIn 22 = .ok (.isub, 1) := dk_100 (dk_at dksX0_placeIn_0 22 rfl rfl)
theorem dX0_placeIn_23 : decode cX0_placeIn 23 = .ok (.if_icmp .ne 7, 3) := dk_160 0 7 (dk_at dksX0_placeIn_1 0 rfl rfl)
theorem dX0_placeIn_26 : decode cX0_placeIn 26 = .ok (.iconst 1, 1) := dk_4 (dk_at dksX0_placeIn_1 3 rfl rfl)
theorem dX0_placeIn_27 : decode cX0_placeIn 27 = .ok (.goto 4, 3) := dk_167 0 4 (dk_at dksX0_placeIn_1 4 rfl rfl)
theorem dX0_placeIn_30 : decode cX0_placeIn 30 = .ok (.iconst 0, 1) := dk_3 (dk_at dksX0_placeIn_1 7 rfl rfl)
theorem dX0_placeIn_31 : decode cX0_placeIn 31 = .ok (.istore_n 3, 1) := dk_62 (dk_at dksX0_placeIn_1 8 rfl rfl)
theorem dX0_placeIn_32 : decode cX0_placeIn 32 = .ok (.iconst 0, 1) := dk_3 (dk_at dksX0_placeIn_1 9 rfl rfl)
theorem dX0_placeIn_33 : decode cX0_placeIn 33 = .ok (.istore 4, 2) := dk_54 4 (dk_at dksX0_placeIn_1 10 rfl rfl)
theorem dX0_placeIn_35 : decode cX0_placeIn 35 = .ok (.iload_n 3, 1) := dk_29 (dk_at dksX0_placeIn_1 12 rfl rfl)
theorem dX0_placeIn_36 : decode cX0_placeIn 36 = .ok (.ifCond .eq 51, 3) := dk_153 0 51 (dk_at dksX0_placeIn_1 13 rfl rfl)
theorem dX0_placeIn_39 : decode cX0_placeIn 39 = .ok (.iload 4, 2) := dk_21 4 (dk_at dksX0_placeIn_1 16 rfl rfl)
theorem dX0_placeIn_41 : decode cX0_placeIn 41 = .ok (.aload_n 0, 1) := dk_42 (dk_at dksX0_placeIn_1 18 rfl rfl)
theorem dX0_placeIn_42 : decode cX0_placeIn 42 = .ok (.getfield 134, 3) := dk_180 0 134 (dk_at dksX0_placeIn_1 19 rfl rfl)
theorem dX0_placeIn_45 : decode cX0_placeIn 45 = .ok (.aload_n 0, 1) := dk_42 (dk_at dksX0_placeIn_1 22 rfl rfl)
theorem dX0_placeIn_46 : decode cX0_placeIn 46 = .ok (.getfield 140, 3) := dk_180 0 140 (dk_at dksX0_placeIn_2 0 rfl rfl)
theorem dX0_placeIn_49 : decode cX0_placeIn 49 = .ok (.isub, 1) := dk_100 (dk_at dksX0_placeIn_2 3 rfl rfl)
theorem dX0_placeIn_50 : decode cX0_placeIn 50 = .ok (.if_icmp .ge 37, 3) := dk_162 0 37 (dk_at dksX0_placeIn_2 4 rfl rfl)
theorem dX0_placeIn_53 : decode cX0_placeIn 53 = .ok (.aload_n 1, 1) := dk_43 (dk_at dksX0_placeIn_2 7 rfl rfl)
theorem dX0_placeIn_54 : decode cX0_placeIn 54 = .ok (.iload_n 2, 1) := dk_28 (dk_at dksX0_placeIn_2 8 rfl rfl)
theorem dX0_placeIn_55 : decode cX0_placeIn 55 = .ok (.aaload, 1) := dk_50 (dk_at dksX0_placeIn_2 9 rfl rfl)
theorem dX0_placeIn_56 : decode cX0_placeIn 56 = .ok (.iload 4, 2) := dk_21 4 (dk_at dksX0_placeIn_2 10 rfl rfl)
theorem dX0_placeIn_58 : decode cX0_placeIn 58 = .ok (.invokevirtual 175, 3) := dk_182 0 175 (dk_at dksX0_placeIn_2 12 rfl rfl)
theorem dX0_placeIn_61 : decode cX0_placeIn 61 = .ok (.aload_n 0, 1) := dk_42 (dk_at dksX0_placeIn_2 15 rfl rfl)
theorem dX0_placeIn_62 : decode cX0_placeIn 62 = .ok (.aload_n 0, 1) := dk_42 (dk_at dksX0_placeIn_2 16 rfl rfl)
theorem dX0_placeIn_63 : decode cX0_placeIn 63 = .ok (.getfield 140, 3) := dk_180 0 140 (dk_at dksX0_placeIn_2 17 rfl rfl)
theorem dX0_placeIn_66 : decode cX0_placeIn 66 = .ok (.iload 4, 2) := dk_21 4 (dk_at dksX0_placeIn_2 20 rfl rfl)
theorem dX0_placeIn_68 : decode cX0_placeIn 68 = .ok (.iadd, 1) := dk_96 (dk_at dksX0_placeIn_2 22 rfl rfl)
theorem dX0_placeIn_69 : decode cX0_placeIn 69 = .ok (.invokevirtual 137, 3) := dk_182 0 137 (dk_at dksX0_placeIn_3 0 rfl rfl)
theorem dX0_placeIn_72 : decode cX0_placeIn 72 = .ok (.if_icmp .ne 7, 3) := dk_160 0 7 (dk_at dksX0_placeIn_3 3 rfl rfl)
theorem dX0_placeIn_75 : decode cX0_placeIn 75 = .ok (.iconst 1, 1) := dk_4 (dk_at dksX0_placeIn_3 6 rfl rfl)
theorem dX0_placeIn_76 : decode cX0_placeIn 76 = .ok (.goto 4, 3) := dk_167 0 4 (dk_at dksX0_placeIn_3 7 rfl rfl)
theorem dX0_placeIn_79 : decode cX0_placeIn 79 = .ok (.iconst 0, 1) := dk_3 (dk_at dksX0_placeIn_3 10 rfl rfl)
theorem dX0_placeIn_80 : decode cX0_placeIn 80 = .ok (.istore_n 3, 1) := dk_62 (dk_at dksX0_placeIn_3 11 rfl rfl)
theorem dX0_placeIn_81 : decode cX0_placeIn 81 = .ok (.iinc 4 1, 3) := dk_132 4 1 (dk_at dksX0_placeIn_3 12 rfl rfl)
theorem dX0_placeIn_84 : decode cX0_placeIn 84 = .ok (.goto (-49), 3) := dk_167 255 207 (dk_at dksX0_placeIn_3 15 rfl rfl)
theorem dX0_placeIn_87 : decode cX0_placeIn 87 = .ok (.iload_n 3, 1) := dk_29 (dk_at dksX0_placeIn_3 18 rfl rfl)
theorem dX0_placeIn_88 : decode cX0_placeIn 88 = .ok (.ifCond .eq 5, 3) := dk_153 0 5 (dk_at dksX0_placeIn_3 19 rfl rfl)
theorem dX0_placeIn_91 : decode cX0_placeIn 91 = .ok (.iload_n 2, 1) := dk_28 (dk_at dksX0_placeIn_3 22 rfl rfl)
theorem dX0_placeIn_92 : decode cX0_placeIn 92 = .ok (.ireturn, 1) := dk_172 (dk_at dksX0_placeIn_3 23 rfl rfl)
theorem dX0_placeIn_93 : decode cX0_placeIn 93 = .ok (.iinc 2 1, 3) := dk_132 2 1 (dk_at dksX0_placeIn_4 0 rfl rfl)
theorem dX0_placeIn_96 : decode cX0_placeIn 96 = .ok (.goto (-94), 3) := dk_167 255 162 (dk_at dksX0_placeIn_4 3 rfl rfl)
theorem dX0_placeIn_99 : decode cX0_placeIn 99 = .ok (.iconst (-1), 1) := dk_2 (dk_at dksX0_placeIn_4 6 rfl rfl)
theorem dX0_placeIn_100 : decode cX0_placeIn 100 = .ok (.ireturn, 1) := dk_172 (dk_at dksX0_placeIn_4 7 rfl rfl)
def dkwX0_isDigit_0 : List UInt8 := [26, 133, 20, 0, 130, 20, 0, 132, 184, 0, 14, 172]
abbrev dktX0_isDigit_0 : List UInt8 := dkwX0_isDigit_0 ++ []
theorem dksX0_isDigit_0 : cX0_isDigit.data.toList.drop 0 = dktX0_isDigit_0 := by decide +kernel
theorem dX0_isDigit_0 : decode cX0_isDigit 0 = .ok (.iload_n 0, 1) := dk_26 (dk_at dksX0_isDigit_0 0 rfl rfl)
theorem dX0_isDigit_1 : decode cX0_isDigit 1 = .ok (.i2l, 1) := dk_133 (dk_at dksX0_isDigit_0 1 rfl rfl)
theorem dX0_isDigit_2 : decode cX0_isDigit 2 = .ok (.ldc2_w 130, 3) := dk_20 0 130 (dk_at dksX0_isDigit_0 2 rfl rfl)
theorem dX0_isDigit_5 : decode cX0_isDigit 5 = .ok (.ldc2_w 132, 3) := dk_20 0 132 (dk_at dksX0_isDigit_0 5 rfl rfl)
theorem dX0_isDigit_8 : decode cX0_isDigit 8 = .ok (.invokestatic 14, 3) := dk_184 0 14 (dk_at dksX0_isDigit_0 8 rfl rfl)
theorem dX0_isDigit_11 : decode cX0_isDigit 11 = .ok (.ireturn, 1) := dk_172 (dk_at dksX0_isDigit_0 11 rfl rfl)
def dkwX0_digits_4 : List UInt8 := [180, 0, 169, 191, 177]
abbrev dktX0_digits_4 : List UInt8 := dkwX0_digits_4 ++ []
def dkwX0_digits_3 : List UInt8 := [167, 255, 189, 42, 6, 181, 0, 143, 42, 180, 0, 134, 42, 180, 0, 140, 100, 7, 164, 0, 8, 42]
abbrev dktX0_digits_3 : List UInt8 := dkwX0_digits_3 ++ dktX0_digits_4
def dkwX0_digits_2 : List UInt8 := [96, 16, 48, 100, 167, 0, 7, 42, 180, 0, 159, 181, 0, 159, 42, 89, 180, 0, 134, 4, 96, 181, 0, 134]
abbrev dktX0_digits_2 : List UInt8 := dkwX0_digits_2 ++ dktX0_digits_3
def dkwX0_digits_1 : List UInt8 := [42, 180, 0, 140, 100, 7, 162, 0, 25, 16, 10, 42, 180, 0, 159, 104, 42, 42, 180, 0, 134, 182, 0, 137]
abbrev dktX0_digits_1 : List UInt8 := dkwX0_digits_1 ++ dktX0_digits_2
def dkwX0_digits_0 : List UInt8 := [42, 3, 181, 0, 159, 42, 42, 180, 0, 134, 182, 0, 137, 184, 0, 153, 153, 0, 59, 42, 42, 180, 0, 134]
abbrev dktX0_digits_0 : List UInt8 := dkwX0_digits_0 ++ dktX0_digits_1
theorem dksX0_digits_0 : cX0_digits.data.toList.drop 0 = dktX0_digits_0 := by decide +kernel
theorem dksX0_digits_1 : cX0_digits.data.toList.drop 24 = dktX0_digits_1 := dk_seg dksX0_digits_0 24 rfl rfl
theorem dksX0_digits_2 : cX0_digits.data.toList.drop 48 = dktX0_digits_2 := dk_seg dksX0_digits_1 24 rfl rfl
theorem dksX0_digits_3 : cX0_digits.data.toList.drop 72 = dktX0_digits_3 := dk_seg dksX0_digits_2 24 rfl rfl
theorem dksX0_digits_4 : cX0_digits.data.toList.drop 94 = dktX0_digits_4 := dk_seg dksX0_digits_3 22 rfl rfl
theorem dX0_digits_0 : decode cX0_digits 0 = .ok (.aload_n 0, 1) := dk_42 (dk_at dksX0_digits_0 0 rfl rfl)
theorem dX0_digits_1 : decode cX0_digits 1 = .ok (.iconst 0, 1) := dk_3 (dk_at dksX0_digits_0 1 rfl rfl)
theorem dX0_digits_2 : decode cX0_digits 2 = .ok (.putfield 159, 3) := dk_181 0 159 (dk_at dksX0_digits_0 2 rfl rfl)
theorem dX0_digits_5 : decode cX0_digits 5 = .ok (.aload_n 0, 1) := dk_42 (dk_at dksX0_digits_0 5 rfl rfl)
theorem dX0_digits_6 : decode cX0_digits 6 = .ok (.aload_n 0, 1) := dk_42 (dk_at dksX0_digits_0 6 rfl rfl)
theorem dX0_digits_7 : decode cX0_digits 7 = .ok (.getfield 134, 3) := dk_180 0 134 (dk_at dksX0_digits_0 7 rfl rfl)
theorem dX0_digits_10 : decode cX0_digits 10 = .ok (.invokevirtual 137, 3) := dk_182 0 137 (dk_at dksX0_digits_0 10 rfl rfl)
theorem dX0_digits_13 : decode cX0_digits 13 = .ok (.invokestatic 153, 3) := dk_184 0 153 (dk_at dksX0_digits_0 13 rfl rfl)
theorem dX0_digits_16 : decode cX0_digits 16 = .ok (.ifCond .eq 59, 3) := dk_153 0 59 (dk_at dksX0_digits_0 16 rfl rfl)
theorem dX0_digits_19 : decode cX0_digits 19 = .ok (.aload_n 0, 1) := dk_42 (dk_at dksX0_digits_0 19 rfl rfl)
theorem dX0_digits_20 : decode cX0_digits 20 = .ok (.aload_n 0, 1) := dk_42 (dk_at dksX0_digits_0 20 rfl rfl)
theorem dX0_digits_21 : decode cX0_digits 21 = .ok (.getfield 134, 3) := dk_180 0 134 (dk_at dksX0_digits_0 21 rfl rfl)
theorem dX0_digits_24 : decode cX0_digits 24 = .ok (.aload_n 0, 1) := dk_42 (dk_at dksX0_digits_1 0 rfl rfl)
theorem dX0_digits_25 : decode cX0_digits 25 = .ok (.getfield 140, 3) := dk_180 0 140 (dk_at dksX0_digits_1 1 rfl rfl)
theorem dX0_digits_28 : decode cX0_digits 28 = .ok (.isub, 1) := dk_100 (dk_at dksX0_digits_1 4 rfl rfl)
theorem dX0_digits_29 : decode cX0_digits 29 = .ok (.iconst 4, 1) := dk_7 (dk_at dksX0_digits_1 5 rfl rfl)
theorem dX0_digits_30 : decode cX0_digits 30 = .ok (.if_icmp .ge 25, 3) := dk_162 0 25 (dk_at dksX0_digits_1 6 rfl rfl)
theorem dX0_digits_33 : decode cX0_digits 33 = .ok (.bipush 10, 2) := dk_16 10 (dk_at dksX0_digits_1 9 rfl rfl)
theorem dX0_digits_35 : decode cX0_digits 35 = .ok (.aload_n 0, 1) := dk_42 (dk_at dksX0_digits_1 11 rfl rfl)
theorem dX0_digits_36 : decode cX0_digits 36 = .ok (.getfield 159, 3) := dk_180 0 159 (dk_at dksX0_digits_1 12 rfl rfl)
theorem dX0_digits_39 : decode cX0_digits 39 = .ok (.imul, 1) := dk_104 (dk_at dksX0_digits_1 15 rfl rfl)
theorem dX0_digits_40 : decode cX0_digits 40 = .ok (.aload_n 0, 1) := dk_42 (dk_at dksX0_digits_1 16 rfl rfl)
theorem dX0_digits_41 : decode cX0_digits 41 = .ok (.aload_n 0, 1) := dk_42 (dk_at dksX0_digits_1 17 rfl rfl)
theorem dX0_digits_42 : decode cX0_digits 42 = .ok (.getfield 134, 3) := dk_180 0 134 (dk_at dksX0_digits_1 18 rfl rfl)
theorem dX0_digits_45 : decode cX0_digits 45 = .ok (.invokevirtual 137, 3) := dk_182 0 137 (dk_at dksX0_digits_1 21 rfl rfl)
theorem dX0_digits_48 : decode cX0_digits 48 = .ok (.iadd, 1) := dk_96 (dk_at dksX0_digits_2 0 rfl rfl)
theorem dX0_digits_49 : decode cX0_digits 49 = .ok (.bipush 48, 2) := dk_16 48 (dk_at dksX0_digits_2 1 rfl rfl)
theorem dX0_digits_51 : decode cX0_digits 51 = .ok (.isub, 1) := dk_100 (dk_at dksX0_digits_2 3 rfl rfl)
theorem dX0_digits_52 : decode cX0_digits 52 = .ok (.goto 7, 3) := dk_167 0 7 (dk_at dksX0_digits_2 4 rfl rfl)
theorem dX0_digits_55 : decode cX0_digits 55 = .ok (.aload_n 0, 1) := dk_42 (dk_at dksX0_digits_2 7 rfl rfl)
theorem dX0_digits_56 : decode cX0_digits 56 = .ok (.getfield 159, 3) := dk_180 0 159 (dk_at dksX0_digits_2 8 rfl rfl)
theorem dX0_digits_59 : decode cX0_digits 59 = .ok (.putfield 159, 3) := dk_181 0 159 (dk_at dksX0_digits_2 11 rfl rfl)
theorem dX0_digits_62 : decode cX0_digits 62 = .ok (.aload_n 0, 1) := dk_42 (dk_at dksX0_digits_2 14 rfl rfl)
theorem dX0_digits_63 : decode cX0_digits 63 = .ok (.dup, 1) := dk_89 (dk_at dksX0_digits_2 15 rfl rfl)
theorem dX0_digits_64 : decode cX0_digits 64 = .ok (.getfield 134, 3) := dk_180 0 134 (dk_at dksX0_digits_2 16 rfl rfl)
theorem dX0_digits_67 : decode cX0_digits 67 = .ok (.iconst 1, 1) := dk_4 (dk_at dksX0_digits_2 19 rfl rfl)
theorem dX0_digits_68 : decode cX0_digits 68 = .ok (.iadd, 1) := dk_96 (dk_at dksX0_digits_2 20 rfl rfl)
theorem dX0_digits_69 : decode cX0_digits 69 = .ok (.putfield 134, 3) := dk_181 0 134 (dk_at dksX0_digits_2 21 rfl rfl)
theorem dX0_digits_72 : decode cX0_digits 72 = .ok (.goto (-67), 3) := dk_167 255 189 (dk_at dksX0_digits_3 0 rfl rfl)
theorem dX0_digits_75 : decode cX0_digits 75 = .ok (.aload_n 0, 1) := dk_42 (dk_at dksX0_digits_3 3 rfl rfl)
theorem dX0_digits_76 : decode cX0_digits 76 = .ok (.iconst 3, 1) := dk_6 (dk_at dksX0_digits_3 4 rfl rfl)
theorem dX0_digits_77 : decode cX0_digits 77 = .ok (.putfield 143, 3) := dk_181 0 143 (dk_at dksX0_digits_3 5 rfl rfl)
theorem dX0_digits_80 : decode cX0_digits 80 = .ok (.aload_n 0, 1) := dk_42 (dk_at dksX0_digits_3 8 rfl rfl)
theorem dX0_digits_81 : decode cX0_digits 81 = .ok (.getfield 134, 3) := dk_180 0 134 (dk_at dksX0_digits_3 9 rfl rfl)
theorem dX0_digits_84 : decode cX0_digits 84 = .ok (.aload_n 0, 1) := dk_42 (dk_at dksX0_digits_3 12 rfl rfl)
theorem dX0_digits_85 : decode cX0_digits 85 = .ok (.getfield 140, 3) := dk_180 0 140 (dk_at dksX0_digits_3 13 rfl rfl)
theorem dX0_digits_88 : decode cX0_digits 88 = .ok (.isub, 1) := dk_100 (dk_at dksX0_digits_3 16 rfl rfl)
theorem dX0_digits_89 : decode cX0_digits 89 = .ok (.iconst 4, 1) := dk_7 (dk_at dksX0_digits_3 17 rfl rfl)
theorem dX0_digits_90 : decode cX0_digits 90 = .ok (.if_icmp .le 8, 3) := dk_164 0 8 (dk_at dksX0_digits_3 18 rfl rfl)
theorem dX0_digits_93 : decode cX0_digits 93 = .ok (.aload_n 0, 1) := dk_42 (dk_at dksX0_digits_3 21 rfl rfl)
theorem dX0_digits_94 : decode cX0_digits 94 = .ok (.getfield 169, 3) := dk_180 0 169 (dk_at dksX0_digits_4 0 rfl rfl)
theorem dX0_digits_97 : decode cX0_digits 97 = .ok (.athrow, 1) := dk_191 (dk_at dksX0_digits_4 3 rfl rfl)
theorem dX0_digits_98 : decode cX0_digits 98 = .ok (.return_, 1) := dk_177 (dk_at dksX0_digits_4 4 rfl rfl)
def dkwX0_isKey_0 : List UInt8 := [42, 180, 0, 143, 4, 160, 0, 15, 42, 180, 0, 159, 27, 160, 0, 7, 4, 167, 0, 4, 3, 172]
abbrev dktX0_isKey_0 : List UInt8 := dkwX0_isKey_0 ++ []
theorem dksX0_isKey_0 : cX0_isKey.data.toList.drop 0 = dktX0_isKey_0 := by decide +kernel
theorem dX0_isKey_0 : decode cX0_isKey 0 = .ok (.aload_n 0, 1) := dk_42 (dk_at dksX0_isKey_0 0 rfl rfl)
theorem dX0_isKey_1 : decode cX0_isKey 1 = .ok (.getfield 143, 3) := dk_180 0 143 (dk_at dksX0_isKey_0 1 rfl rfl)
theorem dX0_isKey_4 : decode cX0_isKey 4 = .ok (.iconst 1, 1) := dk_4 (dk_at dksX0_isKey_0 4 rfl rfl)
theorem dX0_isKey_5 : decode cX0_isKey 5 = .ok (.if_icmp .ne 15, 3) := dk_160 0 15 (dk_at dksX0_isKey_0 5 rfl rfl)
theorem dX0_isKey_8 : decode cX0_isKey 8 = .ok (.aload_n 0, 1) := dk_42 (dk_at dksX0_isKey_0 8 rfl rfl)
theorem dX0_isKey_9 : decode cX0_isKey 9 = .ok (.getfield 159, 3) := dk_180 0 159 (dk_at dksX0_isKey_0 9 rfl rfl)
theorem dX0_isKey_12 : decode cX0_isKey 12 = .ok (.iload_n 1, 1) := dk_27 (dk_at dksX0_isKey_0 12 rfl rfl)
theorem dX0_isKey_13 : decode cX0_isKey 13 = .ok (.if_icmp .ne 7, 3) := dk_160 0 7 (dk_at dksX0_isKey_0 13 rfl rfl)
theorem dX0_isKey_16 : decode cX0_isKey 16 = .ok (.iconst 1, 1) := dk_4 (dk_at dksX0_isKey_0 16 rfl rfl)
theorem dX0_isKey_17 : decode cX0_isKey 17 = .ok (.goto 4, 3) := dk_167 0 4 (dk_at dksX0_isKey_0 17 rfl rfl)
theorem dX0_isKey_20 : decode cX0_isKey 20 = .ok (.iconst 0, 1) := dk_3 (dk_at dksX0_isKey_0 20 rfl rfl)
theorem dX0_isKey_21 : decode cX0_isKey 21 = .ok (.ireturn, 1) := dk_172 (dk_at dksX0_isKey_0 21 rfl rfl)
def dkwX0_need_0 : List UInt8 := [27, 154, 0, 8, 42, 180, 0, 169, 191, 42, 182, 0, 190, 177]
abbrev dktX0_need_0 : List UInt8 := dkwX0_need_0 ++ []
theorem dksX0_need_0 : cX0_need.data.toList.drop 0 = dktX0_need_0 := by decide +kernel
theorem dX0_need_0 : decode cX0_need 0 = .ok (.iload_n 1, 1) := dk_27 (dk_at dksX0_need_0 0 rfl rfl)
theorem dX0_need_1 : decode cX0_need 1 = .ok (.ifCond .ne 8, 3) := dk_154 0 8 (dk_at dksX0_need_0 1 rfl rfl)
theorem dX0_need_4 : decode cX0_need 4 = .ok (.aload_n 0, 1) := dk_42 (dk_at dksX0_need_0 4 rfl rfl)
theorem dX0_need_5 : decode cX0_need 5 = .ok (.getfield 169, 3) := dk_180 0 169 (dk_at dksX0_need_0 5 rfl rfl)
theorem dX0_need_8 : decode cX0_need 8 = .ok (.athrow, 1) := dk_191 (dk_at dksX0_need_0 8 rfl rfl)
theorem dX0_need_9 : decode cX0_need 9 = .ok (.aload_n 0, 1) := dk_42 (dk_at dksX0_need_0 9 rfl rfl)
theorem dX0_need_10 : decode cX0_need 10 = .ok (.invokevirtual 190, 3) := dk_182 0 190 (dk_at dksX0_need_0 10 rfl rfl)
theorem dX0_need_13 : decode cX0_need 13 = .ok (.return_, 1) := dk_177 (dk_at dksX0_need_0 13 rfl rfl)
def dkwX0_either_1 : List UInt8 := [42, 182, 0, 200, 183, 0, 209, 76, 167, 255, 229, 43, 176]
abbrev dktX0_either_1 : List UInt8 := dkwX0_either_1 ++ []
def dkwX0_either_0 : List UInt8 := [42, 182, 0, 200, 76, 42, 6, 182, 0, 204, 153, 0, 25, 42, 182, 0, 190, 187, 0, 207, 89, 16, 124, 43]
abbrev dktX0_either_0 : List UInt8 := dkwX0_either_0 ++ dktX0_either_1
theorem dksX0_either_0 : cX0_either.data.toList.drop 0 = dktX0_either_0 := by decide +kernel
theorem dksX0_either_1 : cX0_either.data.toList.drop 24 = dktX0_either_1 := dk_seg dksX0_either_0 24 rfl rfl
theorem dX0_either_0 : decode cX0_either 0 = .ok (.aload_n 0, 1) := dk_42 (dk_at dksX0_either_0 0 rfl rfl)
theorem dX0_either_1 : decode cX0_either 1 = .ok (.invokevirtual 200, 3) := dk_182 0 200 (dk_at dksX0_either_0 1 rfl rfl)
theorem dX0_either_4 : decode cX0_either 4 = .ok (.astore_n 1, 1) := dk_76 (dk_at dksX0_either_0 4 rfl rfl)
theorem dX0_either_5 : decode cX0_either 5 = .ok (.aload_n 0, 1) := dk_42 (dk_at dksX0_either_0 5 rfl rfl)
theorem dX0_either_6 : decode cX0_either 6 = .ok (.iconst 3, 1) := dk_6 (dk_at dksX0_either_0 6 rfl rfl)
theorem dX0_either_7 : decode cX0_either 7 = .ok (.invokevirtual 204, 3) := dk_182 0 204 (dk_at dksX0_either_0 7 rfl rfl)
theorem dX0_either_10 : decode cX0_either 10 = .ok (.ifCond .eq 25, 3) := dk_153 0 25 (dk_at dksX0_either_0 10 rfl rfl)
theorem dX0_either_13 : decode cX0_either 13 = .ok (.aload_n 0, 1) := dk_42 (dk_at dksX0_either_0 13 rfl rfl)
theorem dX0_either_14 : decode cX0_either 14 = .ok (.invokevirtual 190, 3) := dk_182 0 190 (dk_at dksX0_either_0 14 rfl rfl)
theorem dX0_either_17 : decode cX0_either 17 = .ok (.new 207, 3) := dk_187 0 207 (dk_at dksX0_either_0 17 rfl rfl)
theorem dX0_either_20 : decode cX0_either 20 = .ok (.dup, 1) := dk_89 (dk_at dksX0_either_0 20 rfl rfl)
theorem dX0_either_21 : decode cX0_either 21 = .ok (.bipush 124, 2) := dk_16 124 (dk_at dksX0_either_0 21 rfl rfl)
theorem dX0_either_23 : decode cX0_either 23 = .ok (.aload_n 1, 1) := dk_43 (dk_at dksX0_either_0 23 rfl rfl)
theorem dX0_either_24 : decode cX0_either 24 = .ok (.aload_n 0, 1) := dk_42 (dk_at dksX0_either_1 0 rfl rfl)
theorem dX0_either_25 : decode cX0_either 25 = .ok (.invokevirtual 200, 3) := dk_182 0 200 (dk_at dksX0_either_1 1 rfl rfl)
theorem dX0_either_28 : decode cX0_either 28 = .ok (.invokespecial 209, 3) := dk_183 0 209 (dk_at dksX0_either_1 4 rfl rfl)
theorem dX0_either_31 : decode cX0_either 31 = .ok (.astore_n 1, 1) := dk_76 (dk_at dksX0_either_1 7 rfl rfl)
theorem dX0_either_32 : decode cX0_either 32 = .ok (.goto (-27), 3) := dk_167 255 229 (dk_at dksX0_either_1 8 rfl rfl)
theorem dX0_either_35 : decode cX0_either 35 = .ok (.aload_n 1, 1) := dk_43 (dk_at dksX0_either_1 11 rfl rfl)
theorem dX0_either_36 : decode cX0_either 36 = .ok (.areturn, 1) := dk_176 (dk_at dksX0_either_1 12 rfl rfl)
def dkwX0_both_1 : List UInt8 := [42, 182, 0, 212, 183, 0, 209, 76, 167, 255, 229, 43, 176]
abbrev dktX0_both_1 : List UInt8 := dkwX0_both_1 ++ []
def dkwX0_both_0 : List UInt8 := [42, 182, 0, 212, 76, 42, 7, 182, 0, 204, 153, 0, 25, 42, 182, 0, 190, 187, 0, 207, 89, 16, 38, 43]
abbrev dktX0_both_0 : List UInt8 := dkwX0_both_0 ++ dktX0_both_1
theorem dksX0_both_0 : cX0_both.data.toList.drop 0 = dktX0_both_0 := by decide +kernel
theorem dksX0_both_1 : cX0_both.data.toList.drop 24 = dktX0_both_1 := dk_seg dksX0_both_0 24 rfl rfl
theorem dX0_both_0 : decode cX0_both 0 = .ok (.aload_n 0, 1) := dk_42 (dk_at dksX0_both_0 0 rfl rfl)
theorem dX0_both_1 : decode cX0_both 1 = .ok (.invokevirtual 212, 3) := dk_182 0 212 (dk_at dksX0_both_0 1 rfl rfl)
theorem dX0_both_4 : decode cX0_both 4 = .ok (.astore_n 1, 1) := dk_76 (dk_at dksX0_both_0 4 rfl rfl)
theorem dX0_both_5 : decode cX0_both 5 = .ok (.aload_n 0, 1) := dk_42 (dk_at dksX0_both_0 5 rfl rfl)
theorem dX0_both_6 : decode cX0_both 6 = .ok (.iconst 4, 1) := dk_7 (dk_at dksX0_both_0 6 rfl rfl)
theorem dX0_both_7 : decode cX0_both 7 = .ok (.invokevirtual 204, 3) := dk_182 0 204 (dk_at dksX0_both_0 7 rfl rfl)
theorem dX0_both_10 : decode cX0_both 10 = .ok (.ifCond .eq 25, 3) := dk_153 0 25 (dk_at dksX0_both_0 10 rfl rfl)
theorem dX0_both_13 : decode cX0_both 13 = .ok (.aload_n 0, 1) := dk_42 (dk_at dksX0_both_0 13 rfl rfl)
theorem dX0_both_14 : decode cX0_both 14 = .ok (.invokevirtual 190, 3) := dk_182 0 190 (dk_at dksX0_both_0 14 rfl rfl)
theorem dX0_both_17 : decode cX0_both 17 = .ok (.new 207, 3) := dk_187 0 207 (dk_at dksX0_both_0 17 rfl rfl)
theorem dX0_both_20 : decode cX0_both 20 = .ok (.dup, 1) := dk_89 (dk_at dksX0_both_0 20 rfl rfl)
theorem dX0_both_21 : decode cX0_both 21 = .ok (.bipush 38, 2) := dk_16 38 (dk_at dksX0_both_0 21 rfl rfl)
theorem dX0_both_23 : decode cX0_both 23 = .ok (.aload_n 1, 1) := dk_43 (dk_at dksX0_both_0 23 rfl rfl)
theorem dX0_both_24 : decode cX0_both 24 = .ok (.aload_n 0, 1) := dk_42 (dk_at dksX0_both_1 0 rfl rfl)
theorem dX0_both_25 : decode cX0_both 25 = .ok (.invokevirtual 212, 3) := dk_182 0 212 (dk_at dksX0_both_1 1 rfl rfl)
theorem dX0_both_28 : decode cX0_both 28 = .ok (.invokespecial 209, 3) := dk_183 0 209 (dk_at dksX0_both_1 4 rfl rfl)
theorem dX0_both_31 : decode cX0_both 31 = .ok (.astore_n 1, 1) := dk_76 (dk_at dksX0_both_1 7 rfl rfl)
theorem dX0_both_32 : decode cX0_both 32 = .ok (.goto (-27), 3) := dk_167 255 229 (dk_at dksX0_both_1 8 rfl rfl)
theorem dX0_both_35 : decode cX0_both 35 = .ok (.aload_n 1, 1) := dk_43 (dk_at dksX0_both_1 11 rfl rfl)
theorem dX0_both_36 : decode cX0_both 36 = .ok (.areturn, 1) := dk_176 (dk_at dksX0_both_1 12 rfl rfl)
def dkwX0_not_3 : List UInt8 := [89, 28, 43, 42, 182, 0, 223, 183, 0, 209, 76, 43, 176]
abbrev dktX0_not_3 : List UInt8 := dkwX0_not_3 ++ []
def dkwX0_not_2 : List UInt8 := [154, 0, 12, 42, 16, 61, 182, 0, 226, 153, 0, 26, 42, 180, 0, 159, 61, 42, 182, 0, 190, 187, 0, 207]
abbrev dktX0_not_2 : List UInt8 := dkwX0_not_2 ++ dktX0_not_3
def dkwX0_not_1 : List UInt8 := [181, 0, 193, 187, 0, 218, 89, 43, 3, 183, 0, 220, 176, 42, 182, 0, 223, 76, 42, 16, 60, 182, 0, 226]
abbrev dktX0_not_1 : List UInt8 := dkwX0_not_1 ++ dktX0_not_2
def dkwX0_not_0 : List UInt8 := [42, 8, 182, 0, 204, 153, 0, 32, 42, 182, 0, 215, 42, 182, 0, 212, 76, 42, 89, 180, 0, 193, 4, 100]
abbrev dktX0_not_0 : List UInt8 := dkwX0_not_0 ++ dktX0_not_1
theorem dksX0_not_0 : cX0_not.data.toList.drop 0 = dktX0_not_0 := by decide +kernel
theorem dksX0_not_1 : cX0_not.data.toList.drop 24 = dktX0_not_1 := dk_seg dksX0_not_0 24 rfl rfl
theorem dksX0_not_2 : cX0_not.data.toList.drop 48 = dktX0_not_2 := dk_seg dksX0_not_1 24 rfl rfl
theorem dksX0_not_3 : cX0_not.data.toList.drop 72 = dktX0_not_3 := dk_seg dksX0_not_2 24 rfl rfl
theorem dX0_not_0 : decode cX0_not 0 = .ok (.aload_n 0, 1) := dk_42 (dk_at dksX0_not_0 0 rfl rfl)
theorem dX0_not_1 : decode cX0_not 1 = .ok (.iconst 5, 1) := dk_8 (dk_at dksX0_not_0 1 rfl rfl)
theorem dX0_not_2 : decode cX0_not 2 = .ok (.invokevirtual 204, 3) := dk_182 0 204 (dk_at dksX0_not_0 2 rfl rfl)
theorem dX0_not_5 : decode cX0_not 5 = .ok (.ifCond .eq 32, 3) := dk_153 0 32 (dk_at dksX0_not_0 5 rfl rfl)
theorem dX0_not_8 : decode cX0_not 8 = .ok (.aload_n 0, 1) := dk_42 (dk_at dksX0_not_0 8 rfl rfl)
theorem dX0_not_9 : decode cX0_not 9 = .ok (.invokevirtual 215, 3) := dk_182 0 215 (dk_at dksX0_not_0 9 rfl rfl)
theorem dX0_not_12 : decode cX0_not 12 = .ok (.aload_n 0, 1) := dk_42 (dk_at dksX0_not_0 12 rfl rfl)
theorem dX0_not_13 : decode cX0_not 13 = .ok (.invokevirtual 212, 3) := dk_182 0 212 (dk_at dksX0_not_0 13 rfl rfl)
theorem dX0_not_16 : decode cX0_not 16 = .ok (.astore_n 1, 1) := dk_76 (dk_at dksX0_not_0 16 rfl rfl)
theorem dX0_not_17 : decode cX0_not 17 = .ok (.aload_n 0, 1) := dk_42 (dk_at dksX0_not_0 17 rfl rfl)
theorem dX0_not_18 : decode cX0_not 18 = .ok (.dup, 1) := dk_89 (dk_at dksX0_not_0 18 rfl rfl)
theorem dX0_not_19 : decode cX0_not 19 = .ok (.getfield 193, 3) := dk_180 0 193 (dk_at dksX0_not_0 19 rfl rfl)
theorem dX0_not_22 : decode cX0_not 22 = .ok (.iconst 1, 1) := dk_4 (dk_at dksX0_not_0 22 rfl rfl)
theorem dX0_not_23 : decode cX0_not 23 = .ok (.isub, 1) := dk_100 (dk_at dksX0_not_0 23 rfl rfl)
theorem dX0_not_24 : decode cX0_not 24 = .ok (.putfield 193, 3) := dk_181 0 193 (dk_at dksX0_not_1 0 rfl rfl)
theorem dX0_not_27 : decode cX0_not 27 = .ok (.new 218, 3) := dk_187 0 218 (dk_at dksX0_not_1 3 rfl rfl)
theorem dX0_not_30 : decode cX0_not 30 = .ok (.dup, 1) := dk_89 (dk_at dksX0_not_1 6 rfl rfl)
theorem dX0_not_31 : decode cX0_not 31 = .ok (.aload_n 1, 1) := dk_43 (dk_at dksX0_not_1 7 rfl rfl)
theorem dX0_not_32 : decode cX0_not 32 = .ok (.iconst 0, 1) := dk_3 (dk_at dksX0_not_1 8 rfl rfl)
theorem dX0_not_33 : decode cX0_not 33 = .ok (.invokespecial 220, 3) := dk_183 0 220 (dk_at dksX0_not_1 9 rfl rfl)
theorem dX0_not_36 : decode cX0_not 36 = .ok (.areturn, 1) := dk_176 (dk_at dksX0_not_1 12 rfl rfl)
theorem dX0_not_37 : decode cX0_not 37 = .ok (.aload_n 0, 1) := dk_42 (dk_at dksX0_not_1 13 rfl rfl)
theorem dX0_not_38 : decode cX0_not 38 = .ok (.invokevirtual 223, 3) := dk_182 0 223 (dk_at dksX0_not_1 14 rfl rfl)
theorem dX0_not_41 : decode cX0_not 41 = .ok (.astore_n 1, 1) := dk_76 (dk_at dksX0_not_1 17 rfl rfl)
theorem dX0_not_42 : decode cX0_not 42 = .ok (.aload_n 0, 1) := dk_42 (dk_at dksX0_not_1 18 rfl rfl)
theorem dX0_not_43 : decode cX0_not 43 = .ok (.bipush 60, 2) := dk_16 60 (dk_at dksX0_not_1 19 rfl rfl)
theorem dX0_not_45 : decode cX0_not 45 = .ok (.invokevirtual 226, 3) := dk_182 0 226 (dk_at dksX0_not_1 21 rfl rfl)
theorem dX0_not_48 : decode cX0_not 48 = .ok (.ifCond .ne 12, 3) := dk_154 0 12 (dk_at dksX0_not_2 0 rfl rfl)
theorem dX0_not_51 : decode cX0_not 51 = .ok (.aload_n 0, 1) := dk_42 (dk_at dksX0_not_2 3 rfl rfl)
theorem dX0_not_52 : decode cX0_not 52 = .ok (.bipush 61, 2) := dk_16 61 (dk_at dksX0_not_2 4 rfl rfl)
theorem dX0_not_54 : decode cX0_not 54 = .ok (.invokevirtual 226, 3) := dk_182 0 226 (dk_at dksX0_not_2 6 rfl rfl)
theorem dX0_not_57 : decode cX0_not 57 = .ok (.ifCond .eq 26, 3) := dk_153 0 26 (dk_at dksX0_not_2 9 rfl rfl)
theorem dX0_not_60 : decode cX0_not 60 = .ok (.aload_n 0, 1) := dk_42 (dk_at dksX0_not_2 12 rfl rfl)
theorem dX0_not_61 : decode cX0_not 61 = .ok (.getfield 159, 3) := dk_180 0 159 (dk_at dksX0_not_2 13 rfl rfl)
theorem dX0_not_64 : decode cX0_not 64 = .ok (.istore_n 2, 1) := dk_61 (dk_at dksX0_not_2 16 rfl rfl)
theorem dX0_not_65 : decode cX0_not 65 = .ok (.aload_n 0, 1) := dk_42 (dk_at dksX0_not_2 17 rfl rfl)
theorem dX0_not_66 : decode cX0_not 66 = .ok (.invokevirtual 190, 3) := dk_182 0 190 (dk_at dksX0_not_2 18 rfl rfl)
theorem dX0_not_69 : decode cX0_not 69 = .ok (.new 207, 3) := dk_187 0 207 (dk_at dksX0_not_2 21 rfl rfl)
theorem dX0_not_72 : decode cX0_not 72 = .ok (.dup, 1) := dk_89 (dk_at dksX0_not_3 0 rfl rfl)
theorem dX0_not_73 : decode cX0_not 73 = .ok (.iload_n 2, 1) := dk_28 (dk_at dksX0_not_3 1 rfl rfl)
theorem dX0_not_74 : decode cX0_not 74 = .ok (.aload_n 1, 1) := dk_43 (dk_at dksX0_not_3 2 rfl rfl)
theorem dX0_not_75 : decode cX0_not 75 = .ok (.aload_n 0, 1) := dk_42 (dk_at dksX0_not_3 3 rfl rfl)
theorem dX0_not_76 : decode cX0_not 76 = .ok (.invokevirtual 223, 3) := dk_182 0 223 (dk_at dksX0_not_3 4 rfl rfl)
theorem dX0_not_79 : decode cX0_not 79 = .ok (.invokespecial 209, 3) := dk_183 0 209 (dk_at dksX0_not_3 7 rfl rfl)
theorem dX0_not_82 : decode cX0_not 82 = .ok (.astore_n 1, 1) := dk_76 (dk_at dksX0_not_3 10 rfl rfl)
theorem dX0_not_83 : decode cX0_not 83 = .ok (.aload_n 1, 1) := dk_43 (dk_at dksX0_not_3 11 rfl rfl)
theorem dX0_not_84 : decode cX0_not 84 = .ok (.areturn, 1) := dk_176 (dk_at dksX0_not_3 12 rfl rfl)
def dkwX0_openOne_1 : List UInt8 := [181, 0, 193, 177]
abbrev dktX0_openOne_1 : List UInt8 := dkwX0_openOne_1 ++ []
def dkwX0_openOne_0 : List UInt8 := [42, 42, 180, 0, 193, 8, 162, 0, 7, 4, 167, 0, 4, 3, 182, 0, 196, 42, 89, 180, 0, 193, 4, 96]
abbrev dktX0_openOne_0 : List UInt8 := dkwX0_openOne_0 ++ dktX0_openOne_1
theorem dksX0_openOne_0 : cX0_openOne.data.toList.drop 0 = dktX0_openOne_0 := by decide +kernel
theorem dksX0_openOne_1 : cX0_openOne.data.toList.drop 24 = dktX0_openOne_1 := dk_seg dksX0_openOne_0 24 rfl rfl
theorem dX0_openOne_0 : decode cX0_openOne 0 = .ok (.aload_n 0, 1) := dk_42 (dk_at dksX0_openOne_0 0 rfl rfl)
theorem dX0_openOne_1 : decode cX0_openOne 1 = .ok (.aload_n 0, 1) := dk_42 (dk_at dksX0_openOne_0 1 rfl rfl)
theorem dX0_openOne_2 : decode cX0_openOne 2 = .ok (.getfield 193, 3) := dk_180 0 193 (dk_at dksX0_openOne_0 2 rfl rfl)
theorem dX0_openOne_5 : decode cX0_openOne 5 = .ok (.iconst 5, 1) := dk_8 (dk_at dksX0_openOne_0 5 rfl rfl)
theorem dX0_openOne_6 : decode cX0_openOne 6 = .ok (.if_icmp .ge 7, 3) := dk_162 0 7 (dk_at dksX0_openOne_0 6 rfl rfl)
theorem dX0_openOne_9 : decode cX0_openOne 9 = .ok (.iconst 1, 1) := dk_4 (dk_at dksX0_openOne_0 9 rfl rfl)
theorem dX0_openOne_10 : decode cX0_openOne 10 = .ok (.goto 4, 3) := dk_167 0 4 (dk_at dksX0_openOne_0 10 rfl rfl)
theorem dX0_openOne_13 : decode cX0_openOne 13 = .ok (.iconst 0, 1) := dk_3 (dk_at dksX0_openOne_0 13 rfl rfl)
theorem dX0_openOne_14 : decode cX0_openOne 14 = .ok (.invokevirtual 196, 3) := dk_182 0 196 (dk_at dksX0_openOne_0 14 rfl rfl)
theorem dX0_openOne_17 : decode cX0_openOne 17 = .ok (.aload_n 0, 1) := dk_42 (dk_at dksX0_openOne_0 17 rfl rfl)
theorem dX0_openOne_18 : decode cX0_openOne 18 = .ok (.dup, 1) := dk_89 (dk_at dksX0_openOne_0 18 rfl rfl)
theorem dX0_openOne_19 : decode cX0_openOne 19 = .ok (.getfield 193, 3) := dk_180 0 193 (dk_at dksX0_openOne_0 19 rfl rfl)
theorem dX0_openOne_22 : decode cX0_openOne 22 = .ok (.iconst 1, 1) := dk_4 (dk_at dksX0_openOne_0 22 rfl rfl)
theorem dX0_openOne_23 : decode cX0_openOne 23 = .ok (.iadd, 1) := dk_96 (dk_at dksX0_openOne_0 23 rfl rfl)
theorem dX0_openOne_24 : decode cX0_openOne 24 = .ok (.putfield 193, 3) := dk_181 0 193 (dk_at dksX0_openOne_1 0 rfl rfl)
theorem dX0_openOne_27 : decode cX0_openOne 27 = .ok (.return_, 1) := dk_177 (dk_at dksX0_openOne_1 3 rfl rfl)
def dkwX0_plus_2 : List UInt8 := [167, 255, 215, 43, 176]
abbrev dktX0_plus_2 : List UInt8 := dkwX0_plus_2 ++ []
def dkwX0_plus_1 : List UInt8 := [180, 0, 159, 61, 42, 182, 0, 190, 187, 0, 207, 89, 28, 43, 42, 182, 0, 229, 183, 0, 209, 76]
abbrev dktX0_plus_1 : List UInt8 := dkwX0_plus_1 ++ dktX0_plus_2
def dkwX0_plus_0 : List UInt8 := [42, 182, 0, 229, 76, 42, 16, 43, 182, 0, 226, 154, 0, 12, 42, 16, 45, 182, 0, 226, 153, 0, 29, 42]
abbrev dktX0_plus_0 : List UInt8 := dkwX0_plus_0 ++ dktX0_plus_1
theorem dksX0_plus_0 : cX0_plus.data.toList.drop 0 = dktX0_plus_0 := by decide +kernel
theorem dksX0_plus_1 : cX0_plus.data.toList.drop 24 = dktX0_plus_1 := dk_seg dksX0_plus_0 24 rfl rfl
theorem dksX0_plus_2 : cX0_plus.data.toList.drop 46 = dktX0_plus_2 := dk_seg dksX0_plus_1 22 rfl rfl
theorem dX0_plus_0 : decode cX0_plus 0 = .ok (.aload_n 0, 1) := dk_42 (dk_at dksX0_plus_0 0 rfl rfl)
theorem dX0_plus_1 : decode cX0_plus 1 = .ok (.invokevirtual 229, 3) := dk_182 0 229 (dk_at dksX0_plus_0 1 rfl rfl)
theorem dX0_plus_4 : decode cX0_plus 4 = .ok (.astore_n 1, 1) := dk_76 (dk_at dksX0_plus_0 4 rfl rfl)
theorem dX0_plus_5 : decode cX0_plus 5 = .ok (.aload_n 0, 1) := dk_42 (dk_at dksX0_plus_0 5 rfl rfl)
theorem dX0_plus_6 : decode cX0_plus 6 = .ok (.bipush 43, 2) := dk_16 43 (dk_at dksX0_plus_0 6 rfl rfl)
theorem dX0_plus_8 : decode cX0_plus 8 = .ok (.invokevirtual 226, 3) := dk_182 0 226 (dk_at dksX0_plus_0 8 rfl rfl)
theorem dX0_plus_11 : decode cX0_plus 11 = .ok (.ifCond .ne 12, 3) := dk_154 0 12 (dk_at dksX0_plus_0 11 rfl rfl)
theorem dX0_plus_14 : decode cX0_plus 14 = .ok (.aload_n 0, 1) := dk_42 (dk_at dksX0_plus_0 14 rfl rfl)
theorem dX0_plus_15 : decode cX0_plus 15 = .ok (.bipush 45, 2) := dk_16 45 (dk_at dksX0_plus_0 15 rfl rfl)
theorem dX0_plus_17 : decode cX0_plus 17 = .ok (.invokevirtual 226, 3) := dk_182 0 226 (dk_at dksX0_plus_0 17 rfl rfl)
theorem dX0_plus_20 : decode cX0_plus 20 = .ok (.ifCond .eq 29, 3) := dk_153 0 29 (dk_at dksX0_plus_0 20 rfl rfl)
theorem dX0_plus_23 : decode cX0_plus 23 = .ok (.aload_n 0, 1) := dk_42 (dk_at dksX0_plus_0 23 rfl rfl)
theorem dX0_plus_24 : decode cX0_plus 24 = .ok (.getfield 159, 3) := dk_180 0 159 (dk_at dksX0_plus_1 0 rfl rfl)
theorem dX0_plus_27 : decode cX0_plus 27 = .ok (.istore_n 2, 1) := dk_61 (dk_at dksX0_plus_1 3 rfl rfl)
theorem dX0_plus_28 : decode cX0_plus 28 = .ok (.aload_n 0, 1) := dk_42 (dk_at dksX0_plus_1 4 rfl rfl)
theorem dX0_plus_29 : decode cX0_plus 29 = .ok (.invokevirtual 190, 3) := dk_182 0 190 (dk_at dksX0_plus_1 5 rfl rfl)
theorem dX0_plus_32 : decode cX0_plus 32 = .ok (.new 207, 3) := dk_187 0 207 (dk_at dksX0_plus_1 8 rfl rfl)
theorem dX0_plus_35 : decode cX0_plus 35 = .ok (.dup, 1) := dk_89 (dk_at dksX0_plus_1 11 rfl rfl)
theorem dX0_plus_36 : decode cX0_plus 36 = .ok (.iload_n 2, 1) := dk_28 (dk_at dksX0_plus_1 12 rfl rfl)
theorem dX0_plus_37 : decode cX0_plus 37 = .ok (.aload_n 1, 1) := dk_43 (dk_at dksX0_plus_1 13 rfl rfl)
theorem dX0_plus_38 : decode cX0_plus 38 = .ok (.aload_n 0, 1) := dk_42 (dk_at dksX0_plus_1 14 rfl rfl)
theorem dX0_plus_39 : decode cX0_plus 39 = .ok (.invokevirtual 229, 3) := dk_182 0 229 (dk_at dksX0_plus_1 15 rfl rfl)
theorem dX0_plus_42 : decode cX0_plus 42 = .ok (.invokespecial 209, 3) := dk_183 0 209 (dk_at dksX0_plus_1 18 rfl rfl)
theorem dX0_plus_45 : decode cX0_plus 45 = .ok (.astore_n 1, 1) := dk_76 (dk_at dksX0_plus_1 21 rfl rfl)
theorem dX0_plus_46 : decode cX0_plus 46 = .ok (.goto (-41), 3) := dk_167 255 215 (dk_at dksX0_plus_2 0 rfl rfl)
theorem dX0_plus_49 : decode cX0_plus 49 = .ok (.aload_n 1, 1) := dk_43 (dk_at dksX0_plus_2 3 rfl rfl)
theorem dX0_plus_50 : decode cX0_plus 50 = .ok (.areturn, 1) := dk_176 (dk_at dksX0_plus_2 4 rfl rfl)
def dkwX0_times_1 : List UInt8 := [43, 42, 182, 0, 232, 183, 0, 209, 76, 167, 255, 228, 43, 176]
abbrev dktX0_times_1 : List UInt8 := dkwX0_times_1 ++ []
def dkwX0_times_0 : List UInt8 := [42, 182, 0, 232, 76, 42, 16, 42, 182, 0, 226, 153, 0, 25, 42, 182, 0, 190, 187, 0, 207, 89, 16, 42]
abbrev dktX0_times_0 : List UInt8 := dkwX0_times_0 ++ dktX0_times_1
theorem dksX0_times_0 : cX0_times.data.toList.drop 0 = dktX0_times_0 := by decide +kernel
theorem dksX0_times_1 : cX0_times.data.toList.drop 24 = dktX0_times_1 := dk_seg dksX0_times_0 24 rfl rfl
theorem dX0_times_0 : decode cX0_times 0 = .ok (.aload_n 0, 1) := dk_42 (dk_at dksX0_times_0 0 rfl rfl)
theorem dX0_times_1 : decode cX0_times 1 = .ok (.invokevirtual 232, 3) := dk_182 0 232 (dk_at dksX0_times_0 1 rfl rfl)
theorem dX0_times_4 : decode cX0_times 4 = .ok (.astore_n 1, 1) := dk_76 (dk_at dksX0_times_0 4 rfl rfl)
theorem dX0_times_5 : decode cX0_times 5 = .ok (.aload_n 0, 1) := dk_42 (dk_at dksX0_times_0 5 rfl rfl)
theorem dX0_times_6 : decode cX0_times 6 = .ok (.bipush 42, 2) := dk_16 42 (dk_at dksX0_times_0 6 rfl rfl)
theorem dX0_times_8 : decode cX0_times 8 = .ok (.invokevirtual 226, 3) := dk_182 0 226 (dk_at dksX0_times_0 8 rfl rfl)
theorem dX0_times_11 : decode cX0_times 11 = .ok (.ifCond .eq 25, 3) := dk_153 0 25 (dk_at dksX0_times_0 11 rfl rfl)
theorem dX0_times_14 : decode cX0_times 14 = .ok (.aload_n 0, 1) := dk_42 (dk_at dksX0_times_0 14 rfl rfl)
theorem dX0_times_15 : decode cX0_times 15 = .ok (.invokevirtual 190, 3) := dk_182 0 190 (dk_at dksX0_times_0 15 rfl rfl)
theorem dX0_times_18 : decode cX0_times 18 = .ok (.new 207, 3) := dk_187 0 207 (dk_at dksX0_times_0 18 rfl rfl)
theorem dX0_times_21 : decode cX0_times 21 = .ok (.dup, 1) := dk_89 (dk_at dksX0_times_0 21 rfl rfl)
theorem dX0_times_22 : decode cX0_times 22 = .ok (.bipush 42, 2) := dk_16 42 (dk_at dksX0_times_0 22 rfl rfl)
theorem dX0_times_24 : decode cX0_times 24 = .ok (.aload_n 1, 1) := dk_43 (dk_at dksX0_times_1 0 rfl rfl)
theorem dX0_times_25 : decode cX0_times 25 = .ok (.aload_n 0, 1) := dk_42 (dk_at dksX0_times_1 1 rfl rfl)
theorem dX0_times_26 : decode cX0_times 26 = .ok (.invokevirtual 232, 3) := dk_182 0 232 (dk_at dksX0_times_1 2 rfl rfl)
theorem dX0_times_29 : decode cX0_times 29 = .ok (.invokespecial 209, 3) := dk_183 0 209 (dk_at dksX0_times_1 5 rfl rfl)
theorem dX0_times_32 : decode cX0_times 32 = .ok (.astore_n 1, 1) := dk_76 (dk_at dksX0_times_1 8 rfl rfl)
theorem dX0_times_33 : decode cX0_times 33 = .ok (.goto (-28), 3) := dk_167 255 228 (dk_at dksX0_times_1 9 rfl rfl)
theorem dX0_times_36 : decode cX0_times 36 = .ok (.aload_n 1, 1) := dk_43 (dk_at dksX0_times_1 12 rfl rfl)
theorem dX0_times_37 : decode cX0_times 37 = .ok (.areturn, 1) := dk_176 (dk_at dksX0_times_1 13 rfl rfl)
def dkwX0_one_5 : List UInt8 := [154, 0, 8, 42, 180, 0, 169, 191, 42, 89, 180, 0, 193, 4, 100, 181, 0, 193, 42, 182, 0, 190, 44, 176]
abbrev dktX0_one_5 : List UInt8 := dkwX0_one_5 ++ []
def dkwX0_one_4 : List UInt8 := [154, 0, 8, 42, 180, 0, 169, 191, 42, 182, 0, 215, 42, 182, 0, 245, 77, 42, 16, 41, 182, 0, 226]
abbrev dktX0_one_4 : List UInt8 := dkwX0_one_4 ++ dktX0_one_5
def dkwX0_one_3 : List UInt8 := [180, 0, 193, 4, 100, 181, 0, 193, 187, 0, 218, 89, 44, 4, 183, 0, 220, 176, 42, 16, 40, 182, 0, 226]
abbrev dktX0_one_3 : List UInt8 := dkwX0_one_3 ++ dktX0_one_4
def dkwX0_one_2 : List UInt8 := [183, 0, 242, 176, 42, 16, 45, 182, 0, 226, 153, 0, 32, 42, 182, 0, 215, 42, 182, 0, 232, 77, 42, 89]
abbrev dktX0_one_2 : List UInt8 := dkwX0_one_2 ++ dktX0_one_3
def dkwX0_one_1 : List UInt8 := [183, 0, 237, 176, 42, 180, 0, 143, 5, 160, 0, 17, 42, 182, 0, 190, 187, 0, 240, 89, 42, 27]
abbrev dktX0_one_1 : List UInt8 := dkwX0_one_1 ++ dktX0_one_2
def dkwX0_one_0 : List UInt8 := [42, 180, 0, 159, 60, 42, 180, 0, 143, 6, 160, 0, 16, 42, 182, 0, 190, 187, 0, 235, 89, 27]
abbrev dktX0_one_0 : List UInt8 := dkwX0_one_0 ++ dktX0_one_1
theorem dksX0_one_0 : cX0_one.data.toList.drop 0 = dktX0_one_0 := by decide +kernel
theorem dksX0_one_1 : cX0_one.data.toList.drop 22 = dktX0_one_1 := dk_seg dksX0_one_0 22 rfl rfl
theorem dksX0_one_2 : cX0_one.data.toList.drop 44 = dktX0_one_2 := dk_seg dksX0_one_1 22 rfl rfl
theorem dksX0_one_3 : cX0_one.data.toList.drop 68 = dktX0_one_3 := dk_seg dksX0_one_2 24 rfl rfl
theorem dksX0_one_4 : cX0_one.data.toList.drop 92 = dktX0_one_4 := dk_seg dksX0_one_3 24 rfl rfl
theorem dksX0_one_5 : cX0_one.data.toList.drop 115 = dktX0_one_5 := dk_seg dksX0_one_4 23 rfl rfl
theorem dX0_one_0 : decode cX0_one 0 = .ok (.aload_n 0, 1) := dk_42 (dk_at dksX0_one_0 0 rfl rfl)
theorem dX0_one_1 : decode cX0_one 1 = .ok (.getfield 159, 3) := dk_180 0 159 (dk_at dksX0_one_0 1 rfl rfl)
theorem dX0_one_4 : decode cX0_one 4 = .ok (.istore_n 1, 1) := dk_60 (dk_at dksX0_one_0 4 rfl rfl)
theorem dX0_one_5 : decode cX0_one 5 = .ok (.aload_n 0, 1) := dk_42 (dk_at dksX0_one_0 5 rfl rfl)
theorem dX0_one_6 : decode cX0_one 6 = .ok (.getfield 143, 3) := dk_180 0 143 (dk_at dksX0_one_0 6 rfl rfl)
theorem dX0_one_9 : decode cX0_one 9 = .ok (.iconst 3, 1) := dk_6 (dk_at dksX0_one_0 9 rfl rfl)
theorem dX0_one_10 : decode cX0_one 10 = .ok (.if_icmp .ne 16, 3) := dk_160 0 16 (dk_at dksX0_one_0 10 rfl rfl)
theorem dX0_one_13 : decode cX0_one 13 = .ok (.aload_n 0, 1) := dk_42 (dk_at dksX0_one_0 13 rfl rfl)
theorem dX0_one_14 : decode cX0_one 14 = .ok (.invokevirtual 190, 3) := dk_182 0 190 (dk_at dksX0_one_0 14 rfl rfl)
theorem dX0_one_17 : decode cX0_one 17 = .ok (.new 235, 3) := dk_187 0 235 (dk_at dksX0_one_0 17 rfl rfl)
theorem dX0_one_20 : decode cX0_one 20 = .ok (.dup, 1) := dk_89 (dk_at dksX0_one_0 20 rfl rfl)
theorem dX0_one_21 : decode cX0_one 21 = .ok (.iload_n 1, 1) := dk_27 (dk_at dksX0_one_0 21 rfl rfl)
theorem dX0_one_22 : decode cX0_one 22 = .ok (.invokespecial 237, 3) := dk_183 0 237 (dk_at dksX0_one_1 0 rfl rfl)
theorem dX0_one_25 : decode cX0_one 25 = .ok (.areturn, 1) := dk_176 (dk_at dksX0_one_1 3 rfl rfl)
theorem dX0_one_26 : decode cX0_one 26 = .ok (.aload_n 0, 1) := dk_42 (dk_at dksX0_one_1 4 rfl rfl)
theorem dX0_one_27 : decode cX0_one 27 = .ok (.getfield 143, 3) := dk_180 0 143 (dk_at dksX0_one_1 5 rfl rfl)
theorem dX0_one_30 : decode cX0_one 30 = .ok (.iconst 2, 1) := dk_5 (dk_at dksX0_one_1 8 rfl rfl)
theorem dX0_one_31 : decode cX0_one 31 = .ok (.if_icmp .ne 17, 3) := dk_160 0 17 (dk_at dksX0_one_1 9 rfl rfl)
theorem dX0_one_34 : decode cX0_one 34 = .ok (.aload_n 0, 1) := dk_42 (dk_at dksX0_one_1 12 rfl rfl)
theorem dX0_one_35 : decode cX0_one 35 = .ok (.invokevirtual 190, 3) := dk_182 0 190 (dk_at dksX0_one_1 13 rfl rfl)
theorem dX0_one_38 : decode cX0_one 38 = .ok (.new 240, 3) := dk_187 0 240 (dk_at dksX0_one_1 16 rfl rfl)
theorem dX0_one_41 : decode cX0_one 41 = .ok (.dup, 1) := dk_89 (dk_at dksX0_one_1 19 rfl rfl)
theorem dX0_one_42 : decode cX0_one 42 = .ok (.aload_n 0, 1) := dk_42 (dk_at dksX0_one_1 20 rfl rfl)
theorem dX0_one_43 : decode cX0_one 43 = .ok (.iload_n 1, 1) := dk_27 (dk_at dksX0_one_1 21 rfl rfl)
theorem dX0_one_44 : decode cX0_one 44 = .ok (.invokespecial 242, 3) := dk_183 0 242 (dk_at dksX0_one_2 0 rfl rfl)
theorem dX0_one_47 : decode cX0_one 47 = .ok (.areturn, 1) := dk_176 (dk_at dksX0_one_2 3 rfl rfl)
theorem dX0_one_48 : decode cX0_one 48 = .ok (.aload_n 0, 1) := dk_42 (dk_at dksX0_one_2 4 rfl rfl)
theorem dX0_one_49 : decode cX0_one 49 = .ok (.bipush 45, 2) := dk_16 45 (dk_at dksX0_one_2 5 rfl rfl)
theorem dX0_one_51 : decode cX0_one 51 = .ok (.invokevirtual 226, 3) := dk_182 0 226 (dk_at dksX0_one_2 7 rfl rfl)
theorem dX0_one_54 : decode cX0_one 54 = .ok (.ifCond .eq 32, 3) := dk_153 0 32 (dk_at dksX0_one_2 10 rfl rfl)
theorem dX0_one_57 : decode cX0_one 57 = .ok (.aload_n 0, 1) := dk_42 (dk_at dksX0_one_2 13 rfl rfl)
theorem dX0_one_58 : decode cX0_one 58 = .ok (.invokevirtual 215, 3) := dk_182 0 215 (dk_at dksX0_one_2 14 rfl rfl)
theorem dX0_one_61 : decode cX0_one 61 = .ok (.aload_n 0, 1) := dk_42 (dk_at dksX0_one_2 17 rfl rfl)
theorem dX0_one_62 : decode cX0_one 62 = .ok (.invokevirtual 232, 3) := dk_182 0 232 (dk_at dksX0_one_2 18 rfl rfl)
theorem dX0_one_65 : decode cX0_one 65 = .ok (.astore_n 2, 1) := dk_77 (dk_at dksX0_one_2 21 rfl rfl)
theorem dX0_one_66 : decode cX0_one 66 = .ok (.aload_n 0, 1) := dk_42 (dk_at dksX0_one_2 22 rfl rfl)
theorem dX0_one_67 : decode cX0_one 67 = .ok (.dup, 1) := dk_89 (dk_at dksX0_one_2 23 rfl rfl)
theorem dX0_one_68 : decode cX0_one 68 = .ok (.getfield 193, 3) := dk_180 0 193 (dk_at dksX0_one_3 0 rfl rfl)
theorem dX0_one_71 : decode cX0_one 71 = .ok (.iconst 1, 1) := dk_4 (dk_at dksX0_one_3 3 rfl rfl)
theorem dX0_one_72 : decode cX0_one 72 = .ok (.isub, 1) := dk_100 (dk_at dksX0_one_3 4 rfl rfl)
theorem dX0_one_73 : decode cX0_one 73 = .ok (.putfield 193, 3) := dk_181 0 193 (dk_at dksX0_one_3 5 rfl rfl)
theorem dX0_one_76 : decode cX0_one 76 = .ok (.new 218, 3) := dk_187 0 218 (dk_at dksX0_one_3 8 rfl rfl)
theorem dX0_one_79 : decode cX0_one 79 = .ok (.dup, 1) := dk_89 (dk_at dksX0_one_3 11 rfl rfl)
theorem dX0_one_80 : decode cX0_one 80 = .ok (.aload_n 2, 1) := dk_44 (dk_at dksX0_one_3 12 rfl rfl)
theorem dX0_one_81 : decode cX0_one 81 = .ok (.iconst 1, 1) := dk_4 (dk_at dksX0_one_3 13 rfl rfl)
theorem dX0_one_82 : decode cX0_one 82 = .ok (.invokespecial 220, 3) := dk_183 0 220 (dk_at dksX0_one_3 14 rfl rfl)
theorem dX0_one_85 : decode cX0_one 85 = .ok (.areturn, 1) := dk_176 (dk_at dksX0_one_3 17 rfl rfl)
theorem dX0_one_86 : decode cX0_one 86 = .ok (.aload_n 0, 1) := dk_42 (dk_at dksX0_one_3 18 rfl rfl)
theorem dX0_one_87 : decode cX0_one 87 = .ok (.bipush 40, 2) := dk_16 40 (dk_at dksX0_one_3 19 rfl rfl)
theorem dX0_one_89 : decode cX0_one 89 = .ok (.invokevirtual 226, 3) := dk_182 0 226 (dk_at dksX0_one_3 21 rfl rfl)
theorem dX0_one_92 : decode cX0_one 92 = .ok (.ifCond .ne 8, 3) := dk_154 0 8 (dk_at dksX0_one_4 0 rfl rfl)
theorem dX0_one_95 : decode cX0_one 95 = .ok (.aload_n 0, 1) := dk_42 (dk_at dksX0_one_4 3 rfl rfl)
theorem dX0_one_96 : decode cX0_one 96 = .ok (.getfield 169, 3) := dk_180 0 169 (dk_at dksX0_one_4 4 rfl rfl)
theorem dX0_one_99 : decode cX0_one 99 = .ok (.athrow, 1) := dk_191 (dk_at dksX0_one_4 7 rfl rfl)
theorem dX0_one_100 : decode cX0_one 100 = .ok (.aload_n 0, 1) := dk_42 (dk_at dksX0_one_4 8 rfl rfl)
theorem dX0_one_101 : decode cX0_one 101 = .ok (.invokevirtual 215, 3) := dk_182 0 215 (dk_at dksX0_one_4 9 rfl rfl)
theorem dX0_one_104 : decode cX0_one 104 = .ok (.aload_n 0, 1) := dk_42 (dk_at dksX0_one_4 12 rfl rfl)
theorem dX0_one_105 : decode cX0_one 105 = .ok (.invokevirtual 245, 3) := dk_182 0 245 (dk_at dksX0_one_4 13 rfl rfl)
theorem dX0_one_108 : decode cX0_one 108 = .ok (.astore_n 2, 1) := dk_77 (dk_at dksX0_one_4 16 rfl rfl)
theorem dX0_one_109 : decode cX0_one 109 = .ok (.aload_n 0, 1) := dk_42 (dk_at dksX0_one_4 17 rfl rfl)
theorem dX0_one_110 : decode cX0_one 110 = .ok (.bipush 41, 2) := dk_16 41 (dk_at dksX0_one_4 18 rfl rfl)
theorem dX0_one_112 : decode cX0_one 112 = .ok (.invokevirtual 226, 3) := dk_182 0 226 (dk_at dksX0_one_4 20 rfl rfl)
theorem dX0_one_115 : decode cX0_one 115 = .ok (.ifCond .ne 8, 3) := dk_154 0 8 (dk_at dksX0_one_5 0 rfl rfl)
theorem dX0_one_118 : decode cX0_one 118 = .ok (.aload_n 0, 1) := dk_42 (dk_at dksX0_one_5 3 rfl rfl)
theorem dX0_one_119 : decode cX0_one 119 = .ok (.getfield 169, 3) := dk_180 0 169 (dk_at dksX0_one_5 4 rfl rfl)
theorem dX0_one_122 : decode cX0_one 122 = .ok (.athrow, 1) := dk_191 (dk_at dksX0_one_5 7 rfl rfl)
theorem dX0_one_123 : decode cX0_one 123 = .ok (.aload_n 0, 1) := dk_42 (dk_at dksX0_one_5 8 rfl rfl)
theorem dX0_one_124 : decode cX0_one 124 = .ok (.dup, 1) := dk_89 (dk_at dksX0_one_5 9 rfl rfl)
theorem dX0_one_125 : decode cX0_one 125 = .ok (.getfield 193, 3) := dk_180 0 193 (dk_at dksX0_one_5 10 rfl rfl)
theorem dX0_one_128 : decode cX0_one 128 = .ok (.iconst 1, 1) := dk_4 (dk_at dksX0_one_5 13 rfl rfl)
theorem dX0_one_129 : decode cX0_one 129 = .ok (.isub, 1) := dk_100 (dk_at dksX0_one_5 14 rfl rfl)
theorem dX0_one_130 : decode cX0_one 130 = .ok (.putfield 193, 3) := dk_181 0 193 (dk_at dksX0_one_5 15 rfl rfl)
theorem dX0_one_133 : decode cX0_one 133 = .ok (.aload_n 0, 1) := dk_42 (dk_at dksX0_one_5 18 rfl rfl)
theorem dX0_one_134 : decode cX0_one 134 = .ok (.invokevirtual 190, 3) := dk_182 0 190 (dk_at dksX0_one_5 19 rfl rfl)
theorem dX0_one_137 : decode cX0_one 137 = .ok (.aload_n 2, 1) := dk_44 (dk_at dksX0_one_5 22 rfl rfl)
theorem dX0_one_138 : decode cX0_one 138 = .ok (.areturn, 1) := dk_176 (dk_at dksX0_one_5 23 rfl rfl)
def dkwX0_isSign_0 : List UInt8 := [42, 180, 0, 143, 7, 160, 0, 15, 42, 180, 0, 159, 27, 160, 0, 7, 4, 167, 0, 4, 3, 172]
abbrev dktX0_isSign_0 : List UInt8 := dkwX0_isSign_0 ++ []
theorem dksX0_isSign_0 : cX0_isSign.data.toList.drop 0 = dktX0_isSign_0 := by decide +kernel
theorem dX0_isSign_0 : decode cX0_isSign 0 = .ok (.aload_n 0, 1) := dk_42 (dk_at dksX0_isSign_0 0 rfl rfl)
theorem dX0_isSign_1 : decode cX0_isSign 1 = .ok (.getfield 143, 3) := dk_180 0 143 (dk_at dksX0_isSign_0 1 rfl rfl)
theorem dX0_isSign_4 : decode cX0_isSign 4 = .ok (.iconst 4, 1) := dk_7 (dk_at dksX0_isSign_0 4 rfl rfl)
theorem dX0_isSign_5 : decode cX0_isSign 5 = .ok (.if_icmp .ne 15, 3) := dk_160 0 15 (dk_at dksX0_isSign_0 5 rfl rfl)
theorem dX0_isSign_8 : decode cX0_isSign 8 = .ok (.aload_n 0, 1) := dk_42 (dk_at dksX0_isSign_0 8 rfl rfl)
theorem dX0_isSign_9 : decode cX0_isSign 9 = .ok (.getfield 159, 3) := dk_180 0 159 (dk_at dksX0_isSign_0 9 rfl rfl)
theorem dX0_isSign_12 : decode cX0_isSign 12 = .ok (.iload_n 1, 1) := dk_27 (dk_at dksX0_isSign_0 12 rfl rfl)
theorem dX0_isSign_13 : decode cX0_isSign 13 = .ok (.if_icmp .ne 7, 3) := dk_160 0 7 (dk_at dksX0_isSign_0 13 rfl rfl)
theorem dX0_isSign_16 : decode cX0_isSign 16 = .ok (.iconst 1, 1) := dk_4 (dk_at dksX0_isSign_0 16 rfl rfl)
theorem dX0_isSign_17 : decode cX0_isSign 17 = .ok (.goto 4, 3) := dk_167 0 4 (dk_at dksX0_isSign_0 17 rfl rfl)
theorem dX0_isSign_20 : decode cX0_isSign 20 = .ok (.iconst 0, 1) := dk_3 (dk_at dksX0_isSign_0 20 rfl rfl)
theorem dX0_isSign_21 : decode cX0_isSign 21 = .ok (.ireturn, 1) := dk_172 (dk_at dksX0_isSign_0 21 rfl rfl)
def dkwX0_init_12 : List UInt8 := [83, 89, 6, 187, 1, 63, 89, 183, 1, 65, 83, 181, 1, 66, 42, 19, 1, 70, 182, 1, 72, 177]
abbrev dktX0_init_12 : List UInt8 := dkwX0_init_12 ++ []
def dkwX0_init_11 : List UInt8 := [89, 183, 1, 65, 83, 89, 4, 187, 1, 63, 89, 183, 1, 65, 83, 89, 5, 187, 1, 63, 89, 183, 1, 65]
abbrev dktX0_init_11 : List UInt8 := dkwX0_init_11 ++ dktX0_init_12
def dkwX0_init_10 : List UInt8 := [197, 1, 40, 2, 181, 1, 57, 42, 8, 188, 10, 181, 1, 60, 42, 7, 189, 1, 63, 89, 3, 187, 1, 63]
abbrev dktX0_init_10 : List UInt8 := dkwX0_init_10 ++ dktX0_init_11
def dkwX0_init_9 : List UInt8 := [181, 1, 48, 42, 16, 8, 188, 10, 181, 1, 51, 42, 16, 8, 188, 10, 181, 1, 54, 42, 6, 16, 8]
abbrev dktX0_init_9 : List UInt8 := dkwX0_init_9 ++ dktX0_init_10
def dkwX0_init_8 : List UInt8 := [16, 8, 197, 1, 40, 2, 181, 1, 42, 42, 16, 31, 188, 10, 181, 1, 45, 42, 16, 31, 188, 10]
abbrev dktX0_init_8 : List UInt8 := dkwX0_init_8 ++ dktX0_init_9
def dkwX0_init_7 : List UInt8 := [83, 181, 0, 187, 42, 17, 0, 160, 188, 8, 181, 0, 122, 42, 16, 8, 188, 10, 181, 1, 37, 42, 16, 31]
abbrev dktX0_init_7 : List UInt8 := dkwX0_init_7 ++ dktX0_init_8
def dkwX0_init_6 : List UInt8 := [83, 89, 5, 19, 1, 32, 83, 89, 6, 19, 1, 33, 83, 89, 7, 19, 1, 35, 83, 89, 8, 19, 1, 36]
abbrev dktX0_init_6 : List UInt8 := dkwX0_init_6 ++ dktX0_init_7
def dkwX0_init_5 : List UInt8 := [19, 1, 28, 83, 181, 0, 179, 42, 16, 6, 189, 0, 165, 89, 3, 19, 1, 29, 83, 89, 4, 19, 1, 31]
abbrev dktX0_init_5 : List UInt8 := dkwX0_init_5 ++ dktX0_init_6
def dkwX0_init_4 : List UInt8 := [19, 1, 20, 83, 89, 5, 19, 1, 22, 83, 89, 6, 19, 1, 24, 83, 89, 7, 19, 1, 26, 83, 89, 8]
abbrev dktX0_init_4 : List UInt8 := dkwX0_init_4 ++ dktX0_init_5
def dkwX0_init_3 : List UInt8 := [16, 6, 189, 1, 16, 181, 0, 255, 42, 16, 6, 189, 0, 165, 89, 3, 19, 1, 18, 83, 89, 4]
abbrev dktX0_init_3 : List UInt8 := dkwX0_init_3 ++ dktX0_init_4
def dkwX0_init_2 : List UInt8 := [16, 6, 8, 79, 89, 16, 7, 8, 79, 181, 0, 72, 42, 187, 0, 253, 89, 183, 1, 15, 181, 0, 169, 42]
abbrev dktX0_init_2 : List UInt8 := dkwX0_init_2 ++ dktX0_init_3
def dkwX0_init_1 : List UInt8 := [3, 8, 79, 89, 4, 8, 79, 89, 5, 8, 79, 89, 6, 8, 79, 89, 7, 8, 79, 89, 8, 8, 79, 89]
abbrev dktX0_init_1 : List UInt8 := dkwX0_init_1 ++ dktX0_init_2
def dkwX0_init_0 : List UInt8 := [42, 183, 1, 11, 42, 16, 8, 189, 0, 40, 181, 0, 51, 42, 6, 181, 0, 69, 42, 16, 8, 188, 10, 89]
abbrev dktX0_init_0 : List UInt8 := dkwX0_init_0 ++ dktX0_init_1
theorem dksX0_init_0 : cX0_init.data.toList.drop 0 = dktX0_init_0 := by decide +kernel
theorem dksX0_init_1 : cX0_init.data.toList.drop 24 = dktX0_init_1 := dk_seg dksX0_init_0 24 rfl rfl
theorem dksX0_init_2 : cX0_init.data.toList.drop 48 = dktX0_init_2 := dk_seg dksX0_init_1 24 rfl rfl
theorem dksX0_init_3 : cX0_init.data.toList.drop 72 = dktX0_init_3 := dk_seg dksX0_init_2 24 rfl rfl
theorem dksX0_init_4 : cX0_init.data.toList.drop 94 = dktX0_init_4 := dk_seg dksX0_init_3 22 rfl rfl
theorem dksX0_init_5 : cX0_init.data.toList.drop 118 = dktX0_init_5 := dk_seg dksX0_init_4 24 rfl rfl
theorem dksX0_init_6 : cX0_init.data.toList.drop 142 = dktX0_init_6 := dk_seg dksX0_init_5 24 rfl rfl
theorem dksX0_init_7 : cX0_init.data.toList.drop 166 = dktX0_init_7 := dk_seg dksX0_init_6 24 rfl rfl
theorem dksX0_init_8 : cX0_init.data.toList.drop 190 = dktX0_init_8 := dk_seg dksX0_init_7 24 rfl rfl
theorem dksX0_init_9 : cX0_init.data.toList.drop 212 = dktX0_init_9 := dk_seg dksX0_init_8 22 rfl rfl
theorem dksX0_init_10 : cX0_init.data.toList.drop 235 = dktX0_init_10 := dk_seg dksX0_init_9 23 rfl rfl
theorem dksX0_init_11 : cX0_init.data.toList.drop 259 = dktX0_init_11 := dk_seg dksX0_init_10 24 rfl rfl
theorem dksX0_init_12 : cX0_init.data.toList.drop 283 = dktX0_init_12 := dk_seg dksX0_init_11 24 rfl rfl
theorem dX0_init_0 : decode cX0_init 0 = .ok (.aload_n 0, 1) := dk_42 (dk_at dksX0_init_0 0 rfl rfl)
theorem dX0_init_1 : decode cX0_init 1 = .ok (.invokespecial 267, 3) := dk_183 1 11 (dk_at dksX0_init_0 1 rfl rfl)
theorem dX0_init_4 : decode cX0_init 4 = .ok (.aload_n 0, 1) := dk_42 (dk_at dksX0_init_0 4 rfl rfl)
theorem dX0_init_5 : decode cX0_init 5 = .ok (.bipush 8, 2) := dk_16 8 (dk_at dksX0_init_0 5 rfl rfl)
theorem dX0_init_7 : decode cX0_init 7 = .ok (.anewarray 40, 3) := dk_189 0 40 (dk_at dksX0_init_0 7 rfl rfl)
theorem dX0_init_10 : decode cX0_init 10 = .ok (.putfield 51, 3) := dk_181 0 51 (dk_at dksX0_init_0 10 rfl rfl)
theorem dX0_init_13 : decode cX0_init 13 = .ok (.aload_n 0, 1) := dk_42 (dk_at dksX0_init_0 13 rfl rfl)
theorem dX0_init_14 : decode cX0_init 14 = .ok (.iconst 3, 1) := dk_6 (dk_at dksX0_init_0 14 rfl rfl)
theorem dX0_init_15 : decode cX0_init 15 = .ok (.putfield 69, 3) := dk_181 0 69 (dk_at dksX0_init_0 15 rfl rfl)
theorem dX0_init_18 : decode cX0_init 18 = .ok (.aload_n 0, 1) := dk_42 (dk_at dksX0_init_0 18 rfl rfl)
theorem dX0_init_19 : decode cX0_init 19 = .ok (.bipush 8, 2) := dk_16 8 (dk_at dksX0_init_0 19 rfl rfl)
theorem dX0_init_21 : decode cX0_init 21 = .ok (.newarray .int, 2) := dk_188_10 (dk_at dksX0_init_0 21 rfl rfl)
theorem dX0_init_23 : decode cX0_init 23 = .ok (.dup, 1) := dk_89 (dk_at dksX0_init_0 23 rfl rfl)
theorem dX0_init_24 : decode cX0_init 24 = .ok (.iconst 0, 1) := dk_3 (dk_at dksX0_init_1 0 rfl rfl)
theorem dX0_init_25 : decode cX0_init 25 = .ok (.iconst 5, 1) := dk_8 (dk_at dksX0_init_1 1 rfl rfl)
theorem dX0_init_26 : decode cX0_init 26 = .ok (.iastore, 1) := dk_79 (dk_at dksX0_init_1 2 rfl rfl)
theorem dX0_init_27 : decode cX0_init 27 = .ok (.dup, 1) := dk_89 (dk_at dksX0_init_1 3 rfl rfl)
theorem dX0_init_28 : decode cX0_init 28 = .ok (.iconst 1, 1) := dk_4 (dk_at dksX0_init_1 4 rfl rfl)
theorem dX0_init_29 : decode cX0_init 29 = .ok (.iconst 5, 1) := dk_8 (dk_at dksX0_init_1 5 rfl rfl)
theorem dX0_init_30 : decode cX0_init 30 = .ok (.iastore, 1) := dk_79 (dk_at dksX0_init_1 6 rfl rfl)
theorem dX0_init_31 : decode cX0_init 31 = .ok (.dup, 1) := dk_89 (dk_at dksX0_init_1 7 rfl rfl)
theorem dX0_init_32 : decode cX0_init 32 = .ok (.iconst 2, 1) := dk_5 (dk_at dksX0_init_1 8 rfl rfl)
theorem dX0_init_33 : decode cX0_init 33 = .ok (.iconst 5, 1) := dk_8 (dk_at dksX0_init_1 9 rfl rfl)
theorem dX0_init_34 : decode cX0_init 34 = .ok (.iastore, 1) := dk_79 (dk_at dksX0_init_1 10 rfl rfl)
theorem dX0_init_35 : decode cX0_init 35 = .ok (.dup, 1) := dk_89 (dk_at dksX0_init_1 11 rfl rfl)
theorem dX0_init_36 : decode cX0_init 36 = .ok (.iconst 3, 1) := dk_6 (dk_at dksX0_init_1 12 rfl rfl)
theorem dX0_init_37 : decode cX0_init 37 = .ok (.iconst 5, 1) := dk_8 (dk_at dksX0_init_1 13 rfl rfl)
theorem dX0_init_38 : decode cX0_init 38 = .ok (.iastore, 1) := dk_79 (dk_at dksX0_init_1 14 rfl rfl)
theorem dX0_init_39 : decode cX0_init 39 = .ok (.dup, 1) := dk_89 (dk_at dksX0_init_1 15 rfl rfl)
theorem dX0_init_40 : decode cX0_init 40 = .ok (.iconst 4, 1) := dk_7 (dk_at dksX0_init_1 16 rfl rfl)
theorem dX0_init_41 : decode cX0_init 41 = .ok (.iconst 5, 1) := dk_8 (dk_at dksX0_init_1 17 rfl rfl)
theorem dX0_init_42 : decode cX0_init 42 = .ok (.iastore, 1) := dk_79 (dk_at dksX0_init_1 18 rfl rfl)
theorem dX0_init_43 : decode cX0_init 43 = .ok (.dup, 1) := dk_89 (dk_at dksX0_init_1 19 rfl rfl)
theorem dX0_init_44 : decode cX0_init 44 = .ok (.iconst 5, 1) := dk_8 (dk_at dksX0_init_1 20 rfl rfl)
theorem dX0_init_45 : decode cX0_init 45 = .ok (.iconst 5, 1) := dk_8 (dk_at dksX0_init_1 21 rfl rfl)
theorem dX0_init_46 : decode cX0_init 46 = .ok (.iastore, 1) := dk_79 (dk_at dksX0_init_1 22 rfl rfl)
theorem dX0_init_47 : decode cX0_init 47 = .ok (.dup, 1) := dk_89 (dk_at dksX0_init_1 23 rfl rfl)
theorem dX0_init_48 : decode cX0_init 48 = .ok (.bipush 6, 2) := dk_16 6 (dk_at dksX0_init_2 0 rfl rfl)
theorem dX0_init_50 : decode cX0_init 50 = .ok (.iconst 5, 1) := dk_8 (dk_at dksX0_init_2 2 rfl rfl)
theorem dX0_init_51 : decode cX0_init 51 = .ok (.iastore, 1) := dk_79 (dk_at dksX0_init_2 3 rfl rfl)
theorem dX0_init_52 : decode cX0_init 52 = .ok (.dup, 1) := dk_89 (dk_at dksX0_init_2 4 rfl rfl)
theorem dX0_init_53 : decode cX0_init 53 = .ok (.bipush 7, 2) := dk_16 7 (dk_at dksX0_init_2 5 rfl rfl)
theorem dX0_init_55 : decode cX0_init 55 = .ok (.iconst 5, 1) := dk_8 (dk_at dksX0_init_2 7 rfl rfl)
theorem dX0_init_56 : decode cX0_init 56 = .ok (.iastore, 1) := dk_79 (dk_at dksX0_init_2 8 rfl rfl)
theorem dX0_init_57 : decode cX0_init 57 = .ok (.putfield 72, 3) := dk_181 0 72 (dk_at dksX0_init_2 9 rfl rfl)
theorem dX0_init_60 : decode cX0_init 60 = .ok (.aload_n 0, 1) := dk_42 (dk_at dksX0_init_2 12 rfl rfl)
theorem dX0_init_61 : decode cX0_init 61 = .ok (.new 253, 3) := dk_187 0 253 (dk_at dksX0_init_2 13 rfl rfl)
theorem dX0_init_64 : decode cX0_init 64 = .ok (.dup, 1) := dk_89 (dk_at dksX0_init_2 16 rfl rfl)
theorem dX0_init_65 : decode cX0_init 65 = .ok (.invokespecial 271, 3) := dk_183 1 15 (dk_at dksX0_init_2 17 rfl rfl)
theorem dX0_init_68 : decode cX0_init 68 = .ok (.putfield 169, 3) := dk_181 0 169 (dk_at dksX0_init_2 20 rfl rfl)
theorem dX0_init_71 : decode cX0_init 71 = .ok (.aload_n 0, 1) := dk_42 (dk_at dksX0_init_2 23 rfl rfl)
theorem dX0_init_72 : decode cX0_init 72 = .ok (.bipush 6, 2) := dk_16 6 (dk_at dksX0_init_3 0 rfl rfl)
theorem dX0_init_74 : decode cX0_init 74 = .ok (.anewarray 272, 3) := dk_189 1 16 (dk_at dksX0_init_3 2 rfl rfl)
theorem dX0_init_77 : decode cX0_init 77 = .ok (.putfield 255, 3) := dk_181 0 255 (dk_at dksX0_init_3 5 rfl rfl)
theorem dX0_init_80 : decode cX0_init 80 = .ok (.aload_n 0, 1) := dk_42 (dk_at dksX0_init_3 8 rfl rfl)
theorem dX0_init_81 : decode cX0_init 81 = .ok (.bipush 6, 2) := dk_16 6 (dk_at dksX0_init_3 9 rfl rfl)
theorem dX0_init_83 : decode cX0_init 83 = .ok (.anewarray 165, 3) := dk_189 0 165 (dk_at dksX0_init_3 11 rfl rfl)
theorem dX0_init_86 : decode cX0_init 86 = .ok (.dup, 1) := dk_89 (dk_at dksX0_init_3 14 rfl rfl)
theorem dX0_init_87 : decode cX0_init 87 = .ok (.iconst 0, 1) := dk_3 (dk_at dksX0_init_3 15 rfl rfl)
theorem dX0_init_88 : decode cX0_init 88 = .ok (.ldc_w 274, 3) := dk_19 1 18 (dk_at dksX0_init_3 16 rfl rfl)
theorem dX0_init_91 : decode cX0_init 91 = .ok (.aastore, 1) := dk_83 (dk_at dksX0_init_3 19 rfl rfl)
theorem dX0_init_92 : decode cX0_init 92 = .ok (.dup, 1) := dk_89 (dk_at dksX0_init_3 20 rfl rfl)
theorem dX0_init_93 : decode cX0_init 93 = .ok (.iconst 1, 1) := dk_4 (dk_at dksX0_init_3 21 rfl rfl)
theorem dX0_init_94 : decode cX0_init 94 = .ok (.ldc_w 276, 3) := dk_19 1 20 (dk_at dksX0_init_4 0 rfl rfl)
theorem dX0_init_97 : decode cX0_init 97 = .ok (.aastore, 1) := dk_83 (dk_at dksX0_init_4 3 rfl rfl)
theorem dX0_init_98 : decode cX0_init 98 = .ok (.dup, 1) := dk_89 (dk_at dksX0_init_4 4 rfl rfl)
theorem dX0_init_99 : decode cX0_init 99 = .ok (.iconst 2, 1) := dk_5 (dk_at dksX0_init_4 5 rfl rfl)
theorem dX0_init_100 : decode cX0_init 100 = .ok (.ldc_w 278, 3) := dk_19 1 22 (dk_at dksX0_init_4 6 rfl rfl)
theorem dX0_init_103 : decode cX0_init 103 = .ok (.aastore, 1) := dk_83 (dk_at dksX0_init_4 9 rfl rfl)
theorem dX0_init_104 : decode cX0_init 104 = .ok (.dup, 1) := dk_89 (dk_at dksX0_init_4 10 rfl rfl)
theorem dX0_init_105 : decode cX0_init 105 = .ok (.iconst 3, 1) := dk_6 (dk_at dksX0_init_4 11 rfl rfl)
theorem dX0_init_106 : decode cX0_init 106 = .ok (.ldc_w 280, 3) := dk_19 1 24 (dk_at dksX0_init_4 12 rfl rfl)
theorem dX0_init_109 : decode cX0_init 109 = .ok (.aastore, 1) := dk_83 (dk_at dksX0_init_4 15 rfl rfl)
theorem dX0_init_110 : decode cX0_init 110 = .ok (.dup, 1) := dk_89 (dk_at dksX0_init_4 16 rfl rfl)
theorem dX0_init_111 : decode cX0_init 111 = .ok (.iconst 4, 1) := dk_7 (dk_at dksX0_init_4 17 rfl rfl)
theorem dX0_init_112 : decode cX0_init 112 = .ok (.ldc_w 282, 3) := dk_19 1 26 (dk_at dksX0_init_4 18 rfl rfl)
theorem dX0_init_115 : decode cX0_init 115 = .ok (.aastore, 1) := dk_83 (dk_at dksX0_init_4 21 rfl rfl)
theorem dX0_init_116 : decode cX0_init 116 = .ok (.dup, 1) := dk_89 (dk_at dksX0_init_4 22 rfl rfl)
theorem dX0_init_117 : decode cX0_init 117 = .ok (.iconst 5, 1) := dk_8 (dk_at dksX0_init_4 23 rfl rfl)
theorem dX0_init_118 : decode cX0_init 118 = .ok (.ldc_w 284, 3) := dk_19 1 28 (dk_at dksX0_init_5 0 rfl rfl)
theorem dX0_init_121 : decode cX0_init 121 = .ok (.aastore, 1) := dk_83 (dk_at dksX0_init_5 3 rfl rfl)
theorem dX0_init_122 : decode cX0_init 122 = .ok (.putfield 179, 3) := dk_181 0 179 (dk_at dksX0_init_5 4 rfl rfl)
theorem dX0_init_125 : decode cX0_init 125 = .ok (.aload_n 0, 1) := dk_42 (dk_at dksX0_init_5 7 rfl rfl)
theorem dX0_init_126 : decode cX0_init 126 = .ok (.bipush 6, 2) := dk_16 6 (dk_at dksX0_init_5 8 rfl rfl)
theorem dX0_init_128 : decode cX0_init 128 = .ok (.anewarray 165, 3) := dk_189 0 165 (dk_at dksX0_init_5 10 rfl rfl)
theorem dX0_init_131 : decode cX0_init 131 = .ok (.dup, 1) := dk_89 (dk_at dksX0_init_5 13 rfl rfl)
theorem dX0_init_132 : decode cX0_init 132 = .ok (.iconst 0, 1) := dk_3 (dk_at dksX0_init_5 14 rfl rfl)
theorem dX0_init_133 : decode cX0_init 133 = .ok (.ldc_w 285, 3) := dk_19 1 29 (dk_at dksX0_init_5 15 rfl rfl)
theorem dX0_init_136 : decode cX0_init 136 = .ok (.aastore, 1) := dk_83 (dk_at dksX0_init_5 18 rfl rfl)
theorem dX0_init_137 : decode cX0_init 137 = .ok (.dup, 1) := dk_89 (dk_at dksX0_init_5 19 rfl rfl)
theorem dX0_init_138 : decode cX0_init 138 = .ok (.iconst 1, 1) := dk_4 (dk_at dksX0_init_5 20 rfl rfl)
theorem dX0_init_139 : decode cX0_init 139 = .ok (.ldc_w 287, 3) := dk_19 1 31 (dk_at dksX0_init_5 21 rfl rfl)
theorem dX0_init_142 : decode cX0_init 142 = .ok (.aastore, 1) := dk_83 (dk_at dksX0_init_6 0 rfl rfl)
theorem dX0_init_143 : decode cX0_init 143 = .ok (.dup, 1) := dk_89 (dk_at dksX0_init_6 1 rfl rfl)
theorem dX0_init_144 : decode cX0_init 144 = .ok (.iconst 2, 1) := dk_5 (dk_at dksX0_init_6 2 rfl rfl)
theorem dX0_init_145 : decode cX0_init 145 = .ok (.ldc_w 288, 3) := dk_19 1 32 (dk_at dksX0_init_6 3 rfl rfl)
theorem dX0_init_148 : decode cX0_init 148 = .ok (.aastore, 1) := dk_83 (dk_at dksX0_init_6 6 rfl rfl)
theorem dX0_init_149 : decode cX0_init 149 = .ok (.dup, 1) := dk_89 (dk_at dksX0_init_6 7 rfl rfl)
theorem dX0_init_150 : decode cX0_init 150 = .ok (.iconst 3, 1) := dk_6 (dk_at dksX0_init_6 8 rfl rfl)
theorem dX0_init_151 : decode cX0_init 151 = .ok (.ldc_w 289, 3) := dk_19 1 33 (dk_at dksX0_init_6 9 rfl rfl)
theorem dX0_init_154 : decode cX0_init 154 = .ok (.aastore, 1) := dk_83 (dk_at dksX0_init_6 12 rfl rfl)
theorem dX0_init_155 : decode cX0_init 155 = .ok (.dup, 1) := dk_89 (dk_at dksX0_init_6 13 rfl rfl)
theorem dX0_init_156 : decode cX0_init 156 = .ok (.iconst 4, 1) := dk_7 (dk_at dksX0_init_6 14 rfl rfl)
theorem dX0_init_157 : decode cX0_init 157 = .ok (.ldc_w 291, 3) := dk_19 1 35 (dk_at dksX0_init_6 15 rfl rfl)
theorem dX0_init_160 : decode cX0_init 160 = .ok (.aastore, 1) := dk_83 (dk_at dksX0_init_6 18 rfl rfl)
theorem dX0_init_161 : decode cX0_init 161 = .ok (.dup, 1) := dk_89 (dk_at dksX0_init_6 19 rfl rfl)
theorem dX0_init_162 : decode cX0_init 162 = .ok (.iconst 5, 1) := dk_8 (dk_at dksX0_init_6 20 rfl rfl)
theorem dX0_init_163 : decode cX0_init 163 = .ok (.ldc_w 292, 3) := dk_19 1 36 (dk_at dksX0_init_6 21 rfl rfl)
theorem dX0_init_166 : decode cX0_init 166 = .ok (.aastore, 1) := dk_83 (dk_at dksX0_init_7 0 rfl rfl)
theorem dX0_init_167 : decode cX0_init 167 = .ok (.putfield 187, 3) := dk_181 0 187 (dk_at dksX0_init_7 1 rfl rfl)
theorem dX0_init_170 : decode cX0_init 170 = .ok (.aload_n 0, 1) := dk_42 (dk_at dksX0_init_7 4 rfl rfl)
theorem dX0_init_171 : decode cX0_init 171 = .ok (.sipush 160, 3) := dk_17 0 160 (dk_at dksX0_init_7 5 rfl rfl)
theorem dX0_init_174 : decode cX0_init 174 = .ok (.newarray .byte, 2) := dk_188_8 (dk_at dksX0_init_7 8 rfl rfl)
theorem dX0_init_176 : decode cX0_init 176 = .ok (.putfield 122, 3) := dk_181 0 122 (dk_at dksX0_init_7 10 rfl rfl)
theorem dX0_init_179 : decode cX0_init 179 = .ok (.aload_n 0, 1) := dk_42 (dk_at dksX0_init_7 13 rfl rfl)
theorem dX0_init_180 : decode cX0_init 180 = .ok (.bipush 8, 2) := dk_16 8 (dk_at dksX0_init_7 14 rfl rfl)
theorem dX0_init_182 : decode cX0_init 182 = .ok (.newarray .int, 2) := dk_188_10 (dk_at dksX0_init_7 16 rfl rfl)
theorem dX0_init_184 : decode cX0_init 184 = .ok (.putfield 293, 3) := dk_181 1 37 (dk_at dksX0_init_7 18 rfl rfl)
theorem dX0_init_187 : decode cX0_init 187 = .ok (.aload_n 0, 1) := dk_42 (dk_at dksX0_init_7 21 rfl rfl)
theorem dX0_init_188 : decode cX0_init 188 = .ok (.bipush 31, 2) := dk_16 31 (dk_at dksX0_init_7 22 rfl rfl)
theorem dX0_init_190 : decode cX0_init 190 = .ok (.bipush 8, 2) := dk_16 8 (dk_at dksX0_init_8 0 rfl rfl)
theorem dX0_init_192 : decode cX0_init 192 = .ok (.multianewarray 296 2, 4) := by decide +kernel
theorem dX0_init_196 : decode cX0_init 196 = .ok (.putfield 298, 3) := dk_181 1 42 (dk_at dksX0_init_8 6 rfl rfl)
theorem dX0_init_199 : decode cX0_init 199 = .ok (.aload_n 0, 1) := dk_42 (dk_at dksX0_init_8 9 rfl rfl)
theorem dX0_init_200 : decode cX0_init 200 = .ok (.bipush 31, 2) := dk_16 31 (dk_at dksX0_init_8 10 rfl rfl)
theorem dX0_init_202 : decode cX0_init 202 = .ok (.newarray .int, 2) := dk_188_10 (dk_at dksX0_init_8 12 rfl rfl)
theorem dX0_init_204 : decode cX0_init 204 = .ok (.putfield 301, 3) := dk_181 1 45 (dk_at dksX0_init_8 14 rfl rfl)
theorem dX0_init_207 : decode cX0_init 207 = .ok (.aload_n 0, 1) := dk_42 (dk_at dksX0_init_8 17 rfl rfl)
theorem dX0_init_208 : decode cX0_init 208 = .ok (.bipush 31, 2) := dk_16 31 (dk_at dksX0_init_8 18 rfl rfl)
theorem dX0_init_210 : decode cX0_init 210 = .ok (.newarray .int, 2) := dk_188_10 (dk_at dksX0_init_8 20 rfl rfl)
theorem dX0_init_212 : decode cX0_init 212 = .ok (.putfield 304, 3) := dk_181 1 48 (dk_at dksX0_init_9 0 rfl rfl)
theorem dX0_init_215 : decode cX0_init 215 = .ok (.aload_n 0, 1) := dk_42 (dk_at dksX0_init_9 3 rfl rfl)
theorem dX0_init_216 : decode cX0_init 216 = .ok (.bipush 8, 2) := dk_16 8 (dk_at dksX0_init_9 4 rfl rfl)
theorem dX0_init_218 : decode cX0_init 218 = .ok (.newarray .int, 2) := dk_188_10 (dk_at dksX0_init_9 6 rfl rfl)
theorem dX0_init_220 : decode cX0_init 220 = .ok (.putfield 307, 3) := dk_181 1 51 (dk_at dksX0_init_9 8 rfl rfl)
theorem dX0_init_223 : decode cX0_init 223 = .ok (.aload_n 0, 1) := dk_42 (dk_at dksX0_init_9 11 rfl rfl)
theorem dX0_init_224 : decode cX0_init 224 = .ok (.bipush 8, 2) := dk_16 8 (dk_at dksX0_init_9 12 rfl rfl)
theorem dX0_init_226 : decode cX0_init 226 = .ok (.newarray .int, 2) := dk_188_10 (dk_at dksX0_init_9 14 rfl rfl)
theorem dX0_init_228 : decode cX0_init 228 = .ok (.putfield 310, 3) := dk_181 1 54 (dk_at dksX0_init_9 16 rfl rfl)
theorem dX0_init_231 : decode cX0_init 231 = .ok (.aload_n 0, 1) := dk_42 (dk_at dksX0_init_9 19 rfl rfl)
theorem dX0_init_232 : decode cX0_init 232 = .ok (.iconst 3, 1) := dk_6 (dk_at dksX0_init_9 20 rfl rfl)
theorem dX0_init_233 : decode cX0_init 233 = .ok (.bipush 8, 2) := dk_16 8 (dk_at dksX0_init_9 21 rfl rfl)
theorem dX0_init_235 : decode cX0_init 235 = .ok (.multianewarray 296 2, 4) := by decide +kernel
theorem dX0_init_239 : decode cX0_init 239 = .ok (.putfield 313, 3) := dk_181 1 57 (dk_at dksX0_init_10 4 rfl rfl)
theorem dX0_init_242 : decode cX0_init 242 = .ok (.aload_n 0, 1) := dk_42 (dk_at dksX0_init_10 7 rfl rfl)
theorem dX0_init_243 : decode cX0_init 243 = .ok (.iconst 5, 1) := dk_8 (dk_at dksX0_init_10 8 rfl rfl)
theorem dX0_init_244 : decode cX0_init 244 = .ok (.newarray .int, 2) := dk_188_10 (dk_at dksX0_init_10 9 rfl rfl)
theorem dX0_init_246 : decode cX0_init 246 = .ok (.putfield 316, 3) := dk_181 1 60 (dk_at dksX0_init_10 11 rfl rfl)
theorem dX0_init_249 : decode cX0_init 249 = .ok (.aload_n 0, 1) := dk_42 (dk_at dksX0_init_10 14 rfl rfl)
theorem dX0_init_250 : decode cX0_init 250 = .ok (.iconst 4, 1) := dk_7 (dk_at dksX0_init_10 15 rfl rfl)
theorem dX0_init_251 : decode cX0_init 251 = .ok (.anewarray 319, 3) := dk_189 1 63 (dk_at dksX0_init_10 16 rfl rfl)
theorem dX0_init_254 : decode cX0_init 254 = .ok (.dup, 1) := dk_89 (dk_at dksX0_init_10 19 rfl rfl)
theorem dX0_init_255 : decode cX0_init 255 = .ok (.iconst 0, 1) := dk_3 (dk_at dksX0_init_10 20 rfl rfl)
theorem dX0_init_256 : decode cX0_init 256 = .ok (.new 319, 3) := dk_187 1 63 (dk_at dksX0_init_10 21 rfl rfl)
theorem dX0_init_259 : decode cX0_init 259 = .ok (.dup, 1) := dk_89 (dk_at dksX0_init_11 0 rfl rfl)
theorem dX0_init_260 : decode cX0_init 260 = .ok (.invokespecial 321, 3) := dk_183 1 65 (dk_at dksX0_init_11 1 rfl rfl)
theorem dX0_init_263 : decode cX0_init 263 = .ok (.aastore, 1) := dk_83 (dk_at dksX0_init_11 4 rfl rfl)
theorem dX0_init_264 : decode cX0_init 264 = .ok (.dup, 1) := dk_89 (dk_at dksX0_init_11 5 rfl rfl)
theorem dX0_init_265 : decode cX0_init 265 = .ok (.iconst 1, 1) := dk_4 (dk_at dksX0_init_11 6 rfl rfl)
theorem dX0_init_266 : decode cX0_init 266 = .ok (.new 319, 3) := dk_187 1 63 (dk_at dksX0_init_11 7 rfl rfl)
theorem dX0_init_269 : decode cX0_init 269 = .ok (.dup, 1) := dk_89 (dk_at dksX0_init_11 10 rfl rfl)
theorem dX0_init_270 : decode cX0_init 270 = .ok (.invokespecial 321, 3) := dk_183 1 65 (dk_at dksX0_init_11 11 rfl rfl)
theorem dX0_init_273 : decode cX0_init 273 = .ok (.aastore, 1) := dk_83 (dk_at dksX0_init_11 14 rfl rfl)
theorem dX0_init_274 : decode cX0_init 274 = .ok (.dup, 1) := dk_89 (dk_at dksX0_init_11 15 rfl rfl)
theorem dX0_init_275 : decode cX0_init 275 = .ok (.iconst 2, 1) := dk_5 (dk_at dksX0_init_11 16 rfl rfl)
theorem dX0_init_276 : decode cX0_init 276 = .ok (.new 319, 3) := dk_187 1 63 (dk_at dksX0_init_11 17 rfl rfl)
theorem dX0_init_279 : decode cX0_init 279 = .ok (.dup, 1) := dk_89 (dk_at dksX0_init_11 20 rfl rfl)
theorem dX0_init_280 : decode cX0_init 280 = .ok (.invokespecial 321, 3) := dk_183 1 65 (dk_at dksX0_init_11 21 rfl rfl)
theorem dX0_init_283 : decode cX0_init 283 = .ok (.aastore, 1) := dk_83 (dk_at dksX0_init_12 0 rfl rfl)
theorem dX0_init_284 : decode cX0_init 284 = .ok (.dup, 1) := dk_89 (dk_at dksX0_init_12 1 rfl rfl)
theorem dX0_init_285 : decode cX0_init 285 = .ok (.iconst 3, 1) := dk_6 (dk_at dksX0_init_12 2 rfl rfl)
theorem dX0_init_286 : decode cX0_init 286 = .ok (.new 319, 3) := dk_187 1 63 (dk_at dksX0_init_12 3 rfl rfl)
theorem dX0_init_289 : decode cX0_init 289 = .ok (.dup, 1) := dk_89 (dk_at dksX0_init_12 6 rfl rfl)
theorem dX0_init_290 : decode cX0_init 290 = .ok (.invokespecial 321, 3) := dk_183 1 65 (dk_at dksX0_init_12 7 rfl rfl)
theorem dX0_init_293 : decode cX0_init 293 = .ok (.aastore, 1) := dk_83 (dk_at dksX0_init_12 10 rfl rfl)
theorem dX0_init_294 : decode cX0_init 294 = .ok (.putfield 322, 3) := dk_181 1 66 (dk_at dksX0_init_12 11 rfl rfl)
theorem dX0_init_297 : decode cX0_init 297 = .ok (.aload_n 0, 1) := dk_42 (dk_at dksX0_init_12 14 rfl rfl)
theorem dX0_init_298 : decode cX0_init 298 = .ok (.ldc_w 326, 3) := dk_19 1 70 (dk_at dksX0_init_12 15 rfl rfl)
theorem dX0_init_301 : decode cX0_init 301 = .ok (.invokevirtual 328, 3) := dk_182 1 72 (dk_at dksX0_init_12 18 rfl rfl)
theorem dX0_init_304 : decode cX0_init 304 = .ok (.return_, 1) := dk_177 (dk_at dksX0_init_12 21 rfl rfl)
def dkwX0_firstText_1 : List UInt8 := [132, 2, 1, 167, 255, 233, 42, 43, 182, 0, 173, 181, 0, 248, 42, 182, 1, 6, 61, 177]
abbrev dktX0_firstText_1 : List UInt8 := dkwX0_firstText_1 ++ []
def dkwX0_firstText_0 : List UInt8 := [3, 61, 28, 43, 182, 0, 173, 162, 0, 21, 42, 180, 0, 122, 28, 43, 28, 182, 0, 175, 145, 84]
abbrev dktX0_firstText_0 : List UInt8 := dkwX0_firstText_0 ++ dktX0_firstText_1
theorem dksX0_firstText_0 : cX0_firstText.data.toList.drop 0 = dktX0_firstText_0 := by decide +kernel
theorem dksX0_firstText_1 : cX0_firstText.data.toList.drop 22 = dktX0_firstText_1 := dk_seg dksX0_firstText_0 22 rfl rfl
theorem dX0_firstText_0 : decode cX0_firstText 0 = .ok (.iconst 0, 1) := dk_3 (dk_at dksX0_firstText_0 0 rfl rfl)
theorem dX0_firstText_1 : decode cX0_firstText 1 = .ok (.istore_n 2, 1) := dk_61 (dk_at dksX0_firstText_0 1 rfl rfl)
theorem dX0_firstText_2 : decode cX0_firstText 2 = .ok (.iload_n 2, 1) := dk_28 (dk_at dksX0_firstText_0 2 rfl rfl)
theorem dX0_firstText_3 : decode cX0_firstText 3 = .ok (.aload_n 1, 1) := dk_43 (dk_at dksX0_firstText_0 3 rfl rfl)
theorem dX0_firstText_4 : decode cX0_firstText 4 = .ok (.invokevirtual 173, 3) := dk_182 0 173 (dk_at dksX0_firstText_0 4 rfl rfl)
theorem dX0_firstText_7 : decode cX0_firstText 7 = .ok (.if_icmp .ge 21, 3) := dk_162 0 21 (dk_at dksX0_firstText_0 7 rfl rfl)
theorem dX0_firstText_10 : decode cX0_firstText 10 = .ok (.aload_n 0, 1) := dk_42 (dk_at dksX0_firstText_0 10 rfl rfl)
theorem dX0_firstText_11 : decode cX0_firstText 11 = .ok (.getfield 122, 3) := dk_180 0 122 (dk_at dksX0_firstText_0 11 rfl rfl)
theorem dX0_firstText_14 : decode cX0_firstText 14 = .ok (.iload_n 2, 1) := dk_28 (dk_at dksX0_firstText_0 14 rfl rfl)
theorem dX0_firstText_15 : decode cX0_firstText 15 = .ok (.aload_n 1, 1) := dk_43 (dk_at dksX0_firstText_0 15 rfl rfl)
theorem dX0_firstText_16 : decode cX0_firstText 16 = .ok (.iload_n 2, 1) := dk_28 (dk_at dksX0_firstText_0 16 rfl rfl)
theorem dX0_firstText_17 : decode cX0_firstText 17 = .ok (.invokevirtual 175, 3) := dk_182 0 175 (dk_at dksX0_firstText_0 17 rfl rfl)
theorem dX0_firstText_20 : decode cX0_firstText 20 = .ok (.i2b, 1) := dk_145 (dk_at dksX0_firstText_0 20 rfl rfl)
theorem dX0_firstText_21 : decode cX0_firstText 21 = .ok (.bastore, 1) := dk_84 (dk_at dksX0_firstText_0 21 rfl rfl)
theorem dX0_firstText_22 : decode cX0_firstText 22 = .ok (.iinc 2 1, 3) := dk_132 2 1 (dk_at dksX0_firstText_1 0 rfl rfl)
theorem dX0_firstText_25 : decode cX0_firstText 25 = .ok (.goto (-23), 3) := dk_167 255 233 (dk_at dksX0_firstText_1 3 rfl rfl)
theorem dX0_firstText_28 : decode cX0_firstText 28 = .ok (.aload_n 0, 1) := dk_42 (dk_at dksX0_firstText_1 6 rfl rfl)
theorem dX0_firstText_29 : decode cX0_firstText 29 = .ok (.aload_n 1, 1) := dk_43 (dk_at dksX0_firstText_1 7 rfl rfl)
theorem dX0_firstText_30 : decode cX0_firstText 30 = .ok (.invokevirtual 173, 3) := dk_182 0 173 (dk_at dksX0_firstText_1 8 rfl rfl)
theorem dX0_firstText_33 : decode cX0_firstText 33 = .ok (.putfield 248, 3) := dk_181 0 248 (dk_at dksX0_firstText_1 11 rfl rfl)
theorem dX0_firstText_36 : decode cX0_firstText 36 = .ok (.aload_n 0, 1) := dk_42 (dk_at dksX0_firstText_1 14 rfl rfl)
theorem dX0_firstText_37 : decode cX0_firstText 37 = .ok (.invokevirtual 262, 3) := dk_182 1 6 (dk_at dksX0_firstText_1 15 rfl rfl)
theorem dX0_firstText_40 : decode cX0_firstText 40 = .ok (.istore_n 2, 1) := dk_61 (dk_at dksX0_firstText_1 18 rfl rfl)
theorem dX0_firstText_41 : decode cX0_firstText 41 = .ok (.return_, 1) := dk_177 (dk_at dksX0_firstText_1 19 rfl rfl)
def dkwX0_force_0 : List UInt8 := [42, 27, 182, 1, 76, 154, 0, 6, 16, 254, 172, 42, 180, 1, 79, 61, 42, 27, 181, 1, 79, 28, 172]
abbrev dktX0_force_0 : List UInt8 := dkwX0_force_0 ++ []
theorem dksX0_force_0 : cX0_force.data.toList.drop 0 = dktX0_force_0 := by decide +kernel
theorem dX0_force_0 : decode cX0_force 0 = .ok (.aload_n 0, 1) := dk_42 (dk_at dksX0_force_0 0 rfl rfl)
theorem dX0_force_1 : decode cX0_force 1 = .ok (.iload_n 1, 1) := dk_27 (dk_at dksX0_force_0 1 rfl rfl)
theorem dX0_force_2 : decode cX0_force 2 = .ok (.invokevirtual 332, 3) := dk_182 1 76 (dk_at dksX0_force_0 2 rfl rfl)
theorem dX0_force_5 : decode cX0_force 5 = .ok (.ifCond .ne 6, 3) := dk_154 0 6 (dk_at dksX0_force_0 5 rfl rfl)
theorem dX0_force_8 : decode cX0_force 8 = .ok (.bipush (-2), 2) := dk_16 254 (dk_at dksX0_force_0 8 rfl rfl)
theorem dX0_force_10 : decode cX0_force 10 = .ok (.ireturn, 1) := dk_172 (dk_at dksX0_force_0 10 rfl rfl)
theorem dX0_force_11 : decode cX0_force 11 = .ok (.aload_n 0, 1) := dk_42 (dk_at dksX0_force_0 11 rfl rfl)
theorem dX0_force_12 : decode cX0_force 12 = .ok (.getfield 335, 3) := dk_180 1 79 (dk_at dksX0_force_0 12 rfl rfl)
theorem dX0_force_15 : decode cX0_force 15 = .ok (.istore_n 2, 1) := dk_61 (dk_at dksX0_force_0 15 rfl rfl)
theorem dX0_force_16 : decode cX0_force 16 = .ok (.aload_n 0, 1) := dk_42 (dk_at dksX0_force_0 16 rfl rfl)
theorem dX0_force_17 : decode cX0_force 17 = .ok (.iload_n 1, 1) := dk_27 (dk_at dksX0_force_0 17 rfl rfl)
theorem dX0_force_18 : decode cX0_force 18 = .ok (.putfield 335, 3) := dk_181 1 79 (dk_at dksX0_force_0 18 rfl rfl)
theorem dX0_force_21 : decode cX0_force 21 = .ok (.iload_n 2, 1) := dk_28 (dk_at dksX0_force_0 21 rfl rfl)
theorem dX0_force_22 : decode cX0_force 22 = .ok (.ireturn, 1) := dk_172 (dk_at dksX0_force_0 22 rfl rfl)
def dkwX0_isText_0 : List UInt8 := [27, 133, 9, 42, 180, 1, 3, 4, 100, 133, 184, 0, 14, 172]
abbrev dktX0_isText_0 : List UInt8 := dkwX0_isText_0 ++ []
theorem dksX0_isText_0 : cX0_isText.data.toList.drop 0 = dktX0_isText_0 := by decide +kernel
theorem dX0_isText_0 : decode cX0_isText 0 = .ok (.iload_n 1, 1) := dk_27 (dk_at dksX0_isText_0 0 rfl rfl)
theorem dX0_isText_1 : decode cX0_isText 1 = .ok (.i2l, 1) := dk_133 (dk_at dksX0_isText_0 1 rfl rfl)
theorem dX0_isText_2 : decode cX0_isText 2 = .ok (.lconst 0, 1) := dk_9 (dk_at dksX0_isText_0 2 rfl rfl)
theorem dX0_isText_3 : decode cX0_isText 3 = .ok (.aload_n 0, 1) := dk_42 (dk_at dksX0_isText_0 3 rfl rfl)
theorem dX0_isText_4 : decode cX0_isText 4 = .ok (.getfield 259, 3) := dk_180 1 3 (dk_at dksX0_isText_0 4 rfl rfl)
theorem dX0_isText_7 : decode cX0_isText 7 = .ok (.iconst 1, 1) := dk_4 (dk_at dksX0_isText_0 7 rfl rfl)
theorem dX0_isText_8 : decode cX0_isText 8 = .ok (.isub, 1) := dk_100 (dk_at dksX0_isText_0 8 rfl rfl)
theorem dX0_isText_9 : decode cX0_isText 9 = .ok (.i2l, 1) := dk_133 (dk_at dksX0_isText_0 9 rfl rfl)
theorem dX0_isText_10 : decode cX0_isText 10 = .ok (.invokestatic 14, 3) := dk_184 0 14 (dk_at dksX0_isText_0 10 rfl rfl)
theorem dX0_isText_13 : decode cX0_isText 13 = .ok (.ireturn, 1) := dk_172 (dk_at dksX0_isText_0 13 rfl rfl)
def dkwX0_dig_5 : List UInt8 := [181, 0, 18, 42, 180, 0, 18, 4, 100, 172]
abbrev dktX0_dig_5 : List UInt8 := dkwX0_dig_5 ++ []
def dkwX0_dig_4 : List UInt8 := [184, 0, 55, 83, 42, 180, 0, 51, 42, 180, 0, 18, 50, 29, 181, 0, 82, 42, 89, 180, 0, 18, 4, 96]
abbrev dktX0_dig_4 : List UInt8 := dkwX0_dig_4 ++ dktX0_dig_5
def dkwX0_dig_3 : List UInt8 := [181, 0, 82, 42, 180, 0, 51, 42, 180, 0, 18, 25, 4, 182, 0, 94, 25, 4, 180, 0, 76, 28]
abbrev dktX0_dig_3 : List UInt8 := dkwX0_dig_3 ++ dktX0_dig_4
def dkwX0_dig_2 : List UInt8 := [16, 253, 172, 42, 180, 0, 18, 16, 8, 160, 0, 6, 16, 252, 172, 25, 4, 89, 180, 0, 82, 29, 100]
abbrev dktX0_dig_2 : List UInt8 := dkwX0_dig_2 ++ dktX0_dig_3
def dkwX0_dig_1 : List UInt8 := [154, 0, 6, 16, 254, 172, 42, 180, 0, 51, 27, 50, 58, 4, 25, 4, 180, 0, 82, 29, 162, 0, 6]
abbrev dktX0_dig_1 : List UInt8 := dkwX0_dig_1 ++ dktX0_dig_2
def dkwX0_dig_0 : List UInt8 := [42, 27, 182, 0, 61, 153, 0, 22, 28, 184, 0, 47, 153, 0, 15, 29, 133, 10, 20, 0, 64, 184, 0, 14]
abbrev dktX0_dig_0 : List UInt8 := dkwX0_dig_0 ++ dktX0_dig_1
theorem dksX0_dig_0 : cX0_dig.data.toList.drop 0 = dktX0_dig_0 := by decide +kernel
theorem dksX0_dig_1 : cX0_dig.data.toList.drop 24 = dktX0_dig_1 := dk_seg dksX0_dig_0 24 rfl rfl
theorem dksX0_dig_2 : cX0_dig.data.toList.drop 47 = dktX0_dig_2 := dk_seg dksX0_dig_1 23 rfl rfl
theorem dksX0_dig_3 : cX0_dig.data.toList.drop 70 = dktX0_dig_3 := dk_seg dksX0_dig_2 23 rfl rfl
theorem dksX0_dig_4 : cX0_dig.data.toList.drop 92 = dktX0_dig_4 := dk_seg dksX0_dig_3 22 rfl rfl
theorem dksX0_dig_5 : cX0_dig.data.toList.drop 116 = dktX0_dig_5 := dk_seg dksX0_dig_4 24 rfl rfl
theorem dX0_dig_0 : decode cX0_dig 0 = .ok (.aload_n 0, 1) := dk_42 (dk_at dksX0_dig_0 0 rfl rfl)
theorem dX0_dig_1 : decode cX0_dig 1 = .ok (.iload_n 1, 1) := dk_27 (dk_at dksX0_dig_0 1 rfl rfl)
theorem dX0_dig_2 : decode cX0_dig 2 = .ok (.invokevirtual 61, 3) := dk_182 0 61 (dk_at dksX0_dig_0 2 rfl rfl)
theorem dX0_dig_5 : decode cX0_dig 5 = .ok (.ifCond .eq 22, 3) := dk_153 0 22 (dk_at dksX0_dig_0 5 rfl rfl)
theorem dX0_dig_8 : decode cX0_dig 8 = .ok (.iload_n 2, 1) := dk_28 (dk_at dksX0_dig_0 8 rfl rfl)
theorem dX0_dig_9 : decode cX0_dig 9 = .ok (.invokestatic 47, 3) := dk_184 0 47 (dk_at dksX0_dig_0 9 rfl rfl)
theorem dX0_dig_12 : decode cX0_dig 12 = .ok (.ifCond .eq 15, 3) := dk_153 0 15 (dk_at dksX0_dig_0 12 rfl rfl)
theorem dX0_dig_15 : decode cX0_dig 15 = .ok (.iload_n 3, 1) := dk_29 (dk_at dksX0_dig_0 15 rfl rfl)
theorem dX0_dig_16 : decode cX0_dig 16 = .ok (.i2l, 1) := dk_133 (dk_at dksX0_dig_0 16 rfl rfl)
theorem dX0_dig_17 : decode cX0_dig 17 = .ok (.lconst 1, 1) := dk_10 (dk_at dksX0_dig_0 17 rfl rfl)
theorem dX0_dig_18 : decode cX0_dig 18 = .ok (.ldc2_w 64, 3) := dk_20 0 64 (dk_at dksX0_dig_0 18 rfl rfl)
theorem dX0_dig_21 : decode cX0_dig 21 = .ok (.invokestatic 14, 3) := dk_184 0 14 (dk_at dksX0_dig_0 21 rfl rfl)
theorem dX0_dig_24 : decode cX0_dig 24 = .ok (.ifCond .ne 6, 3) := dk_154 0 6 (dk_at dksX0_dig_1 0 rfl rfl)
theorem dX0_dig_27 : decode cX0_dig 27 = .ok (.bipush (-2), 2) := dk_16 254 (dk_at dksX0_dig_1 3 rfl rfl)
theorem dX0_dig_29 : decode cX0_dig 29 = .ok (.ireturn, 1) := dk_172 (dk_at dksX0_dig_1 5 rfl rfl)
theorem dX0_dig_30 : decode cX0_dig 30 = .ok (.aload_n 0, 1) := dk_42 (dk_at dksX0_dig_1 6 rfl rfl)
theorem dX0_dig_31 : decode cX0_dig 31 = .ok (.getfield 51, 3) := dk_180 0 51 (dk_at dksX0_dig_1 7 rfl rfl)
theorem dX0_dig_34 : decode cX0_dig 34 = .ok (.iload_n 1, 1) := dk_27 (dk_at dksX0_dig_1 10 rfl rfl)
theorem dX0_dig_35 : decode cX0_dig 35 = .ok (.aaload, 1) := dk_50 (dk_at dksX0_dig_1 11 rfl rfl)
theorem dX0_dig_36 : decode cX0_dig 36 = .ok (.astore 4, 2) := dk_58 4 (dk_at dksX0_dig_1 12 rfl rfl)
theorem dX0_dig_38 : decode cX0_dig 38 = .ok (.aload 4, 2) := dk_25 4 (dk_at dksX0_dig_1 14 rfl rfl)
theorem dX0_dig_40 : decode cX0_dig 40 = .ok (.getfield 82, 3) := dk_180 0 82 (dk_at dksX0_dig_1 16 rfl rfl)
theorem dX0_dig_43 : decode cX0_dig 43 = .ok (.iload_n 3, 1) := dk_29 (dk_at dksX0_dig_1 19 rfl rfl)
theorem dX0_dig_44 : decode cX0_dig 44 = .ok (.if_icmp .ge 6, 3) := dk_162 0 6 (dk_at dksX0_dig_1 20 rfl rfl)
theorem dX0_dig_47 : decode cX0_dig 47 = .ok (.bipush (-3), 2) := dk_16 253 (dk_at dksX0_dig_2 0 rfl rfl)
theorem dX0_dig_49 : decode cX0_dig 49 = .ok (.ireturn, 1) := dk_172 (dk_at dksX0_dig_2 2 rfl rfl)
theorem dX0_dig_50 : decode cX0_dig 50 = .ok (.aload_n 0, 1) := dk_42 (dk_at dksX0_dig_2 3 rfl rfl)
theorem dX0_dig_51 : decode cX0_dig 51 = .ok (.getfield 18, 3) := dk_180 0 18 (dk_at dksX0_dig_2 4 rfl rfl)
theorem dX0_dig_54 : decode cX0_dig 54 = .ok (.bipush 8, 2) := dk_16 8 (dk_at dksX0_dig_2 7 rfl rfl)
theorem dX0_dig_56 : decode cX0_dig 56 = .ok (.if_icmp .ne 6, 3) := dk_160 0 6 (dk_at dksX0_dig_2 9 rfl rfl)
theorem dX0_dig_59 : decode cX0_dig 59 = .ok (.bipush (-4), 2) := dk_16 252 (dk_at dksX0_dig_2 12 rfl rfl)
theorem dX0_dig_61 : decode cX0_dig 61 = .ok (.ireturn, 1) := dk_172 (dk_at dksX0_dig_2 14 rfl rfl)
theorem dX0_dig_62 : decode cX0_dig 62 = .ok (.aload 4, 2) := dk_25 4 (dk_at dksX0_dig_2 15 rfl rfl)
theorem dX0_dig_64 : decode cX0_dig 64 = .ok (.dup, 1) := dk_89 (dk_at dksX0_dig_2 17 rfl rfl)
theorem dX0_dig_65 : decode cX0_dig 65 = .ok (.getfield 82, 3) := dk_180 0 82 (dk_at dksX0_dig_2 18 rfl rfl)
theorem dX0_dig_68 : decode cX0_dig 68 = .ok (.iload_n 3, 1) := dk_29 (dk_at dksX0_dig_2 21 rfl rfl)
theorem dX0_dig_69 : decode cX0_dig 69 = .ok (.isub, 1) := dk_100 (dk_at dksX0_dig_2 22 rfl rfl)
theorem dX0_dig_70 : decode cX0_dig 70 = .ok (.putfield 82, 3) := dk_181 0 82 (dk_at dksX0_dig_3 0 rfl rfl)
theorem dX0_dig_73 : decode cX0_dig 73 = .ok (.aload_n 0, 1) := dk_42 (dk_at dksX0_dig_3 3 rfl rfl)
theorem dX0_dig_74 : decode cX0_dig 74 = .ok (.getfield 51, 3) := dk_180 0 51 (dk_at dksX0_dig_3 4 rfl rfl)
theorem dX0_dig_77 : decode cX0_dig 77 = .ok (.aload_n 0, 1) := dk_42 (dk_at dksX0_dig_3 7 rfl rfl)
theorem dX0_dig_78 : decode cX0_dig 78 = .ok (.getfield 18, 3) := dk_180 0 18 (dk_at dksX0_dig_3 8 rfl rfl)
theorem dX0_dig_81 : decode cX0_dig 81 = .ok (.aload 4, 2) := dk_25 4 (dk_at dksX0_dig_3 11 rfl rfl)
theorem dX0_dig_83 : decode cX0_dig 83 = .ok (.invokevirtual 94, 3) := dk_182 0 94 (dk_at dksX0_dig_3 13 rfl rfl)
theorem dX0_dig_86 : decode cX0_dig 86 = .ok (.aload 4, 2) := dk_25 4 (dk_at dksX0_dig_3 16 rfl rfl)
theorem dX0_dig_88 : decode cX0_dig 88 = .ok (.getfield 76, 3) := dk_180 0 76 (dk_at dksX0_dig_3 18 rfl rfl)
theorem dX0_dig_91 : decode cX0_dig 91 = .ok (.iload_n 2, 1) := dk_28 (dk_at dksX0_dig_3 21 rfl rfl)
theorem dX0_dig_92 : decode cX0_dig 92 = .ok (.invokestatic 55, 3) := dk_184 0 55 (dk_at dksX0_dig_4 0 rfl rfl)
theorem dX0_dig_95 : decode cX0_dig 95 = .ok (.aastore, 1) := dk_83 (dk_at dksX0_dig_4 3 rfl rfl)
theorem dX0_dig_96 : decode cX0_dig 96 = .ok (.aload_n 0, 1) := dk_42 (dk_at dksX0_dig_4 4 rfl rfl)
theorem dX0_dig_97 : decode cX0_dig 97 = .ok (.getfield 51, 3) := dk_180 0 51 (dk_at dksX0_dig_4 5 rfl rfl)
theorem dX0_dig_100 : decode cX0_dig 100 = .ok (.aload_n 0, 1) := dk_42 (dk_at dksX0_dig_4 8 rfl rfl)
theorem dX0_dig_101 : decode cX0_dig 101 = .ok (.getfield 18, 3) := dk_180 0 18 (dk_at dksX0_dig_4 9 rfl rfl)
theorem dX0_dig_104 : decode cX0_dig 104 = .ok (.aaload, 1) := dk_50 (dk_at dksX0_dig_4 12 rfl rfl)
theorem dX0_dig_105 : decode cX0_dig 105 = .ok (.iload_n 3, 1) := dk_29 (dk_at dksX0_dig_4 13 rfl rfl)
theorem dX0_dig_106 : decode cX0_dig 106 = .ok (.putfield 82, 3) := dk_181 0 82 (dk_at dksX0_dig_4 14 rfl rfl)
theorem dX0_dig_109 : decode cX0_dig 109 = .ok (.aload_n 0, 1) := dk_42 (dk_at dksX0_dig_4 17 rfl rfl)
theorem dX0_dig_110 : decode cX0_dig 110 = .ok (.dup, 1) := dk_89 (dk_at dksX0_dig_4 18 rfl rfl)
theorem dX0_dig_111 : decode cX0_dig 111 = .ok (.getfield 18, 3) := dk_180 0 18 (dk_at dksX0_dig_4 19 rfl rfl)
theorem dX0_dig_114 : decode cX0_dig 114 = .ok (.iconst 1, 1) := dk_4 (dk_at dksX0_dig_4 22 rfl rfl)
theorem dX0_dig_115 : decode cX0_dig 115 = .ok (.iadd, 1) := dk_96 (dk_at dksX0_dig_4 23 rfl rfl)
theorem dX0_dig_116 : decode cX0_dig 116 = .ok (.putfield 18, 3) := dk_181 0 18 (dk_at dksX0_dig_5 0 rfl rfl)
theorem dX0_dig_119 : decode cX0_dig 119 = .ok (.aload_n 0, 1) := dk_42 (dk_at dksX0_dig_5 3 rfl rfl)
theorem dX0_dig_120 : decode cX0_dig 120 = .ok (.getfield 18, 3) := dk_180 0 18 (dk_at dksX0_dig_5 4 rfl rfl)
theorem dX0_dig_123 : decode cX0_dig 123 = .ok (.iconst 1, 1) := dk_4 (dk_at dksX0_dig_5 7 rfl rfl)
theorem dX0_dig_124 : decode cX0_dig 124 = .ok (.isub, 1) := dk_100 (dk_at dksX0_dig_5 8 rfl rfl)
theorem dX0_dig_125 : decode cX0_dig 125 = .ok (.ireturn, 1) := dk_172 (dk_at dksX0_dig_5 9 rfl rfl)
def dkwX0_sell_1 : List UInt8 := [180, 1, 98, 28, 96, 184, 0, 1, 181, 1, 98, 28, 172]
abbrev dktX0_sell_1 : List UInt8 := dkwX0_sell_1 ++ []
def dkwX0_sell_0 : List UInt8 := [42, 27, 182, 0, 61, 154, 0, 6, 16, 254, 172, 42, 27, 182, 1, 94, 61, 42, 19, 1, 97, 42]
abbrev dktX0_sell_0 : List UInt8 := dkwX0_sell_0 ++ dktX0_sell_1
theorem dksX0_sell_0 : cX0_sell.data.toList.drop 0 = dktX0_sell_0 := by decide +kernel
theorem dksX0_sell_1 : cX0_sell.data.toList.drop 22 = dktX0_sell_1 := dk_seg dksX0_sell_0 22 rfl rfl
theorem dX0_sell_0 : decode cX0_sell 0 = .ok (.aload_n 0, 1) := dk_42 (dk_at dksX0_sell_0 0 rfl rfl)
theorem dX0_sell_1 : decode cX0_sell 1 = .ok (.iload_n 1, 1) := dk_27 (dk_at dksX0_sell_0 1 rfl rfl)
theorem dX0_sell_2 : decode cX0_sell 2 = .ok (.invokevirtual 61, 3) := dk_182 0 61 (dk_at dksX0_sell_0 2 rfl rfl)
theorem dX0_sell_5 : decode cX0_sell 5 = .ok (.ifCond .ne 6, 3) := dk_154 0 6 (dk_at dksX0_sell_0 5 rfl rfl)
theorem dX0_sell_8 : decode cX0_sell 8 = .ok (.bipush (-2), 2) := dk_16 254 (dk_at dksX0_sell_0 8 rfl rfl)
theorem dX0_sell_10 : decode cX0_sell 10 = .ok (.ireturn, 1) := dk_172 (dk_at dksX0_sell_0 10 rfl rfl)
theorem dX0_sell_11 : decode cX0_sell 11 = .ok (.aload_n 0, 1) := dk_42 (dk_at dksX0_sell_0 11 rfl rfl)
theorem dX0_sell_12 : decode cX0_sell 12 = .ok (.iload_n 1, 1) := dk_27 (dk_at dksX0_sell_0 12 rfl rfl)
theorem dX0_sell_13 : decode cX0_sell 13 = .ok (.invokevirtual 350, 3) := dk_182 1 94 (dk_at dksX0_sell_0 13 rfl rfl)
theorem dX0_sell_16 : decode cX0_sell 16 = .ok (.istore_n 2, 1) := dk_61 (dk_at dksX0_sell_0 16 rfl rfl)
theorem dX0_sell_17 : decode cX0_sell 17 = .ok (.aload_n 0, 1) := dk_42 (dk_at dksX0_sell_0 17 rfl rfl)
theorem dX0_sell_18 : decode cX0_sell 18 = .ok (.ldc_w 353, 3) := dk_19 1 97 (dk_at dksX0_sell_0 18 rfl rfl)
theorem dX0_sell_21 : decode cX0_sell 21 = .ok (.aload_n 0, 1) := dk_42 (dk_at dksX0_sell_0 21 rfl rfl)
theorem dX0_sell_22 : decode cX0_sell 22 = .ok (.getfield 354, 3) := dk_180 1 98 (dk_at dksX0_sell_1 0 rfl rfl)
theorem dX0_sell_25 : decode cX0_sell 25 = .ok (.iload_n 2, 1) := dk_28 (dk_at dksX0_sell_1 3 rfl rfl)
theorem dX0_sell_26 : decode cX0_sell 26 = .ok (.iadd, 1) := dk_96 (dk_at dksX0_sell_1 4 rfl rfl)
theorem dX0_sell_27 : decode cX0_sell 27 = .ok (.invokestatic 1, 3) := dk_184 0 1 (dk_at dksX0_sell_1 5 rfl rfl)
theorem dX0_sell_30 : decode cX0_sell 30 = .ok (.putfield 354, 3) := dk_181 1 98 (dk_at dksX0_sell_1 8 rfl rfl)
theorem dX0_sell_33 : decode cX0_sell 33 = .ok (.iload_n 2, 1) := dk_28 (dk_at dksX0_sell_1 11 rfl rfl)
theorem dX0_sell_34 : decode cX0_sell 34 = .ok (.ireturn, 1) := dk_172 (dk_at dksX0_sell_1 12 rfl rfl)
def dkwX0_worthOf_0 : List UInt8 := [42, 4, 27, 182, 0, 109, 42, 180, 0, 51, 27, 50, 182, 0, 106, 104, 172]
abbrev dktX0_worthOf_0 : List UInt8 := dkwX0_worthOf_0 ++ []
theorem dksX0_worthOf_0 : cX0_worthOf.data.toList.drop 0 = dktX0_worthOf_0 := by decide +kernel
theorem dX0_worthOf_0 : decode cX0_worthOf 0 = .ok (.aload_n 0, 1) := dk_42 (dk_at dksX0_worthOf_0 0 rfl rfl)
theorem dX0_worthOf_1 : decode cX0_worthOf 1 = .ok (.iconst 1, 1) := dk_4 (dk_at dksX0_worthOf_0 1 rfl rfl)
theorem dX0_worthOf_2 : decode cX0_worthOf 2 = .ok (.iload_n 1, 1) := dk_27 (dk_at dksX0_worthOf_0 2 rfl rfl)
theorem dX0_worthOf_3 : decode cX0_worthOf 3 = .ok (.invokevirtual 109, 3) := dk_182 0 109 (dk_at dksX0_worthOf_0 3 rfl rfl)
theorem dX0_worthOf_6 : decode cX0_worthOf 6 = .ok (.aload_n 0, 1) := dk_42 (dk_at dksX0_worthOf_0 6 rfl rfl)
theorem dX0_worthOf_7 : decode cX0_worthOf 7 = .ok (.getfield 51, 3) := dk_180 0 51 (dk_at dksX0_worthOf_0 7 rfl rfl)
theorem dX0_worthOf_10 : decode cX0_worthOf 10 = .ok (.iload_n 1, 1) := dk_27 (dk_at dksX0_worthOf_0 10 rfl rfl)
theorem dX0_worthOf_11 : decode cX0_worthOf 11 = .ok (.aaload, 1) := dk_50 (dk_at dksX0_worthOf_0 11 rfl rfl)
theorem dX0_worthOf_12 : decode cX0_worthOf 12 = .ok (.invokevirtual 106, 3) := dk_182 0 106 (dk_at dksX0_worthOf_0 12 rfl rfl)
theorem dX0_worthOf_15 : decode cX0_worthOf 15 = .ok (.imul, 1) := dk_104 (dk_at dksX0_worthOf_0 15 rfl rfl)
theorem dX0_worthOf_16 : decode cX0_worthOf 16 = .ok (.ireturn, 1) := dk_172 (dk_at dksX0_worthOf_0 16 rfl rfl)
def dkwX0_year_0 : List UInt8 := [42, 180, 0, 66, 16, 99, 160, 0, 6, 16, 253, 172, 42, 182, 1, 101, 42, 182, 1, 104, 172]
abbrev dktX0_year_0 : List UInt8 := dkwX0_year_0 ++ []
theorem dksX0_year_0 : cX0_year.data.toList.drop 0 = dktX0_year_0 := by decide +kernel
theorem dX0_year_0 : decode cX0_year 0 = .ok (.aload_n 0, 1) := dk_42 (dk_at dksX0_year_0 0 rfl rfl)
theorem dX0_year_1 : decode cX0_year 1 = .ok (.getfield 66, 3) := dk_180 0 66 (dk_at dksX0_year_0 1 rfl rfl)
theorem dX0_year_4 : decode cX0_year 4 = .ok (.bipush 99, 2) := dk_16 99 (dk_at dksX0_year_0 4 rfl rfl)
theorem dX0_year_6 : decode cX0_year 6 = .ok (.if_icmp .ne 6, 3) := dk_160 0 6 (dk_at dksX0_year_0 6 rfl rfl)
theorem dX0_year_9 : decode cX0_year 9 = .ok (.bipush (-3), 2) := dk_16 253 (dk_at dksX0_year_0 9 rfl rfl)
theorem dX0_year_11 : decode cX0_year 11 = .ok (.ireturn, 1) := dk_172 (dk_at dksX0_year_0 11 rfl rfl)
theorem dX0_year_12 : decode cX0_year 12 = .ok (.aload_n 0, 1) := dk_42 (dk_at dksX0_year_0 12 rfl rfl)
theorem dX0_year_13 : decode cX0_year 13 = .ok (.invokevirtual 357, 3) := dk_182 1 101 (dk_at dksX0_year_0 13 rfl rfl)
theorem dX0_year_16 : decode cX0_year 16 = .ok (.aload_n 0, 1) := dk_42 (dk_at dksX0_year_0 16 rfl rfl)
theorem dX0_year_17 : decode cX0_year 17 = .ok (.invokevirtual 360, 3) := dk_182 1 104 (dk_at dksX0_year_0 17 rfl rfl)
theorem dX0_year_20 : decode cX0_year 20 = .ok (.ireturn, 1) := dk_172 (dk_at dksX0_year_0 20 rfl rfl)
def dkwX0_yearOf_3 : List UInt8 := [180, 0, 66, 4, 96, 181, 0, 66, 177]
abbrev dktX0_yearOf_3 : List UInt8 := dkwX0_yearOf_3 ++ []
def dkwX0_yearOf_2 : List UInt8 := [180, 0, 79, 46, 42, 180, 0, 66, 182, 0, 102, 181, 0, 82, 132, 1, 1, 167, 255, 197, 42, 89]
abbrev dktX0_yearOf_2 : List UInt8 := dkwX0_yearOf_2 ++ dktX0_yearOf_3
def dkwX0_yearOf_1 : List UInt8 := [180, 0, 82, 42, 27, 182, 0, 98, 104, 16, 100, 108, 100, 62, 44, 44, 29, 42, 180, 0, 72, 44]
abbrev dktX0_yearOf_1 : List UInt8 := dkwX0_yearOf_1 ++ dktX0_yearOf_2
def dkwX0_yearOf_0 : List UInt8 := [3, 60, 27, 42, 180, 0, 18, 162, 0, 57, 42, 180, 0, 51, 27, 50, 77, 44, 180, 0, 82, 44]
abbrev dktX0_yearOf_0 : List UInt8 := dkwX0_yearOf_0 ++ dktX0_yearOf_1
theorem dksX0_yearOf_0 : cX0_yearOf.data.toList.drop 0 = dktX0_yearOf_0 := by decide +kernel
theorem dksX0_yearOf_1 : cX0_yearOf.data.toList.drop 22 = dktX0_yearOf_1 := dk_seg dksX0_yearOf_0 22 rfl rfl
theorem dksX0_yearOf_2 : cX0_yearOf.data.toList.drop 44 = dktX0_yearOf_2 := dk_seg dksX0_yearOf_1 22 rfl rfl
theorem dksX0_yearOf_3 : cX0_yearOf.data.toList.drop 66 = dktX0_yearOf_3 := dk_seg dksX0_yearOf_2 22 rfl rfl
theorem dX0_yearOf_0 : decode cX0_yearOf 0 = .ok (.iconst 0, 1) := dk_3 (dk_at dksX0_yearOf_0 0 rfl rfl)
theorem dX0_yearOf_1 : decode cX0_yearOf 1 = .ok (.istore_n 1, 1) := dk_60 (dk_at dksX0_yearOf_0 1 rfl rfl)
theorem dX0_yearOf_2 : decode cX0_yearOf 2 = .ok (.iload_n 1, 1) := dk_27 (dk_at dksX0_yearOf_0 2 rfl rfl)
theorem dX0_yearOf_3 : decode cX0_yearOf 3 = .ok (.aload_n 0, 1) := dk_42 (dk_at dksX0_yearOf_0 3 rfl rfl)
theorem dX0_yearOf_4 : decode cX0_yearOf 4 = .ok (.getfield 18, 3) := dk_180 0 18 (dk_at dksX0_yearOf_0 4 rfl rfl)
theorem dX0_yearOf_7 : decode cX0_yearOf 7 = .ok (.if_icmp .ge 57, 3) := dk_162 0 57 (dk_at dksX0_yearOf_0 7 rfl rfl)
theorem dX0_yearOf_10 : decode cX0_yearOf 10 = .ok (.aload_n 0, 1) := dk_42 (dk_at dksX0_yearOf_0 10 rfl rfl)
theorem dX0_yearOf_11 : decode cX0_yearOf 11 = .ok (.getfield 51, 3) := dk_180 0 51 (dk_at dksX0_yearOf_0 11 rfl rfl)
theorem dX0_yearOf_14 : decode cX0_yearOf 14 = .ok (.iload_n 1, 1) := dk_27 (dk_at dksX0_yearOf_0 14 rfl rfl)
theorem dX0_yearOf_15 : decode cX0_yearOf 15 = .ok (.aaload, 1) := dk_50 (dk_at dksX0_yearOf_0 15 rfl rfl)
theorem dX0_yearOf_16 : decode cX0_yearOf 16 = .ok (.astore_n 2, 1) := dk_77 (dk_at dksX0_yearOf_0 16 rfl rfl)
theorem dX0_yearOf_17 : decode cX0_yearOf 17 = .ok (.aload_n 2, 1) := dk_44 (dk_at dksX0_yearOf_0 17 rfl rfl)
theorem dX0_yearOf_18 : decode cX0_yearOf 18 = .ok (.getfield 82, 3) := dk_180 0 82 (dk_at dksX0_yearOf_0 18 rfl rfl)
theorem dX0_yearOf_21 : decode cX0_yearOf 21 = .ok (.aload_n 2, 1) := dk_44 (dk_at dksX0_yearOf_0 21 rfl rfl)
theorem dX0_yearOf_22 : decode cX0_yearOf 22 = .ok (.getfield 82, 3) := dk_180 0 82 (dk_at dksX0_yearOf_1 0 rfl rfl)
theorem dX0_yearOf_25 : decode cX0_yearOf 25 = .ok (.aload_n 0, 1) := dk_42 (dk_at dksX0_yearOf_1 3 rfl rfl)
theorem dX0_yearOf_26 : decode cX0_yearOf 26 = .ok (.iload_n 1, 1) := dk_27 (dk_at dksX0_yearOf_1 4 rfl rfl)
theorem dX0_yearOf_27 : decode cX0_yearOf 27 = .ok (.invokevirtual 98, 3) := dk_182 0 98 (dk_at dksX0_yearOf_1 5 rfl rfl)
theorem dX0_yearOf_30 : decode cX0_yearOf 30 = .ok (.imul, 1) := dk_104 (dk_at dksX0_yearOf_1 8 rfl rfl)
theorem dX0_yearOf_31 : decode cX0_yearOf 31 = .ok (.bipush 100, 2) := dk_16 100 (dk_at dksX0_yearOf_1 9 rfl rfl)
theorem dX0_yearOf_33 : decode cX0_yearOf 33 = .ok (.idiv, 1) := dk_108 (dk_at dksX0_yearOf_1 11 rfl rfl)
theorem dX0_yearOf_34 : decode cX0_yearOf 34 = .ok (.isub, 1) := dk_100 (dk_at dksX0_yearOf_1 12 rfl rfl)
theorem dX0_yearOf_35 : decode cX0_yearOf 35 = .ok (.istore_n 3, 1) := dk_62 (dk_at dksX0_yearOf_1 13 rfl rfl)
theorem dX0_yearOf_36 : decode cX0_yearOf 36 = .ok (.aload_n 2, 1) := dk_44 (dk_at dksX0_yearOf_1 14 rfl rfl)
theorem dX0_yearOf_37 : decode cX0_yearOf 37 = .ok (.aload_n 2, 1) := dk_44 (dk_at dksX0_yearOf_1 15 rfl rfl)
theorem dX0_yearOf_38 : decode cX0_yearOf 38 = .ok (.iload_n 3, 1) := dk_29 (dk_at dksX0_yearOf_1 16 rfl rfl)
theorem dX0_yearOf_39 : decode cX0_yearOf 39 = .ok (.aload_n 0, 1) := dk_42 (dk_at dksX0_yearOf_1 17 rfl rfl)
theorem dX0_yearOf_40 : decode cX0_yearOf 40 = .ok (.getfield 72, 3) := dk_180 0 72 (dk_at dksX0_yearOf_1 18 rfl rfl)
theorem dX0_yearOf_43 : decode cX0_yearOf 43 = .ok (.aload_n 2, 1) := dk_44 (dk_at dksX0_yearOf_1 21 rfl rfl)
theorem dX0_yearOf_44 : decode cX0_yearOf 44 = .ok (.getfield 79, 3) := dk_180 0 79 (dk_at dksX0_yearOf_2 0 rfl rfl)
theorem dX0_yearOf_47 : decode cX0_yearOf 47 = .ok (.iaload, 1) := dk_46 (dk_at dksX0_yearOf_2 3 rfl rfl)
theorem dX0_yearOf_48 : decode cX0_yearOf 48 = .ok (.aload_n 0, 1) := dk_42 (dk_at dksX0_yearOf_2 4 rfl rfl)
theorem dX0_yearOf_49 : decode cX0_yearOf 49 = .ok (.getfield 66, 3) := dk_180 0 66 (dk_at dksX0_yearOf_2 5 rfl rfl)
theorem dX0_yearOf_52 : decode cX0_yearOf 52 = .ok (.invokevirtual 102, 3) := dk_182 0 102 (dk_at dksX0_yearOf_2 8 rfl rfl)
theorem dX0_yearOf_55 : decode cX0_yearOf 55 = .ok (.putfield 82, 3) := dk_181 0 82 (dk_at dksX0_yearOf_2 11 rfl rfl)
theorem dX0_yearOf_58 : decode cX0_yearOf 58 = .ok (.iinc 1 1, 3) := dk_132 1 1 (dk_at dksX0_yearOf_2 14 rfl rfl)
theorem dX0_yearOf_61 : decode cX0_yearOf 61 = .ok (.goto (-59), 3) := dk_167 255 197 (dk_at dksX0_yearOf_2 17 rfl rfl)
theorem dX0_yearOf_64 : decode cX0_yearOf 64 = .ok (.aload_n 0, 1) := dk_42 (dk_at dksX0_yearOf_2 20 rfl rfl)
theorem dX0_yearOf_65 : decode cX0_yearOf 65 = .ok (.dup, 1) := dk_89 (dk_at dksX0_yearOf_2 21 rfl rfl)
theorem dX0_yearOf_66 : decode cX0_yearOf 66 = .ok (.getfield 66, 3) := dk_180 0 66 (dk_at dksX0_yearOf_3 0 rfl rfl)
theorem dX0_yearOf_69 : decode cX0_yearOf 69 = .ok (.iconst 1, 1) := dk_4 (dk_at dksX0_yearOf_3 3 rfl rfl)
theorem dX0_yearOf_70 : decode cX0_yearOf 70 = .ok (.iadd, 1) := dk_96 (dk_at dksX0_yearOf_3 4 rfl rfl)
theorem dX0_yearOf_71 : decode cX0_yearOf 71 = .ok (.putfield 66, 3) := dk_181 0 66 (dk_at dksX0_yearOf_3 5 rfl rfl)
theorem dX0_yearOf_74 : decode cX0_yearOf 74 = .ok (.return_, 1) := dk_177 (dk_at dksX0_yearOf_3 8 rfl rfl)
def dkwX0_all_1 : List UInt8 := [132, 2, 1, 167, 255, 233, 27, 172]
abbrev dktX0_all_1 : List UInt8 := dkwX0_all_1 ++ []
def dkwX0_all_0 : List UInt8 := [3, 60, 3, 61, 28, 42, 180, 0, 18, 162, 0, 21, 27, 42, 180, 0, 51, 28, 50, 180, 0, 82, 96, 60]
abbrev dktX0_all_0 : List UInt8 := dkwX0_all_0 ++ dktX0_all_1
theorem dksX0_all_0 : cX0_all.data.toList.drop 0 = dktX0_all_0 := by decide +kernel
theorem dksX0_all_1 : cX0_all.data.toList.drop 24 = dktX0_all_1 := dk_seg dksX0_all_0 24 rfl rfl
theorem dX0_all_0 : decode cX0_all 0 = .ok (.iconst 0, 1) := dk_3 (dk_at dksX0_all_0 0 rfl rfl)
theorem dX0_all_1 : decode cX0_all 1 = .ok (.istore_n 1, 1) := dk_60 (dk_at dksX0_all_0 1 rfl rfl)
theorem dX0_all_2 : decode cX0_all 2 = .ok (.iconst 0, 1) := dk_3 (dk_at dksX0_all_0 2 rfl rfl)
theorem dX0_all_3 : decode cX0_all 3 = .ok (.istore_n 2, 1) := dk_61 (dk_at dksX0_all_0 3 rfl rfl)
theorem dX0_all_4 : decode cX0_all 4 = .ok (.iload_n 2, 1) := dk_28 (dk_at dksX0_all_0 4 rfl rfl)
theorem dX0_all_5 : decode cX0_all 5 = .ok (.aload_n 0, 1) := dk_42 (dk_at dksX0_all_0 5 rfl rfl)
theorem dX0_all_6 : decode cX0_all 6 = .ok (.getfield 18, 3) := dk_180 0 18 (dk_at dksX0_all_0 6 rfl rfl)
theorem dX0_all_9 : decode cX0_all 9 = .ok (.if_icmp .ge 21, 3) := dk_162 0 21 (dk_at dksX0_all_0 9 rfl rfl)
theorem dX0_all_12 : decode cX0_all 12 = .ok (.iload_n 1, 1) := dk_27 (dk_at dksX0_all_0 12 rfl rfl)
theorem dX0_all_13 : decode cX0_all 13 = .ok (.aload_n 0, 1) := dk_42 (dk_at dksX0_all_0 13 rfl rfl)
theorem dX0_all_14 : decode cX0_all 14 = .ok (.getfield 51, 3) := dk_180 0 51 (dk_at dksX0_all_0 14 rfl rfl)
theorem dX0_all_17 : decode cX0_all 17 = .ok (.iload_n 2, 1) := dk_28 (dk_at dksX0_all_0 17 rfl rfl)
theorem dX0_all_18 : decode cX0_all 18 = .ok (.aaload, 1) := dk_50 (dk_at dksX0_all_0 18 rfl rfl)
theorem dX0_all_19 : decode cX0_all 19 = .ok (.getfield 82, 3) := dk_180 0 82 (dk_at dksX0_all_0 19 rfl rfl)
theorem dX0_all_22 : decode cX0_all 22 = .ok (.iadd, 1) := dk_96 (dk_at dksX0_all_0 22 rfl rfl)
theorem dX0_all_23 : decode cX0_all 23 = .ok (.istore_n 1, 1) := dk_60 (dk_at dksX0_all_0 23 rfl rfl)
theorem dX0_all_24 : decode cX0_all 24 = .ok (.iinc 2 1, 3) := dk_132 2 1 (dk_at dksX0_all_1 0 rfl rfl)
theorem dX0_all_27 : decode cX0_all 27 = .ok (.goto (-23), 3) := dk_167 255 233 (dk_at dksX0_all_1 3 rfl rfl)
theorem dX0_all_30 : decode cX0_all 30 = .ok (.iload_n 1, 1) := dk_27 (dk_at dksX0_all_1 6 rfl rfl)
theorem dX0_all_31 : decode cX0_all 31 = .ok (.ireturn, 1) := dk_172 (dk_at dksX0_all_1 7 rfl rfl)
def dkwX0_run_3 : List UInt8 := [42, 180, 1, 42, 27, 50, 28, 16, 10, 112, 46, 167, 0, 12, 42, 180, 1, 51, 28, 16, 10, 112, 46, 172]
abbrev dktX0_run_3 : List UInt8 := dkwX0_run_3 ++ []
def dkwX0_run_2 : List UInt8 := [27, 182, 1, 126, 28, 7, 162, 0, 12, 42, 27, 28, 182, 1, 129, 167, 0, 32, 28, 16, 20, 162, 0, 17]
abbrev dktX0_run_2 : List UInt8 := dkwX0_run_2 ++ dktX0_run_3
def dkwX0_run_1 : List UInt8 := [20, 1, 124, 184, 0, 14, 153, 0, 14, 42, 28, 16, 10, 112, 182, 0, 61, 154, 0, 6, 16, 254, 172, 42]
abbrev dktX0_run_1 : List UInt8 := dkwX0_run_1 ++ dktX0_run_2
def dkwX0_run_0 : List UInt8 := [27, 184, 1, 121, 153, 0, 40, 28, 133, 9, 20, 0, 112, 184, 0, 14, 154, 0, 31, 28, 133, 20, 0, 114]
abbrev dktX0_run_0 : List UInt8 := dkwX0_run_0 ++ dktX0_run_1
theorem dksX0_run_0 : cX0_run.data.toList.drop 0 = dktX0_run_0 := by decide +kernel
theorem dksX0_run_1 : cX0_run.data.toList.drop 24 = dktX0_run_1 := dk_seg dksX0_run_0 24 rfl rfl
theorem dksX0_run_2 : cX0_run.data.toList.drop 48 = dktX0_run_2 := dk_seg dksX0_run_1 24 rfl rfl
theorem dksX0_run_3 : cX0_run.data.toList.drop 72 = dktX0_run_3 := dk_seg dksX0_run_2 24 rfl rfl
theorem dX0_run_0 : decode cX0_run 0 = .ok (.iload_n 1, 1) := dk_27 (dk_at dksX0_run_0 0 rfl rfl)
theorem dX0_run_1 : decode cX0_run 1 = .ok (.invokestatic 377, 3) := dk_184 1 121 (dk_at dksX0_run_0 1 rfl rfl)
theorem dX0_run_4 : decode cX0_run 4 = .ok (.ifCond .eq 40, 3) := dk_153 0 40 (dk_at dksX0_run_0 4 rfl rfl)
theorem dX0_run_7 : decode cX0_run 7 = .ok (.iload_n 2, 1) := dk_28 (dk_at dksX0_run_0 7 rfl rfl)
theorem dX0_run_8 : decode cX0_run 8 = .ok (.i2l, 1) := dk_133 (dk_at dksX0_run_0 8 rfl rfl)
theorem dX0_run_9 : decode cX0_run 9 = .ok (.lconst 0, 1) := dk_9 (dk_at dksX0_run_0 9 rfl rfl)
theorem dX0_run_10 : decode cX0_run 10 = .ok (.ldc2_w 112, 3) := dk_20 0 112 (dk_at dksX0_run_0 10 rfl rfl)
theorem dX0_run_13 : decode cX0_run 13 = .ok (.invokestatic 14, 3) := dk_184 0 14 (dk_at dksX0_run_0 13 rfl rfl)
theorem dX0_run_16 : decode cX0_run 16 = .ok (.ifCond .ne 31, 3) := dk_154 0 31 (dk_at dksX0_run_0 16 rfl rfl)
theorem dX0_run_19 : decode cX0_run 19 = .ok (.iload_n 2, 1) := dk_28 (dk_at dksX0_run_0 19 rfl rfl)
theorem dX0_run_20 : decode cX0_run 20 = .ok (.i2l, 1) := dk_133 (dk_at dksX0_run_0 20 rfl rfl)
theorem dX0_run_21 : decode cX0_run 21 = .ok (.ldc2_w 114, 3) := dk_20 0 114 (dk_at dksX0_run_0 21 rfl rfl)
theorem dX0_run_24 : decode cX0_run 24 = .ok (.ldc2_w 380, 3) := dk_20 1 124 (dk_at dksX0_run_1 0 rfl rfl)
theorem dX0_run_27 : decode cX0_run 27 = .ok (.invokestatic 14, 3) := dk_184 0 14 (dk_at dksX0_run_1 3 rfl rfl)
theorem dX0_run_30 : decode cX0_run 30 = .ok (.ifCond .eq 14, 3) := dk_153 0 14 (dk_at dksX0_run_1 6 rfl rfl)
theorem dX0_run_33 : decode cX0_run 33 = .ok (.aload_n 0, 1) := dk_42 (dk_at dksX0_run_1 9 rfl rfl)
theorem dX0_run_34 : decode cX0_run 34 = .ok (.iload_n 2, 1) := dk_28 (dk_at dksX0_run_1 10 rfl rfl)
theorem dX0_run_35 : decode cX0_run 35 = .ok (.bipush 10, 2) := dk_16 10 (dk_at dksX0_run_1 11 rfl rfl)
theorem dX0_run_37 : decode cX0_run 37 = .ok (.irem, 1) := dk_112 (dk_at dksX0_run_1 13 rfl rfl)
theorem dX0_run_38 : decode cX0_run 38 = .ok (.invokevirtual 61, 3) := dk_182 0 61 (dk_at dksX0_run_1 14 rfl rfl)
theorem dX0_run_41 : decode cX0_run 41 = .ok (.ifCond .ne 6, 3) := dk_154 0 6 (dk_at dksX0_run_1 17 rfl rfl)
theorem dX0_run_44 : decode cX0_run 44 = .ok (.bipush (-2), 2) := dk_16 254 (dk_at dksX0_run_1 20 rfl rfl)
theorem dX0_run_46 : decode cX0_run 46 = .ok (.ireturn, 1) := dk_172 (dk_at dksX0_run_1 22 rfl rfl)
theorem dX0_run_47 : decode cX0_run 47 = .ok (.aload_n 0, 1) := dk_42 (dk_at dksX0_run_1 23 rfl rfl)
theorem dX0_run_48 : decode cX0_run 48 = .ok (.iload_n 1, 1) := dk_27 (dk_at dksX0_run_2 0 rfl rfl)
theorem dX0_run_49 : decode cX0_run 49 = .ok (.invokevirtual 382, 3) := dk_182 1 126 (dk_at dksX0_run_2 1 rfl rfl)
theorem dX0_run_52 : decode cX0_run 52 = .ok (.iload_n 2, 1) := dk_28 (dk_at dksX0_run_2 4 rfl rfl)
theorem dX0_run_53 : decode cX0_run 53 = .ok (.iconst 4, 1) := dk_7 (dk_at dksX0_run_2 5 rfl rfl)
theorem dX0_run_54 : decode cX0_run 54 = .ok (.if_icmp .ge 12, 3) := dk_162 0 12 (dk_at dksX0_run_2 6 rfl rfl)
theorem dX0_run_57 : decode cX0_run 57 = .ok (.aload_n 0, 1) := dk_42 (dk_at dksX0_run_2 9 rfl rfl)
theorem dX0_run_58 : decode cX0_run 58 = .ok (.iload_n 1, 1) := dk_27 (dk_at dksX0_run_2 10 rfl rfl)
theorem dX0_run_59 : decode cX0_run 59 = .ok (.iload_n 2, 1) := dk_28 (dk_at dksX0_run_2 11 rfl rfl)
theorem dX0_run_60 : decode cX0_run 60 = .ok (.invokevirtual 385, 3) := dk_182 1 129 (dk_at dksX0_run_2 12 rfl rfl)
theorem dX0_run_63 : decode cX0_run 63 = .ok (.goto 32, 3) := dk_167 0 32 (dk_at dksX0_run_2 15 rfl rfl)
theorem dX0_run_66 : decode cX0_run 66 = .ok (.iload_n 2, 1) := dk_28 (dk_at dksX0_run_2 18 rfl rfl)
theorem dX0_run_67 : decode cX0_run 67 = .ok (.bipush 20, 2) := dk_16 20 (dk_at dksX0_run_2 19 rfl rfl)
theorem dX0_run_69 : decode cX0_run 69 = .ok (.if_icmp .ge 17, 3) := dk_162 0 17 (dk_at dksX0_run_2 21 rfl rfl)
theorem dX0_run_72 : decode cX0_run 72 = .ok (.aload_n 0, 1) := dk_42 (dk_at dksX0_run_3 0 rfl rfl)
theorem dX0_run_73 : decode cX0_run 73 = .ok (.getfield 298, 3) := dk_180 1 42 (dk_at dksX0_run_3 1 rfl rfl)
theorem dX0_run_76 : decode cX0_run 76 = .ok (.iload_n 1, 1) := dk_27 (dk_at dksX0_run_3 4 rfl rfl)
theorem dX0_run_77 : decode cX0_run 77 = .ok (.aaload, 1) := dk_50 (dk_at dksX0_run_3 5 rfl rfl)
theorem dX0_run_78 : decode cX0_run 78 = .ok (.iload_n 2, 1) := dk_28 (dk_at dksX0_run_3 6 rfl rfl)
theorem dX0_run_79 : decode cX0_run 79 = .ok (.bipush 10, 2) := dk_16 10 (dk_at dksX0_run_3 7 rfl rfl)
theorem dX0_run_81 : decode cX0_run 81 = .ok (.irem, 1) := dk_112 (dk_at dksX0_run_3 9 rfl rfl)
theorem dX0_run_82 : decode cX0_run 82 = .ok (.iaload, 1) := dk_46 (dk_at dksX0_run_3 10 rfl rfl)
theorem dX0_run_83 : decode cX0_run 83 = .ok (.goto 12, 3) := dk_167 0 12 (dk_at dksX0_run_3 11 rfl rfl)
theorem dX0_run_86 : decode cX0_run 86 = .ok (.aload_n 0, 1) := dk_42 (dk_at dksX0_run_3 14 rfl rfl)
theorem dX0_run_87 : decode cX0_run 87 = .ok (.getfield 307, 3) := dk_180 1 51 (dk_at dksX0_run_3 15 rfl rfl)
theorem dX0_run_90 : decode cX0_run 90 = .ok (.iload_n 2, 1) := dk_28 (dk_at dksX0_run_3 18 rfl rfl)
theorem dX0_run_91 : decode cX0_run 91 = .ok (.bipush 10, 2) := dk_16 10 (dk_at dksX0_run_3 19 rfl rfl)
theorem dX0_run_93 : decode cX0_run 93 = .ok (.irem, 1) := dk_112 (dk_at dksX0_run_3 21 rfl rfl)
theorem dX0_run_94 : decode cX0_run 94 = .ok (.iaload, 1) := dk_46 (dk_at dksX0_run_3 22 rfl rfl)
theorem dX0_run_95 : decode cX0_run 95 = .ok (.ireturn, 1) := dk_172 (dk_at dksX0_run_3 23 rfl rfl)
def dkwX0_areYears_0 : List UInt8 := [26, 133, 9, 20, 1, 119, 184, 0, 14, 172]
abbrev dktX0_areYears_0 : List UInt8 := dkwX0_areYears_0 ++ []
theorem dksX0_areYears_0 : cX0_areYears.data.toList.drop 0 = dktX0_areYears_0 := by decide +kernel
theorem dX0_areYears_0 : decode cX0_areYears 0 = .ok (.iload_n 0, 1) := dk_26 (dk_at dksX0_areYears_0 0 rfl rfl)
theorem dX0_areYears_1 : decode cX0_areYears 1 = .ok (.i2l, 1) := dk_133 (dk_at dksX0_areYears_0 1 rfl rfl)
theorem dX0_areYears_2 : decode cX0_areYears 2 = .ok (.lconst 0, 1) := dk_9 (dk_at dksX0_areYears_0 2 rfl rfl)
theorem dX0_areYears_3 : decode cX0_areYears 3 = .ok (.ldc2_w 375, 3) := dk_20 1 119 (dk_at dksX0_areYears_0 3 rfl rfl)
theorem dX0_areYears_6 : decode cX0_areYears 6 = .ok (.invokestatic 14, 3) := dk_184 0 14 (dk_at dksX0_areYears_0 6 rfl rfl)
theorem dX0_areYears_9 : decode cX0_areYears 9 = .ok (.ireturn, 1) := dk_172 (dk_at dksX0_areYears_0 9 rfl rfl)
def dkwX0_runs_2 : List UInt8 := [42, 28, 182, 1, 116, 25, 4, 191, 177]
abbrev dktX0_runs_2 : List UInt8 := dkwX0_runs_2 ++ []
def dkwX0_runs_1 : List UInt8 := [182, 1, 101, 42, 29, 182, 1, 113, 132, 3, 1, 167, 255, 239, 42, 28, 182, 1, 116, 167, 0, 13, 58, 4]
abbrev dktX0_runs_1 : List UInt8 := dkwX0_runs_1 ++ dktX0_runs_2
def dkwX0_runs_0 : List UInt8 := [42, 180, 0, 66, 61, 42, 182, 1, 110, 42, 3, 182, 1, 113, 4, 62, 29, 27, 163, 0, 18, 42]
abbrev dktX0_runs_0 : List UInt8 := dkwX0_runs_0 ++ dktX0_runs_1
theorem dksX0_runs_0 : cX0_runs.data.toList.drop 0 = dktX0_runs_0 := by decide +kernel
theorem dksX0_runs_1 : cX0_runs.data.toList.drop 22 = dktX0_runs_1 := dk_seg dksX0_runs_0 22 rfl rfl
theorem dksX0_runs_2 : cX0_runs.data.toList.drop 46 = dktX0_runs_2 := dk_seg dksX0_runs_1 24 rfl rfl
theorem dX0_runs_0 : decode cX0_runs 0 = .ok (.aload_n 0, 1) := dk_42 (dk_at dksX0_runs_0 0 rfl rfl)
theorem dX0_runs_1 : decode cX0_runs 1 = .ok (.getfield 66, 3) := dk_180 0 66 (dk_at dksX0_runs_0 1 rfl rfl)
theorem dX0_runs_4 : decode cX0_runs 4 = .ok (.istore_n 2, 1) := dk_61 (dk_at dksX0_runs_0 4 rfl rfl)
theorem dX0_runs_5 : decode cX0_runs 5 = .ok (.aload_n 0, 1) := dk_42 (dk_at dksX0_runs_0 5 rfl rfl)
theorem dX0_runs_6 : decode cX0_runs 6 = .ok (.invokevirtual 366, 3) := dk_182 1 110 (dk_at dksX0_runs_0 6 rfl rfl)
theorem dX0_runs_9 : decode cX0_runs 9 = .ok (.aload_n 0, 1) := dk_42 (dk_at dksX0_runs_0 9 rfl rfl)
theorem dX0_runs_10 : decode cX0_runs 10 = .ok (.iconst 0, 1) := dk_3 (dk_at dksX0_runs_0 10 rfl rfl)
theorem dX0_runs_11 : decode cX0_runs 11 = .ok (.invokevirtual 369, 3) := dk_182 1 113 (dk_at dksX0_runs_0 11 rfl rfl)
theorem dX0_runs_14 : decode cX0_runs 14 = .ok (.iconst 1, 1) := dk_4 (dk_at dksX0_runs_0 14 rfl rfl)
theorem dX0_runs_15 : decode cX0_runs 15 = .ok (.istore_n 3, 1) := dk_62 (dk_at dksX0_runs_0 15 rfl rfl)
theorem dX0_runs_16 : decode cX0_runs 16 = .ok (.iload_n 3, 1) := dk_29 (dk_at dksX0_runs_0 16 rfl rfl)
theorem dX0_runs_17 : decode cX0_runs 17 = .ok (.iload_n 1, 1) := dk_27 (dk_at dksX0_runs_0 17 rfl rfl)
theorem dX0_runs_18 : decode cX0_runs 18 = .ok (.if_icmp .gt 18, 3) := dk_163 0 18 (dk_at dksX0_runs_0 18 rfl rfl)
theorem dX0_runs_21 : decode cX0_runs 21 = .ok (.aload_n 0, 1) := dk_42 (dk_at dksX0_runs_0 21 rfl rfl)
theorem dX0_runs_22 : decode cX0_runs 22 = .ok (.invokevirtual 357, 3) := dk_182 1 101 (dk_at dksX0_runs_1 0 rfl rfl)
theorem dX0_runs_25 : decode cX0_runs 25 = .ok (.aload_n 0, 1) := dk_42 (dk_at dksX0_runs_1 3 rfl rfl)
theorem dX0_runs_26 : decode cX0_runs 26 = .ok (.iload_n 3, 1) := dk_29 (dk_at dksX0_runs_1 4 rfl rfl)
theorem dX0_runs_27 : decode cX0_runs 27 = .ok (.invokevirtual 369, 3) := dk_182 1 113 (dk_at dksX0_runs_1 5 rfl rfl)
theorem dX0_runs_30 : decode cX0_runs 30 = .ok (.iinc 3 1, 3) := dk_132 3 1 (dk_at dksX0_runs_1 8 rfl rfl)
theorem dX0_runs_33 : decode cX0_runs 33 = .ok (.goto (-17), 3) := dk_167 255 239 (dk_at dksX0_runs_1 11 rfl rfl)
theorem dX0_runs_36 : decode cX0_runs 36 = .ok (.aload_n 0, 1) := dk_42 (dk_at dksX0_runs_1 14 rfl rfl)
theorem dX0_runs_37 : decode cX0_runs 37 = .ok (.iload_n 2, 1) := dk_28 (dk_at dksX0_runs_1 15 rfl rfl)
theorem dX0_runs_38 : decode cX0_runs 38 = .ok (.invokevirtual 372, 3) := dk_182 1 116 (dk_at dksX0_runs_1 16 rfl rfl)
theorem dX0_runs_41 : decode cX0_runs 41 = .ok (.goto 13, 3) := dk_167 0 13 (dk_at dksX0_runs_1 19 rfl rfl)
theorem dX0_runs_44 : decode cX0_runs 44 = .ok (.astore 4, 2) := dk_58 4 (dk_at dksX0_runs_1 22 rfl rfl)
theorem dX0_runs_46 : decode cX0_runs 46 = .ok (.aload_n 0, 1) := dk_42 (dk_at dksX0_runs_2 0 rfl rfl)
theorem dX0_runs_47 : decode cX0_runs 47 = .ok (.iload_n 2, 1) := dk_28 (dk_at dksX0_runs_2 1 rfl rfl)
theorem dX0_runs_48 : decode cX0_runs 48 = .ok (.invokevirtual 372, 3) := dk_182 1 116 (dk_at dksX0_runs_2 2 rfl rfl)
theorem dX0_runs_51 : decode cX0_runs 51 = .ok (.aload 4, 2) := dk_25 4 (dk_at dksX0_runs_2 5 rfl rfl)
theorem dX0_runs_53 : decode cX0_runs 53 = .ok (.athrow, 1) := dk_191 (dk_at dksX0_runs_2 7 rfl rfl)
theorem dX0_runs_54 : decode cX0_runs 54 = .ok (.return_, 1) := dk_177 (dk_at dksX0_runs_2 8 rfl rfl)
def dkwX0_keeps_1 : List UInt8 := [79, 132, 1, 1, 167, 255, 230, 177]
abbrev dktX0_keeps_1 : List UInt8 := dkwX0_keeps_1 ++ []
def dkwX0_keeps_0 : List UInt8 := [3, 60, 27, 42, 180, 0, 18, 162, 0, 24, 42, 180, 1, 37, 27, 42, 180, 0, 51, 27, 50, 180, 0, 82]
abbrev dktX0_keeps_0 : List UInt8 := dkwX0_keeps_0 ++ dktX0_keeps_1
theorem dksX0_keeps_0 : cX0_keeps.data.toList.drop 0 = dktX0_keeps_0 := by decide +kernel
theorem dksX0_keeps_1 : cX0_keeps.data.toList.drop 24 = dktX0_keeps_1 := dk_seg dksX0_keeps_0 24 rfl rfl
theorem dX0_keeps_0 : decode cX0_keeps 0 = .ok (.iconst 0, 1) := dk_3 (dk_at dksX0_keeps_0 0 rfl rfl)
theorem dX0_keeps_1 : decode cX0_keeps 1 = .ok (.istore_n 1, 1) := dk_60 (dk_at dksX0_keeps_0 1 rfl rfl)
theorem dX0_keeps_2 : decode cX0_keeps 2 = .ok (.iload_n 1, 1) := dk_27 (dk_at dksX0_keeps_0 2 rfl rfl)
theorem dX0_keeps_3 : decode cX0_keeps 3 = .ok (.aload_n 0, 1) := dk_42 (dk_at dksX0_keeps_0 3 rfl rfl)
theorem dX0_keeps_4 : decode cX0_keeps 4 = .ok (.getfield 18, 3) := dk_180 0 18 (dk_at dksX0_keeps_0 4 rfl rfl)
theorem dX0_keeps_7 : decode cX0_keeps 7 = .ok (.if_icmp .ge 24, 3) := dk_162 0 24 (dk_at dksX0_keeps_0 7 rfl rfl)
theorem dX0_keeps_10 : decode cX0_keeps 10 = .ok (.aload_n 0, 1) := dk_42 (dk_at dksX0_keeps_0 10 rfl rfl)
theorem dX0_keeps_11 : decode cX0_keeps 11 = .ok (.getfield 293, 3) := dk_180 1 37 (dk_at dksX0_keeps_0 11 rfl rfl)
theorem dX0_keeps_14 : decode cX0_keeps 14 = .ok (.iload_n 1, 1) := dk_27 (dk_at dksX0_keeps_0 14 rfl rfl)
theorem dX0_keeps_15 : decode cX0_keeps 15 = .ok (.aload_n 0, 1) := dk_42 (dk_at dksX0_keeps_0 15 rfl rfl)
theorem dX0_keeps_16 : decode cX0_keeps 16 = .ok (.getfield 51, 3) := dk_180 0 51 (dk_at dksX0_keeps_0 16 rfl rfl)
theorem dX0_keeps_19 : decode cX0_keeps 19 = .ok (.iload_n 1, 1) := dk_27 (dk_at dksX0_keeps_0 19 rfl rfl)
theorem dX0_keeps_20 : decode cX0_keeps 20 = .ok (.aaload, 1) := dk_50 (dk_at dksX0_keeps_0 20 rfl rfl)
theorem dX0_keeps_21 : decode cX0_keeps 21 = .ok (.getfield 82, 3) := dk_180 0 82 (dk_at dksX0_keeps_0 21 rfl rfl)
theorem dX0_keeps_24 : decode cX0_keeps 24 = .ok (.iastore, 1) := dk_79 (dk_at dksX0_keeps_1 0 rfl rfl)
theorem dX0_keeps_25 : decode cX0_keeps 25 = .ok (.iinc 1 1, 3) := dk_132 1 1 (dk_at dksX0_keeps_1 1 rfl rfl)
theorem dX0_keeps_28 : decode cX0_keeps 28 = .ok (.goto (-26), 3) := dk_167 255 230 (dk_at dksX0_keeps_1 4 rfl rfl)
theorem dX0_keeps_31 : decode cX0_keeps 31 = .ok (.return_, 1) := dk_177 (dk_at dksX0_keeps_1 7 rfl rfl)
def dkwX0_tellsBehind_3 : List UInt8 := [79, 132, 2, 1, 167, 255, 199, 177]
abbrev dktX0_tellsBehind_3 : List UInt8 := dkwX0_tellsBehind_3 ++ []
def dkwX0_tellsBehind_2 : List UInt8 := [27, 92, 46, 42, 28, 182, 1, 94, 96, 79, 42, 180, 1, 51, 28, 42, 180, 0, 51, 28, 50, 182, 0, 106]
abbrev dktX0_tellsBehind_2 : List UInt8 := dkwX0_tellsBehind_2 ++ dktX0_tellsBehind_3
def dkwX0_tellsBehind_1 : List UInt8 := [162, 0, 55, 42, 180, 1, 42, 27, 50, 28, 42, 180, 0, 51, 28, 50, 180, 0, 82, 79, 42, 180, 1, 48]
abbrev dktX0_tellsBehind_1 : List UInt8 := dkwX0_tellsBehind_1 ++ dktX0_tellsBehind_2
def dkwX0_tellsBehind_0 : List UInt8 := [42, 180, 1, 45, 27, 42, 182, 1, 107, 79, 42, 180, 1, 48, 27, 3, 79, 3, 61, 28, 42, 180, 0, 18]
abbrev dktX0_tellsBehind_0 : List UInt8 := dkwX0_tellsBehind_0 ++ dktX0_tellsBehind_1
theorem dksX0_tellsBehind_0 : cX0_tellsBehind.data.toList.drop 0 = dktX0_tellsBehind_0 := by decide +kernel
theorem dksX0_tellsBehind_1 : cX0_tellsBehind.data.toList.drop 24 = dktX0_tellsBehind_1 := dk_seg dksX0_tellsBehind_0 24 rfl rfl
theorem dksX0_tellsBehind_2 : cX0_tellsBehind.data.toList.drop 48 = dktX0_tellsBehind_2 := dk_seg dksX0_tellsBehind_1 24 rfl rfl
theorem dksX0_tellsBehind_3 : cX0_tellsBehind.data.toList.drop 72 = dktX0_tellsBehind_3 := dk_seg dksX0_tellsBehind_2 24 rfl rfl
theorem dX0_tellsBehind_0 : decode cX0_tellsBehind 0 = .ok (.aload_n 0, 1) := dk_42 (dk_at dksX0_tellsBehind_0 0 rfl rfl)
theorem dX0_tellsBehind_1 : decode cX0_tellsBehind 1 = .ok (.getfield 301, 3) := dk_180 1 45 (dk_at dksX0_tellsBehind_0 1 rfl rfl)
theorem dX0_tellsBehind_4 : decode cX0_tellsBehind 4 = .ok (.iload_n 1, 1) := dk_27 (dk_at dksX0_tellsBehind_0 4 rfl rfl)
theorem dX0_tellsBehind_5 : decode cX0_tellsBehind 5 = .ok (.aload_n 0, 1) := dk_42 (dk_at dksX0_tellsBehind_0 5 rfl rfl)
theorem dX0_tellsBehind_6 : decode cX0_tellsBehind 6 = .ok (.invokevirtual 363, 3) := dk_182 1 107 (dk_at dksX0_tellsBehind_0 6 rfl rfl)
theorem dX0_tellsBehind_9 : decode cX0_tellsBehind 9 = .ok (.iastore, 1) := dk_79 (dk_at dksX0_tellsBehind_0 9 rfl rfl)
theorem dX0_tellsBehind_10 : decode cX0_tellsBehind 10 = .ok (.aload_n 0, 1) := dk_42 (dk_at dksX0_tellsBehind_0 10 rfl rfl)
theorem dX0_tellsBehind_11 : decode cX0_tellsBehind 11 = .ok (.getfield 304, 3) := dk_180 1 48 (dk_at dksX0_tellsBehind_0 11 rfl rfl)
theorem dX0_tellsBehind_14 : decode cX0_tellsBehind 14 = .ok (.iload_n 1, 1) := dk_27 (dk_at dksX0_tellsBehind_0 14 rfl rfl)
theorem dX0_tellsBehind_15 : decode cX0_tellsBehind 15 = .ok (.iconst 0, 1) := dk_3 (dk_at dksX0_tellsBehind_0 15 rfl rfl)
theorem dX0_tellsBehind_16 : decode cX0_tellsBehind 16 = .ok (.iastore, 1) := dk_79 (dk_at dksX0_tellsBehind_0 16 rfl rfl)
theorem dX0_tellsBehind_17 : decode cX0_tellsBehind 17 = .ok (.iconst 0, 1) := dk_3 (dk_at dksX0_tellsBehind_0 17 rfl rfl)
theorem dX0_tellsBehind_18 : decode cX0_tellsBehind 18 = .ok (.istore_n 2, 1) := dk_61 (dk_at dksX0_tellsBehind_0 18 rfl rfl)
theorem dX0_tellsBehind_19 : decode cX0_tellsBehind 19 = .ok (.iload_n 2, 1) := dk_28 (dk_at dksX0_tellsBehind_0 19 rfl rfl)
theorem dX0_tellsBehind_20 : decode cX0_tellsBehind 20 = .ok (.aload_n 0, 1) := dk_42 (dk_at dksX0_tellsBehind_0 20 rfl rfl)
theorem dX0_tellsBehind_21 : decode cX0_tellsBehind 21 = .ok (.getfield 18, 3) := dk_180 0 18 (dk_at dksX0_tellsBehind_0 21 rfl rfl)
theorem dX0_tellsBehind_24 : decode cX0_tellsBehind 24 = .ok (.if_icmp .ge 55, 3) := dk_162 0 55 (dk_at dksX0_tellsBehind_1 0 rfl rfl)
theorem dX0_tellsBehind_27 : decode cX0_tellsBehind 27 = .ok (.aload_n 0, 1) := dk_42 (dk_at dksX0_tellsBehind_1 3 rfl rfl)
theorem dX0_tellsBehind_28 : decode cX0_tellsBehind 28 = .ok (.getfield 298, 3) := dk_180 1 42 (dk_at dksX0_tellsBehind_1 4 rfl rfl)
theorem dX0_tellsBehind_31 : decode cX0_tellsBehind 31 = .ok (.iload_n 1, 1) := dk_27 (dk_at dksX0_tellsBehind_1 7 rfl rfl)
theorem dX0_tellsBehind_32 : decode cX0_tellsBehind 32 = .ok (.aaload, 1) := dk_50 (dk_at dksX0_tellsBehind_1 8 rfl rfl)
theorem dX0_tellsBehind_33 : decode cX0_tellsBehind 33 = .ok (.iload_n 2, 1) := dk_28 (dk_at dksX0_tellsBehind_1 9 rfl rfl)
theorem dX0_tellsBehind_34 : decode cX0_tellsBehind 34 = .ok (.aload_n 0, 1) := dk_42 (dk_at dksX0_tellsBehind_1 10 rfl rfl)
theorem dX0_tellsBehind_35 : decode cX0_tellsBehind 35 = .ok (.getfield 51, 3) := dk_180 0 51 (dk_at dksX0_tellsBehind_1 11 rfl rfl)
theorem dX0_tellsBehind_38 : decode cX0_tellsBehind 38 = .ok (.iload_n 2, 1) := dk_28 (dk_at dksX0_tellsBehind_1 14 rfl rfl)
theorem dX0_tellsBehind_39 : decode cX0_tellsBehind 39 = .ok (.aaload, 1) := dk_50 (dk_at dksX0_tellsBehind_1 15 rfl rfl)
theorem dX0_tellsBehind_40 : decode cX0_tellsBehind 40 = .ok (.getfield 82, 3) := dk_180 0 82 (dk_at dksX0_tellsBehind_1 16 rfl rfl)
theorem dX0_tellsBehind_43 : decode cX0_tellsBehind 43 = .ok (.iastore, 1) := dk_79 (dk_at dksX0_tellsBehind_1 19 rfl rfl)
theorem dX0_tellsBehind_44 : decode cX0_tellsBehind 44 = .ok (.aload_n 0, 1) := dk_42 (dk_at dksX0_tellsBehind_1 20 rfl rfl)
theorem dX0_tellsBehind_45 : decode cX0_tellsBehind 45 = .ok (.getfield 304, 3) := dk_180 1 48 (dk_at dksX0_tellsBehind_1 21 rfl rfl)
theorem dX0_tellsBehind_48 : decode cX0_tellsBehind 48 = .ok (.iload_n 1, 1) := dk_27 (dk_at dksX0_tellsBehind_2 0 rfl rfl)
theorem dX0_tellsBehind_49 : decode cX0_tellsBehind 49 = .ok (.dup2, 1) := dk_92 (dk_at dksX0_tellsBehind_2 1 rfl rfl)
theorem dX0_tellsBehind_50 : decode cX0_tellsBehind 50 = .ok (.iaload, 1) := dk_46 (dk_at dksX0_tellsBehind_2 2 rfl rfl)
theorem dX0_tellsBehind_51 : decode cX0_tellsBehind 51 = .ok (.aload_n 0, 1) := dk_42 (dk_at dksX0_tellsBehind_2 3 rfl rfl)
theorem dX0_tellsBehind_52 : decode cX0_tellsBehind 52 = .ok (.iload_n 2, 1) := dk_28 (dk_at dksX0_tellsBehind_2 4 rfl rfl)
theorem dX0_tellsBehind_53 : decode cX0_tellsBehind 53 = .ok (.invokevirtual 350, 3) := dk_182 1 94 (dk_at dksX0_tellsBehind_2 5 rfl rfl)
theorem dX0_tellsBehind_56 : decode cX0_tellsBehind 56 = .ok (.iadd, 1) := dk_96 (dk_at dksX0_tellsBehind_2 8 rfl rfl)
theorem dX0_tellsBehind_57 : decode cX0_tellsBehind 57 = .ok (.iastore, 1) := dk_79 (dk_at dksX0_tellsBehind_2 9 rfl rfl)
theorem dX0_tellsBehind_58 : decode cX0_tellsBehind 58 = .ok (.aload_n 0, 1) := dk_42 (dk_at dksX0_tellsBehind_2 10 rfl rfl)
theorem dX0_tellsBehind_59 : decode cX0_tellsBehind 59 = .ok (.getfield 307, 3) := dk_180 1 51 (dk_at dksX0_tellsBehind_2 11 rfl rfl)
theorem dX0_tellsBehind_62 : decode cX0_tellsBehind 62 = .ok (.iload_n 2, 1) := dk_28 (dk_at dksX0_tellsBehind_2 14 rfl rfl)
theorem dX0_tellsBehind_63 : decode cX0_tellsBehind 63 = .ok (.aload_n 0, 1) := dk_42 (dk_at dksX0_tellsBehind_2 15 rfl rfl)
theorem dX0_tellsBehind_64 : decode cX0_tellsBehind 64 = .ok (.getfield 51, 3) := dk_180 0 51 (dk_at dksX0_tellsBehind_2 16 rfl rfl)
theorem dX0_tellsBehind_67 : decode cX0_tellsBehind 67 = .ok (.iload_n 2, 1) := dk_28 (dk_at dksX0_tellsBehind_2 19 rfl rfl)
theorem dX0_tellsBehind_68 : decode cX0_tellsBehind 68 = .ok (.aaload, 1) := dk_50 (dk_at dksX0_tellsBehind_2 20 rfl rfl)
theorem dX0_tellsBehind_69 : decode cX0_tellsBehind 69 = .ok (.invokevirtual 106, 3) := dk_182 0 106 (dk_at dksX0_tellsBehind_2 21 rfl rfl)
theorem dX0_tellsBehind_72 : decode cX0_tellsBehind 72 = .ok (.iastore, 1) := dk_79 (dk_at dksX0_tellsBehind_3 0 rfl rfl)
theorem dX0_tellsBehind_73 : decode cX0_tellsBehind 73 = .ok (.iinc 2 1, 3) := dk_132 2 1 (dk_at dksX0_tellsBehind_3 1 rfl rfl)
theorem dX0_tellsBehind_76 : decode cX0_tellsBehind 76 = .ok (.goto (-57), 3) := dk_167 255 199 (dk_at dksX0_tellsBehind_3 4 rfl rfl)
theorem dX0_tellsBehind_79 : decode cX0_tellsBehind 79 = .ok (.return_, 1) := dk_177 (dk_at dksX0_tellsBehind_3 7 rfl rfl)
def dkwX0_bloom_1 : List UInt8 := [132, 2, 1, 167, 255, 233, 27, 172]
abbrev dktX0_bloom_1 : List UInt8 := dkwX0_bloom_1 ++ []
def dkwX0_bloom_0 : List UInt8 := [3, 60, 3, 61, 28, 42, 180, 0, 18, 162, 0, 21, 27, 42, 180, 0, 51, 28, 50, 182, 0, 106, 96, 60]
abbrev dktX0_bloom_0 : List UInt8 := dkwX0_bloom_0 ++ dktX0_bloom_1
theorem dksX0_bloom_0 : cX0_bloom.data.toList.drop 0 = dktX0_bloom_0 := by decide +kernel
theorem dksX0_bloom_1 : cX0_bloom.data.toList.drop 24 = dktX0_bloom_1 := dk_seg dksX0_bloom_0 24 rfl rfl
theorem dX0_bloom_0 : decode cX0_bloom 0 = .ok (.iconst 0, 1) := dk_3 (dk_at dksX0_bloom_0 0 rfl rfl)
theorem dX0_bloom_1 : decode cX0_bloom 1 = .ok (.istore_n 1, 1) := dk_60 (dk_at dksX0_bloom_0 1 rfl rfl)
theorem dX0_bloom_2 : decode cX0_bloom 2 = .ok (.iconst 0, 1) := dk_3 (dk_at dksX0_bloom_0 2 rfl rfl)
theorem dX0_bloom_3 : decode cX0_bloom 3 = .ok (.istore_n 2, 1) := dk_61 (dk_at dksX0_bloom_0 3 rfl rfl)
theorem dX0_bloom_4 : decode cX0_bloom 4 = .ok (.iload_n 2, 1) := dk_28 (dk_at dksX0_bloom_0 4 rfl rfl)
theorem dX0_bloom_5 : decode cX0_bloom 5 = .ok (.aload_n 0, 1) := dk_42 (dk_at dksX0_bloom_0 5 rfl rfl)
theorem dX0_bloom_6 : decode cX0_bloom 6 = .ok (.getfield 18, 3) := dk_180 0 18 (dk_at dksX0_bloom_0 6 rfl rfl)
theorem dX0_bloom_9 : decode cX0_bloom 9 = .ok (.if_icmp .ge 21, 3) := dk_162 0 21 (dk_at dksX0_bloom_0 9 rfl rfl)
theorem dX0_bloom_12 : decode cX0_bloom 12 = .ok (.iload_n 1, 1) := dk_27 (dk_at dksX0_bloom_0 12 rfl rfl)
theorem dX0_bloom_13 : decode cX0_bloom 13 = .ok (.aload_n 0, 1) := dk_42 (dk_at dksX0_bloom_0 13 rfl rfl)
theorem dX0_bloom_14 : decode cX0_bloom 14 = .ok (.getfield 51, 3) := dk_180 0 51 (dk_at dksX0_bloom_0 14 rfl rfl)
theorem dX0_bloom_17 : decode cX0_bloom 17 = .ok (.iload_n 2, 1) := dk_28 (dk_at dksX0_bloom_0 17 rfl rfl)
theorem dX0_bloom_18 : decode cX0_bloom 18 = .ok (.aaload, 1) := dk_50 (dk_at dksX0_bloom_0 18 rfl rfl)
theorem dX0_bloom_19 : decode cX0_bloom 19 = .ok (.invokevirtual 106, 3) := dk_182 0 106 (dk_at dksX0_bloom_0 19 rfl rfl)
theorem dX0_bloom_22 : decode cX0_bloom 22 = .ok (.iadd, 1) := dk_96 (dk_at dksX0_bloom_0 22 rfl rfl)
theorem dX0_bloom_23 : decode cX0_bloom 23 = .ok (.istore_n 1, 1) := dk_60 (dk_at dksX0_bloom_0 23 rfl rfl)
theorem dX0_bloom_24 : decode cX0_bloom 24 = .ok (.iinc 2 1, 3) := dk_132 2 1 (dk_at dksX0_bloom_1 0 rfl rfl)
theorem dX0_bloom_27 : decode cX0_bloom 27 = .ok (.goto (-23), 3) := dk_167 255 233 (dk_at dksX0_bloom_1 3 rfl rfl)
theorem dX0_bloom_30 : decode cX0_bloom 30 = .ok (.iload_n 1, 1) := dk_27 (dk_at dksX0_bloom_1 6 rfl rfl)
theorem dX0_bloom_31 : decode cX0_bloom 31 = .ok (.ireturn, 1) := dk_172 (dk_at dksX0_bloom_1 7 rfl rfl)
def dkwX0_laysBack_1 : List UInt8 := [181, 0, 82, 132, 2, 1, 167, 255, 230, 42, 27, 181, 0, 66, 177]
abbrev dktX0_laysBack_1 : List UInt8 := dkwX0_laysBack_1 ++ []
def dkwX0_laysBack_0 : List UInt8 := [3, 61, 28, 42, 180, 0, 18, 162, 0, 24, 42, 180, 0, 51, 28, 50, 42, 180, 1, 37, 28, 46]
abbrev dktX0_laysBack_0 : List UInt8 := dkwX0_laysBack_0 ++ dktX0_laysBack_1
theorem dksX0_laysBack_0 : cX0_laysBack.data.toList.drop 0 = dktX0_laysBack_0 := by decide +kernel
theorem dksX0_laysBack_1 : cX0_laysBack.data.toList.drop 22 = dktX0_laysBack_1 := dk_seg dksX0_laysBack_0 22 rfl rfl
theorem dX0_laysBack_0 : decode cX0_laysBack 0 = .ok (.iconst 0, 1) := dk_3 (dk_at dksX0_laysBack_0 0 rfl rfl)
theorem dX0_laysBack_1 : decode cX0_laysBack 1 = .ok (.istore_n 2, 1) := dk_61 (dk_at dksX0_laysBack_0 1 rfl rfl)
theorem dX0_laysBack_2 : decode cX0_laysBack 2 = .ok (.iload_n 2, 1) := dk_28 (dk_at dksX0_laysBack_0 2 rfl rfl)
theorem dX0_laysBack_3 : decode cX0_laysBack 3 = .ok (.aload_n 0, 1) := dk_42 (dk_at dksX0_laysBack_0 3 rfl rfl)
theorem dX0_laysBack_4 : decode cX0_laysBack 4 = .ok (.getfield 18, 3) := dk_180 0 18 (dk_at dksX0_laysBack_0 4 rfl rfl)
theorem dX0_laysBack_7 : decode cX0_laysBack 7 = .ok (.if_icmp .ge 24, 3) := dk_162 0 24 (dk_at dksX0_laysBack_0 7 rfl rfl)
theorem dX0_laysBack_10 : decode cX0_laysBack 10 = .ok (.aload_n 0, 1) := dk_42 (dk_at dksX0_laysBack_0 10 rfl rfl)
theorem dX0_laysBack_11 : decode cX0_laysBack 11 = .ok (.getfield 51, 3) := dk_180 0 51 (dk_at dksX0_laysBack_0 11 rfl rfl)
theorem dX0_laysBack_14 : decode cX0_laysBack 14 = .ok (.iload_n 2, 1) := dk_28 (dk_at dksX0_laysBack_0 14 rfl rfl)
theorem dX0_laysBack_15 : decode cX0_laysBack 15 = .ok (.aaload, 1) := dk_50 (dk_at dksX0_laysBack_0 15 rfl rfl)
theorem dX0_laysBack_16 : decode cX0_laysBack 16 = .ok (.aload_n 0, 1) := dk_42 (dk_at dksX0_laysBack_0 16 rfl rfl)
theorem dX0_laysBack_17 : decode cX0_laysBack 17 = .ok (.getfield 293, 3) := dk_180 1 37 (dk_at dksX0_laysBack_0 17 rfl rfl)
theorem dX0_laysBack_20 : decode cX0_laysBack 20 = .ok (.iload_n 2, 1) := dk_28 (dk_at dksX0_laysBack_0 20 rfl rfl)
theorem dX0_laysBack_21 : decode cX0_laysBack 21 = .ok (.iaload, 1) := dk_46 (dk_at dksX0_laysBack_0 21 rfl rfl)
theorem dX0_laysBack_22 : decode cX0_laysBack 22 = .ok (.putfield 82, 3) := dk_181 0 82 (dk_at dksX0_laysBack_1 0 rfl rfl)
theorem dX0_laysBack_25 : decode cX0_laysBack 25 = .ok (.iinc 2 1, 3) := dk_132 2 1 (dk_at dksX0_laysBack_1 3 rfl rfl)
theorem dX0_laysBack_28 : decode cX0_laysBack 28 = .ok (.goto (-26), 3) := dk_167 255 230 (dk_at dksX0_laysBack_1 6 rfl rfl)
theorem dX0_laysBack_31 : decode cX0_laysBack 31 = .ok (.aload_n 0, 1) := dk_42 (dk_at dksX0_laysBack_1 9 rfl rfl)
theorem dX0_laysBack_32 : decode cX0_laysBack 32 = .ok (.iload_n 1, 1) := dk_27 (dk_at dksX0_laysBack_1 10 rfl rfl)
theorem dX0_laysBack_33 : decode cX0_laysBack 33 = .ok (.putfield 66, 3) := dk_181 0 66 (dk_at dksX0_laysBack_1 11 rfl rfl)
theorem dX0_laysBack_36 : decode cX0_laysBack 36 = .ok (.return_, 1) := dk_177 (dk_at dksX0_laysBack_1 14 rfl rfl)
def dkwX0_toldRun_5 : List UInt8 := [21, 5, 172]
abbrev dktX0_toldRun_5 : List UInt8 := dkwX0_toldRun_5 ++ []
def dkwX0_toldRun_4 : List UInt8 := [4, 160, 0, 12, 42, 180, 1, 45, 27, 46, 167, 0, 15, 28, 5, 160, 0, 8, 21, 4, 167, 0, 5]
abbrev dktX0_toldRun_4 : List UInt8 := dkwX0_toldRun_4 ++ dktX0_toldRun_5
def dkwX0_toldRun_3 : List UInt8 := [21, 6, 167, 0, 5, 21, 5, 54, 5, 132, 6, 1, 167, 255, 184, 28, 154, 0, 7, 29, 167, 0, 29, 28]
abbrev dktX0_toldRun_3 : List UInt8 := dkwX0_toldRun_3 ++ dktX0_toldRun_4
def dkwX0_toldRun_2 : List UInt8 := [96, 54, 4, 21, 5, 2, 159, 0, 17, 21, 7, 42, 180, 1, 42, 27, 50, 21, 5, 46, 164, 0, 8]
abbrev dktX0_toldRun_2 : List UInt8 := dkwX0_toldRun_2 ++ dktX0_toldRun_3
def dkwX0_toldRun_1 : List UInt8 := [27, 50, 21, 6, 46, 54, 7, 29, 21, 7, 96, 62, 21, 4, 21, 7, 158, 0, 7, 4, 167, 0, 4, 3]
abbrev dktX0_toldRun_1 : List UInt8 := dkwX0_toldRun_1 ++ dktX0_toldRun_2
def dkwX0_toldRun_0 : List UInt8 := [3, 62, 3, 54, 4, 2, 54, 5, 3, 54, 6, 21, 6, 42, 180, 0, 18, 162, 0, 69, 42, 180, 1, 42]
abbrev dktX0_toldRun_0 : List UInt8 := dkwX0_toldRun_0 ++ dktX0_toldRun_1
theorem dksX0_toldRun_0 : cX0_toldRun.data.toList.drop 0 = dktX0_toldRun_0 := by decide +kernel
theorem dksX0_toldRun_1 : cX0_toldRun.data.toList.drop 24 = dktX0_toldRun_1 := dk_seg dksX0_toldRun_0 24 rfl rfl
theorem dksX0_toldRun_2 : cX0_toldRun.data.toList.drop 48 = dktX0_toldRun_2 := dk_seg dksX0_toldRun_1 24 rfl rfl
theorem dksX0_toldRun_3 : cX0_toldRun.data.toList.drop 71 = dktX0_toldRun_3 := dk_seg dksX0_toldRun_2 23 rfl rfl
theorem dksX0_toldRun_4 : cX0_toldRun.data.toList.drop 95 = dktX0_toldRun_4 := dk_seg dksX0_toldRun_3 24 rfl rfl
theorem dksX0_toldRun_5 : cX0_toldRun.data.toList.drop 118 = dktX0_toldRun_5 := dk_seg dksX0_toldRun_4 23 rfl rfl
theorem dX0_toldRun_0 : decode cX0_toldRun 0 = .ok (.iconst 0, 1) := dk_3 (dk_at dksX0_toldRun_0 0 rfl rfl)
theorem dX0_toldRun_1 : decode cX0_toldRun 1 = .ok (.istore_n 3, 1) := dk_62 (dk_at dksX0_toldRun_0 1 rfl rfl)
theorem dX0_toldRun_2 : decode cX0_toldRun 2 = .ok (.iconst 0, 1) := dk_3 (dk_at dksX0_toldRun_0 2 rfl rfl)
theorem dX0_toldRun_3 : decode cX0_toldRun 3 = .ok (.istore 4, 2) := dk_54 4 (dk_at dksX0_toldRun_0 3 rfl rfl)
theorem dX0_toldRun_5 : decode cX0_toldRun 5 = .ok (.iconst (-1), 1) := dk_2 (dk_at dksX0_toldRun_0 5 rfl rfl)
theorem dX0_toldRun_6 : decode cX0_toldRun 6 = .ok (.istore 5, 2) := dk_54 5 (dk_at dksX0_toldRun_0 6 rfl rfl)
theorem dX0_toldRun_8 : decode cX0_toldRun 8 = .ok (.iconst 0, 1) := dk_3 (dk_at dksX0_toldRun_0 8 rfl rfl)
theorem dX0_toldRun_9 : decode cX0_toldRun 9 = .ok (.istore 6, 2) := dk_54 6 (dk_at dksX0_toldRun_0 9 rfl rfl)
theorem dX0_toldRun_11 : decode cX0_toldRun 11 = .ok (.iload 6, 2) := dk_21 6 (dk_at dksX0_toldRun_0 11 rfl rfl)
theorem dX0_toldRun_13 : decode cX0_toldRun 13 = .ok (.aload_n 0, 1) := dk_42 (dk_at dksX0_toldRun_0 13 rfl rfl)
theorem dX0_toldRun_14 : decode cX0_toldRun 14 = .ok (.getfield 18, 3) := dk_180 0 18 (dk_at dksX0_toldRun_0 14 rfl rfl)
theorem dX0_toldRun_17 : decode cX0_toldRun 17 = .ok (.if_icmp .ge 69, 3) := dk_162 0 69 (dk_at dksX0_toldRun_0 17 rfl rfl)
theorem dX0_toldRun_20 : decode cX0_toldRun 20 = .ok (.aload_n 0, 1) := dk_42 (dk_at dksX0_toldRun_0 20 rfl rfl)
theorem dX0_toldRun_21 : decode cX0_toldRun 21 = .ok (.getfield 298, 3) := dk_180 1 42 (dk_at dksX0_toldRun_0 21 rfl rfl)
theorem dX0_toldRun_24 : decode cX0_toldRun 24 = .ok (.iload_n 1, 1) := dk_27 (dk_at dksX0_toldRun_1 0 rfl rfl)
theorem dX0_toldRun_25 : decode cX0_toldRun 25 = .ok (.aaload, 1) := dk_50 (dk_at dksX0_toldRun_1 1 rfl rfl)
theorem dX0_toldRun_26 : decode cX0_toldRun 26 = .ok (.iload 6, 2) := dk_21 6 (dk_at dksX0_toldRun_1 2 rfl rfl)
theorem dX0_toldRun_28 : decode cX0_toldRun 28 = .ok (.iaload, 1) := dk_46 (dk_at dksX0_toldRun_1 4 rfl rfl)
theorem dX0_toldRun_29 : decode cX0_toldRun 29 = .ok (.istore 7, 2) := dk_54 7 (dk_at dksX0_toldRun_1 5 rfl rfl)
theorem dX0_toldRun_31 : decode cX0_toldRun 31 = .ok (.iload_n 3, 1) := dk_29 (dk_at dksX0_toldRun_1 7 rfl rfl)
theorem dX0_toldRun_32 : decode cX0_toldRun 32 = .ok (.iload 7, 2) := dk_21 7 (dk_at dksX0_toldRun_1 8 rfl rfl)
theorem dX0_toldRun_34 : decode cX0_toldRun 34 = .ok (.iadd, 1) := dk_96 (dk_at dksX0_toldRun_1 10 rfl rfl)
theorem dX0_toldRun_35 : decode cX0_toldRun 35 = .ok (.istore_n 3, 1) := dk_62 (dk_at dksX0_toldRun_1 11 rfl rfl)
theorem dX0_toldRun_36 : decode cX0_toldRun 36 = .ok (.iload 4, 2) := dk_21 4 (dk_at dksX0_toldRun_1 12 rfl rfl)
theorem dX0_toldRun_38 : decode cX0_toldRun 38 = .ok (.iload 7, 2) := dk_21 7 (dk_at dksX0_toldRun_1 14 rfl rfl)
theorem dX0_toldRun_40 : decode cX0_toldRun 40 = .ok (.ifCond .le 7, 3) := dk_158 0 7 (dk_at dksX0_toldRun_1 16 rfl rfl)
theorem dX0_toldRun_43 : decode cX0_toldRun 43 = .ok (.iconst 1, 1) := dk_4 (dk_at dksX0_toldRun_1 19 rfl rfl)
theorem dX0_toldRun_44 : decode cX0_toldRun 44 = .ok (.goto 4, 3) := dk_167 0 4 (dk_at dksX0_toldRun_1 20 rfl rfl)
theorem dX0_toldRun_47 : decode cX0_toldRun 47 = .ok (.iconst 0, 1) := dk_3 (dk_at dksX0_toldRun_1 23 rfl rfl)
theorem dX0_toldRun_48 : decode cX0_toldRun 48 = .ok (.iadd, 1) := dk_96 (dk_at dksX0_toldRun_2 0 rfl rfl)
theorem dX0_toldRun_49 : decode cX0_toldRun 49 = .ok (.istore 4, 2) := dk_54 4 (dk_at dksX0_toldRun_2 1 rfl rfl)
theorem dX0_toldRun_51 : decode cX0_toldRun 51 = .ok (.iload 5, 2) := dk_21 5 (dk_at dksX0_toldRun_2 3 rfl rfl)
theorem dX0_toldRun_53 : decode cX0_toldRun 53 = .ok (.iconst (-1), 1) := dk_2 (dk_at dksX0_toldRun_2 5 rfl rfl)
theorem dX0_toldRun_54 : decode cX0_toldRun 54 = .ok (.if_icmp .eq 17, 3) := dk_159 0 17 (dk_at dksX0_toldRun_2 6 rfl rfl)
theorem dX0_toldRun_57 : decode cX0_toldRun 57 = .ok (.iload 7, 2) := dk_21 7 (dk_at dksX0_toldRun_2 9 rfl rfl)
theorem dX0_toldRun_59 : decode cX0_toldRun 59 = .ok (.aload_n 0, 1) := dk_42 (dk_at dksX0_toldRun_2 11 rfl rfl)
theorem dX0_toldRun_60 : decode cX0_toldRun 60 = .ok (.getfield 298, 3) := dk_180 1 42 (dk_at dksX0_toldRun_2 12 rfl rfl)
theorem dX0_toldRun_63 : decode cX0_toldRun 63 = .ok (.iload_n 1, 1) := dk_27 (dk_at dksX0_toldRun_2 15 rfl rfl)
theorem dX0_toldRun_64 : decode cX0_toldRun 64 = .ok (.aaload, 1) := dk_50 (dk_at dksX0_toldRun_2 16 rfl rfl)
theorem dX0_toldRun_65 : decode cX0_toldRun 65 = .ok (.iload 5, 2) := dk_21 5 (dk_at dksX0_toldRun_2 17 rfl rfl)
theorem dX0_toldRun_67 : decode cX0_toldRun 67 = .ok (.iaload, 1) := dk_46 (dk_at dksX0_toldRun_2 19 rfl rfl)
theorem dX0_toldRun_68 : decode cX0_toldRun 68 = .ok (.if_icmp .le 8, 3) := dk_164 0 8 (dk_at dksX0_toldRun_2 20 rfl rfl)
theorem dX0_toldRun_71 : decode cX0_toldRun 71 = .ok (.iload 6, 2) := dk_21 6 (dk_at dksX0_toldRun_3 0 rfl rfl)
theorem dX0_toldRun_73 : decode cX0_toldRun 73 = .ok (.goto 5, 3) := dk_167 0 5 (dk_at dksX0_toldRun_3 2 rfl rfl)
theorem dX0_toldRun_76 : decode cX0_toldRun 76 = .ok (.iload 5, 2) := dk_21 5 (dk_at dksX0_toldRun_3 5 rfl rfl)
theorem dX0_toldRun_78 : decode cX0_toldRun 78 = .ok (.istore 5, 2) := dk_54 5 (dk_at dksX0_toldRun_3 7 rfl rfl)
theorem dX0_toldRun_80 : decode cX0_toldRun 80 = .ok (.iinc 6 1, 3) := dk_132 6 1 (dk_at dksX0_toldRun_3 9 rfl rfl)
theorem dX0_toldRun_83 : decode cX0_toldRun 83 = .ok (.goto (-72), 3) := dk_167 255 184 (dk_at dksX0_toldRun_3 12 rfl rfl)
theorem dX0_toldRun_86 : decode cX0_toldRun 86 = .ok (.iload_n 2, 1) := dk_28 (dk_at dksX0_toldRun_3 15 rfl rfl)
theorem dX0_toldRun_87 : decode cX0_toldRun 87 = .ok (.ifCond .ne 7, 3) := dk_154 0 7 (dk_at dksX0_toldRun_3 16 rfl rfl)
theorem dX0_toldRun_90 : decode cX0_toldRun 90 = .ok (.iload_n 3, 1) := dk_29 (dk_at dksX0_toldRun_3 19 rfl rfl)
theorem dX0_toldRun_91 : decode cX0_toldRun 91 = .ok (.goto 29, 3) := dk_167 0 29 (dk_at dksX0_toldRun_3 20 rfl rfl)
theorem dX0_toldRun_94 : decode cX0_toldRun 94 = .ok (.iload_n 2, 1) := dk_28 (dk_at dksX0_toldRun_3 23 rfl rfl)
theorem dX0_toldRun_95 : decode cX0_toldRun 95 = .ok (.iconst 1, 1) := dk_4 (dk_at dksX0_toldRun_4 0 rfl rfl)
theorem dX0_toldRun_96 : decode cX0_toldRun 96 = .ok (.if_icmp .ne 12, 3) := dk_160 0 12 (dk_at dksX0_toldRun_4 1 rfl rfl)
theorem dX0_toldRun_99 : decode cX0_toldRun 99 = .ok (.aload_n 0, 1) := dk_42 (dk_at dksX0_toldRun_4 4 rfl rfl)
theorem dX0_toldRun_100 : decode cX0_toldRun 100 = .ok (.getfield 301, 3) := dk_180 1 45 (dk_at dksX0_toldRun_4 5 rfl rfl)
theorem dX0_toldRun_103 : decode cX0_toldRun 103 = .ok (.iload_n 1, 1) := dk_27 (dk_at dksX0_toldRun_4 8 rfl rfl)
theorem dX0_toldRun_104 : decode cX0_toldRun 104 = .ok (.iaload, 1) := dk_46 (dk_at dksX0_toldRun_4 9 rfl rfl)
theorem dX0_toldRun_105 : decode cX0_toldRun 105 = .ok (.goto 15, 3) := dk_167 0 15 (dk_at dksX0_toldRun_4 10 rfl rfl)
theorem dX0_toldRun_108 : decode cX0_toldRun 108 = .ok (.iload_n 2, 1) := dk_28 (dk_at dksX0_toldRun_4 13 rfl rfl)
theorem dX0_toldRun_109 : decode cX0_toldRun 109 = .ok (.iconst 2, 1) := dk_5 (dk_at dksX0_toldRun_4 14 rfl rfl)
theorem dX0_toldRun_110 : decode cX0_toldRun 110 = .ok (.if_icmp .ne 8, 3) := dk_160 0 8 (dk_at dksX0_toldRun_4 15 rfl rfl)
theorem dX0_toldRun_113 : decode cX0_toldRun 113 = .ok (.iload 4, 2) := dk_21 4 (dk_at dksX0_toldRun_4 18 rfl rfl)
theorem dX0_toldRun_115 : decode cX0_toldRun 115 = .ok (.goto 5, 3) := dk_167 0 5 (dk_at dksX0_toldRun_4 20 rfl rfl)
theorem dX0_toldRun_118 : decode cX0_toldRun 118 = .ok (.iload 5, 2) := dk_21 5 (dk_at dksX0_toldRun_5 0 rfl rfl)
theorem dX0_toldRun_120 : decode cX0_toldRun 120 = .ok (.ireturn, 1) := dk_172 (dk_at dksX0_toldRun_5 2 rfl rfl)
def dkwX0_first_2 : List UInt8 := [132, 3, 1, 167, 255, 234, 2, 172]
abbrev dktX0_first_2 : List UInt8 := dkwX0_first_2 ++ []
def dkwX0_first_1 : List UInt8 := [182, 1, 126, 4, 62, 29, 27, 163, 0, 23, 42, 180, 1, 45, 29, 46, 28, 161, 0, 7, 29, 4, 100, 172]
abbrev dktX0_first_1 : List UInt8 := dkwX0_first_1 ++ dktX0_first_2
def dkwX0_first_0 : List UInt8 := [27, 184, 1, 121, 153, 0, 15, 28, 133, 9, 20, 1, 132, 184, 0, 14, 154, 0, 6, 16, 254, 172, 42, 27]
abbrev dktX0_first_0 : List UInt8 := dkwX0_first_0 ++ dktX0_first_1
theorem dksX0_first_0 : cX0_first.data.toList.drop 0 = dktX0_first_0 := by decide +kernel
theorem dksX0_first_1 : cX0_first.data.toList.drop 24 = dktX0_first_1 := dk_seg dksX0_first_0 24 rfl rfl
theorem dksX0_first_2 : cX0_first.data.toList.drop 48 = dktX0_first_2 := dk_seg dksX0_first_1 24 rfl rfl
theorem dX0_first_0 : decode cX0_first 0 = .ok (.iload_n 1, 1) := dk_27 (dk_at dksX0_first_0 0 rfl rfl)
theorem dX0_first_1 : decode cX0_first 1 = .ok (.invokestatic 377, 3) := dk_184 1 121 (dk_at dksX0_first_0 1 rfl rfl)
theorem dX0_first_4 : decode cX0_first 4 = .ok (.ifCond .eq 15, 3) := dk_153 0 15 (dk_at dksX0_first_0 4 rfl rfl)
theorem dX0_first_7 : decode cX0_first 7 = .ok (.iload_n 2, 1) := dk_28 (dk_at dksX0_first_0 7 rfl rfl)
theorem dX0_first_8 : decode cX0_first 8 = .ok (.i2l, 1) := dk_133 (dk_at dksX0_first_0 8 rfl rfl)
theorem dX0_first_9 : decode cX0_first 9 = .ok (.lconst 0, 1) := dk_9 (dk_at dksX0_first_0 9 rfl rfl)
theorem dX0_first_10 : decode cX0_first 10 = .ok (.ldc2_w 388, 3) := dk_20 1 132 (dk_at dksX0_first_0 10 rfl rfl)
theorem dX0_first_13 : decode cX0_first 13 = .ok (.invokestatic 14, 3) := dk_184 0 14 (dk_at dksX0_first_0 13 rfl rfl)
theorem dX0_first_16 : decode cX0_first 16 = .ok (.ifCond .ne 6, 3) := dk_154 0 6 (dk_at dksX0_first_0 16 rfl rfl)
theorem dX0_first_19 : decode cX0_first 19 = .ok (.bipush (-2), 2) := dk_16 254 (dk_at dksX0_first_0 19 rfl rfl)
theorem dX0_first_21 : decode cX0_first 21 = .ok (.ireturn, 1) := dk_172 (dk_at dksX0_first_0 21 rfl rfl)
theorem dX0_first_22 : decode cX0_first 22 = .ok (.aload_n 0, 1) := dk_42 (dk_at dksX0_first_0 22 rfl rfl)
theorem dX0_first_23 : decode cX0_first 23 = .ok (.iload_n 1, 1) := dk_27 (dk_at dksX0_first_0 23 rfl rfl)
theorem dX0_first_24 : decode cX0_first 24 = .ok (.invokevirtual 382, 3) := dk_182 1 126 (dk_at dksX0_first_1 0 rfl rfl)
theorem dX0_first_27 : decode cX0_first 27 = .ok (.iconst 1, 1) := dk_4 (dk_at dksX0_first_1 3 rfl rfl)
theorem dX0_first_28 : decode cX0_first 28 = .ok (.istore_n 3, 1) := dk_62 (dk_at dksX0_first_1 4 rfl rfl)
theorem dX0_first_29 : decode cX0_first 29 = .ok (.iload_n 3, 1) := dk_29 (dk_at dksX0_first_1 5 rfl rfl)
theorem dX0_first_30 : decode cX0_first 30 = .ok (.iload_n 1, 1) := dk_27 (dk_at dksX0_first_1 6 rfl rfl)
theorem dX0_first_31 : decode cX0_first 31 = .ok (.if_icmp .gt 23, 3) := dk_163 0 23 (dk_at dksX0_first_1 7 rfl rfl)
theorem dX0_first_34 : decode cX0_first 34 = .ok (.aload_n 0, 1) := dk_42 (dk_at dksX0_first_1 10 rfl rfl)
theorem dX0_first_35 : decode cX0_first 35 = .ok (.getfield 301, 3) := dk_180 1 45 (dk_at dksX0_first_1 11 rfl rfl)
theorem dX0_first_38 : decode cX0_first 38 = .ok (.iload_n 3, 1) := dk_29 (dk_at dksX0_first_1 14 rfl rfl)
theorem dX0_first_39 : decode cX0_first 39 = .ok (.iaload, 1) := dk_46 (dk_at dksX0_first_1 15 rfl rfl)
theorem dX0_first_40 : decode cX0_first 40 = .ok (.iload_n 2, 1) := dk_28 (dk_at dksX0_first_1 16 rfl rfl)
theorem dX0_first_41 : decode cX0_first 41 = .ok (.if_icmp .lt 7, 3) := dk_161 0 7 (dk_at dksX0_first_1 17 rfl rfl)
theorem dX0_first_44 : decode cX0_first 44 = .ok (.iload_n 3, 1) := dk_29 (dk_at dksX0_first_1 20 rfl rfl)
theorem dX0_first_45 : decode cX0_first 45 = .ok (.iconst 1, 1) := dk_4 (dk_at dksX0_first_1 21 rfl rfl)
theorem dX0_first_46 : decode cX0_first 46 = .ok (.isub, 1) := dk_100 (dk_at dksX0_first_1 22 rfl rfl)
theorem dX0_first_47 : decode cX0_first 47 = .ok (.ireturn, 1) := dk_172 (dk_at dksX0_first_1 23 rfl rfl)
theorem dX0_first_48 : decode cX0_first 48 = .ok (.iinc 3 1, 3) := dk_132 3 1 (dk_at dksX0_first_2 0 rfl rfl)
theorem dX0_first_51 : decode cX0_first 51 = .ok (.goto (-22), 3) := dk_167 255 234 (dk_at dksX0_first_2 3 rfl rfl)
theorem dX0_first_54 : decode cX0_first 54 = .ok (.iconst (-1), 1) := dk_2 (dk_at dksX0_first_2 6 rfl rfl)
theorem dX0_first_55 : decode cX0_first 55 = .ok (.ireturn, 1) := dk_172 (dk_at dksX0_first_2 7 rfl rfl)
def dkwX0_found_3 : List UInt8 := [173]
abbrev dktX0_found_3 : List UInt8 := dkwX0_found_3 ++ []
def dkwX0_found_2 : List UInt8 := [20, 1, 138, 105, 55, 4, 132, 6, 1, 167, 255, 239, 42, 27, 28, 182, 1, 140, 22, 4, 29, 184, 1, 144]
abbrev dktX0_found_2 : List UInt8 := dkwX0_found_2 ++ dktX0_found_3
def dkwX0_found_1 : List UInt8 := [184, 0, 14, 154, 0, 7, 20, 1, 136, 173, 10, 55, 4, 3, 54, 6, 21, 6, 28, 162, 0, 17, 22, 4]
abbrev dktX0_found_1 : List UInt8 := dkwX0_found_1 ++ dktX0_found_2
def dkwX0_found_0 : List UInt8 := [42, 27, 182, 0, 61, 153, 0, 25, 28, 133, 9, 20, 1, 134, 184, 0, 14, 153, 0, 13, 29, 133, 9, 10]
abbrev dktX0_found_0 : List UInt8 := dkwX0_found_0 ++ dktX0_found_1
theorem dksX0_found_0 : cX0_found.data.toList.drop 0 = dktX0_found_0 := by decide +kernel
theorem dksX0_found_1 : cX0_found.data.toList.drop 24 = dktX0_found_1 := dk_seg dksX0_found_0 24 rfl rfl
theorem dksX0_found_2 : cX0_found.data.toList.drop 48 = dktX0_found_2 := dk_seg dksX0_found_1 24 rfl rfl
theorem dksX0_found_3 : cX0_found.data.toList.drop 72 = dktX0_found_3 := dk_seg dksX0_found_2 24 rfl rfl
theorem dX0_found_0 : decode cX0_found 0 = .ok (.aload_n 0, 1) := dk_42 (dk_at dksX0_found_0 0 rfl rfl)
theorem dX0_found_1 : decode cX0_found 1 = .ok (.iload_n 1, 1) := dk_27 (dk_at dksX0_found_0 1 rfl rfl)
theorem dX0_found_2 : decode cX0_found 2 = .ok (.invokevirtual 61, 3) := dk_182 0 61 (dk_at dksX0_found_0 2 rfl rfl)
theorem dX0_found_5 : decode cX0_found 5 = .ok (.ifCond .eq 25, 3) := dk_153 0 25 (dk_at dksX0_found_0 5 rfl rfl)
theorem dX0_found_8 : decode cX0_found 8 = .ok (.iload_n 2, 1) := dk_28 (dk_at dksX0_found_0 8 rfl rfl)
theorem dX0_found_9 : decode cX0_found 9 = .ok (.i2l, 1) := dk_133 (dk_at dksX0_found_0 9 rfl rfl)
theorem dX0_found_10 : decode cX0_found 10 = .ok (.lconst 0, 1) := dk_9 (dk_at dksX0_found_0 10 rfl rfl)
theorem dX0_found_11 : decode cX0_found 11 = .ok (.ldc2_w 390, 3) := dk_20 1 134 (dk_at dksX0_found_0 11 rfl rfl)
theorem dX0_found_14 : decode cX0_found 14 = .ok (.invokestatic 14, 3) := dk_184 0 14 (dk_at dksX0_found_0 14 rfl rfl)
theorem dX0_found_17 : decode cX0_found 17 = .ok (.ifCond .eq 13, 3) := dk_153 0 13 (dk_at dksX0_found_0 17 rfl rfl)
theorem dX0_found_20 : decode cX0_found 20 = .ok (.iload_n 3, 1) := dk_29 (dk_at dksX0_found_0 20 rfl rfl)
theorem dX0_found_21 : decode cX0_found 21 = .ok (.i2l, 1) := dk_133 (dk_at dksX0_found_0 21 rfl rfl)
theorem dX0_found_22 : decode cX0_found 22 = .ok (.lconst 0, 1) := dk_9 (dk_at dksX0_found_0 22 rfl rfl)
theorem dX0_found_23 : decode cX0_found 23 = .ok (.lconst 1, 1) := dk_10 (dk_at dksX0_found_0 23 rfl rfl)
theorem dX0_found_24 : decode cX0_found 24 = .ok (.invokestatic 14, 3) := dk_184 0 14 (dk_at dksX0_found_1 0 rfl rfl)
theorem dX0_found_27 : decode cX0_found 27 = .ok (.ifCond .ne 7, 3) := dk_154 0 7 (dk_at dksX0_found_1 3 rfl rfl)
theorem dX0_found_30 : decode cX0_found 30 = .ok (.ldc2_w 392, 3) := dk_20 1 136 (dk_at dksX0_found_1 6 rfl rfl)
theorem dX0_found_33 : decode cX0_found 33 = .ok (.lreturn, 1) := dk_173 (dk_at dksX0_found_1 9 rfl rfl)
theorem dX0_found_34 : decode cX0_found 34 = .ok (.lconst 1, 1) := dk_10 (dk_at dksX0_found_1 10 rfl rfl)
theorem dX0_found_35 : decode cX0_found 35 = .ok (.lstore 4, 2) := dk_55 4 (dk_at dksX0_found_1 11 rfl rfl)
theorem dX0_found_37 : decode cX0_found 37 = .ok (.iconst 0, 1) := dk_3 (dk_at dksX0_found_1 13 rfl rfl)
theorem dX0_found_38 : decode cX0_found 38 = .ok (.istore 6, 2) := dk_54 6 (dk_at dksX0_found_1 14 rfl rfl)
theorem dX0_found_40 : decode cX0_found 40 = .ok (.iload 6, 2) := dk_21 6 (dk_at dksX0_found_1 16 rfl rfl)
theorem dX0_found_42 : decode cX0_found 42 = .ok (.iload_n 2, 1) := dk_28 (dk_at dksX0_found_1 18 rfl rfl)
theorem dX0_found_43 : decode cX0_found 43 = .ok (.if_icmp .ge 17, 3) := dk_162 0 17 (dk_at dksX0_found_1 19 rfl rfl)
theorem dX0_found_46 : decode cX0_found 46 = .ok (.lload 4, 2) := dk_22 4 (dk_at dksX0_found_1 22 rfl rfl)
theorem dX0_found_48 : decode cX0_found 48 = .ok (.ldc2_w 394, 3) := dk_20 1 138 (dk_at dksX0_found_2 0 rfl rfl)
theorem dX0_found_51 : decode cX0_found 51 = .ok (.lmul, 1) := dk_105 (dk_at dksX0_found_2 3 rfl rfl)
theorem dX0_found_52 : decode cX0_found 52 = .ok (.lstore 4, 2) := dk_55 4 (dk_at dksX0_found_2 4 rfl rfl)
theorem dX0_found_54 : decode cX0_found 54 = .ok (.iinc 6 1, 3) := dk_132 6 1 (dk_at dksX0_found_2 6 rfl rfl)
theorem dX0_found_57 : decode cX0_found 57 = .ok (.goto (-17), 3) := dk_167 255 239 (dk_at dksX0_found_2 9 rfl rfl)
theorem dX0_found_60 : decode cX0_found 60 = .ok (.aload_n 0, 1) := dk_42 (dk_at dksX0_found_2 12 rfl rfl)
theorem dX0_found_61 : decode cX0_found 61 = .ok (.iload_n 1, 1) := dk_27 (dk_at dksX0_found_2 13 rfl rfl)
theorem dX0_found_62 : decode cX0_found 62 = .ok (.iload_n 2, 1) := dk_28 (dk_at dksX0_found_2 14 rfl rfl)
theorem dX0_found_63 : decode cX0_found 63 = .ok (.invokevirtual 396, 3) := dk_182 1 140 (dk_at dksX0_found_2 15 rfl rfl)
theorem dX0_found_66 : decode cX0_found 66 = .ok (.lload 4, 2) := dk_22 4 (dk_at dksX0_found_2 18 rfl rfl)
theorem dX0_found_68 : decode cX0_found 68 = .ok (.iload_n 3, 1) := dk_29 (dk_at dksX0_found_2 20 rfl rfl)
theorem dX0_found_69 : decode cX0_found 69 = .ok (.invokestatic 400, 3) := dk_184 1 144 (dk_at dksX0_found_2 21 rfl rfl)
theorem dX0_found_72 : decode cX0_found 72 = .ok (.lreturn, 1) := dk_173 (dk_at dksX0_found_3 0 rfl rfl)
def dkwX0_notFound_2 : List UInt8 := [29, 182, 1, 116, 167, 0, 13, 58, 7, 42, 29, 182, 1, 116, 25, 7, 191, 22, 4, 173]
abbrev dktX0_notFound_2 : List UInt8 := dkwX0_notFound_2 ++ []
def dkwX0_notFound_1 : List UInt8 := [16, 100, 42, 5, 27, 182, 0, 109, 100, 133, 105, 55, 4, 42, 182, 1, 101, 132, 6, 1, 167, 255, 228, 42]
abbrev dktX0_notFound_1 : List UInt8 := dkwX0_notFound_1 ++ dktX0_notFound_2
def dkwX0_notFound_0 : List UInt8 := [42, 180, 0, 66, 62, 10, 55, 4, 42, 182, 1, 110, 3, 54, 6, 21, 6, 28, 162, 0, 28, 22, 4]
abbrev dktX0_notFound_0 : List UInt8 := dkwX0_notFound_0 ++ dktX0_notFound_1
theorem dksX0_notFound_0 : cX0_notFound.data.toList.drop 0 = dktX0_notFound_0 := by decide +kernel
theorem dksX0_notFound_1 : cX0_notFound.data.toList.drop 23 = dktX0_notFound_1 := dk_seg dksX0_notFound_0 23 rfl rfl
theorem dksX0_notFound_2 : cX0_notFound.data.toList.drop 47 = dktX0_notFound_2 := dk_seg dksX0_notFound_1 24 rfl rfl
theorem dX0_notFound_0 : decode cX0_notFound 0 = .ok (.aload_n 0, 1) := dk_42 (dk_at dksX0_notFound_0 0 rfl rfl)
theorem dX0_notFound_1 : decode cX0_notFound 1 = .ok (.getfield 66, 3) := dk_180 0 66 (dk_at dksX0_notFound_0 1 rfl rfl)
theorem dX0_notFound_4 : decode cX0_notFound 4 = .ok (.istore_n 3, 1) := dk_62 (dk_at dksX0_notFound_0 4 rfl rfl)
theorem dX0_notFound_5 : decode cX0_notFound 5 = .ok (.lconst 1, 1) := dk_10 (dk_at dksX0_notFound_0 5 rfl rfl)
theorem dX0_notFound_6 : decode cX0_notFound 6 = .ok (.lstore 4, 2) := dk_55 4 (dk_at dksX0_notFound_0 6 rfl rfl)
theorem dX0_notFound_8 : decode cX0_notFound 8 = .ok (.aload_n 0, 1) := dk_42 (dk_at dksX0_notFound_0 8 rfl rfl)
theorem dX0_notFound_9 : decode cX0_notFound 9 = .ok (.invokevirtual 366, 3) := dk_182 1 110 (dk_at dksX0_notFound_0 9 rfl rfl)
theorem dX0_notFound_12 : decode cX0_notFound 12 = .ok (.iconst 0, 1) := dk_3 (dk_at dksX0_notFound_0 12 rfl rfl)
theorem dX0_notFound_13 : decode cX0_notFound 13 = .ok (.istore 6, 2) := dk_54 6 (dk_at dksX0_notFound_0 13 rfl rfl)
theorem dX0_notFound_15 : decode cX0_notFound 15 = .ok (.iload 6, 2) := dk_21 6 (dk_at dksX0_notFound_0 15 rfl rfl)
theorem dX0_notFound_17 : decode cX0_notFound 17 = .ok (.iload_n 2, 1) := dk_28 (dk_at dksX0_notFound_0 17 rfl rfl)
theorem dX0_notFound_18 : decode cX0_notFound 18 = .ok (.if_icmp .ge 28, 3) := dk_162 0 28 (dk_at dksX0_notFound_0 18 rfl rfl)
theorem dX0_notFound_21 : decode cX0_notFound 21 = .ok (.lload 4, 2) := dk_22 4 (dk_at dksX0_notFound_0 21 rfl rfl)
theorem dX0_notFound_23 : decode cX0_notFound 23 = .ok (.bipush 100, 2) := dk_16 100 (dk_at dksX0_notFound_1 0 rfl rfl)
theorem dX0_notFound_25 : decode cX0_notFound 25 = .ok (.aload_n 0, 1) := dk_42 (dk_at dksX0_notFound_1 2 rfl rfl)
theorem dX0_notFound_26 : decode cX0_notFound 26 = .ok (.iconst 2, 1) := dk_5 (dk_at dksX0_notFound_1 3 rfl rfl)
theorem dX0_notFound_27 : decode cX0_notFound 27 = .ok (.iload_n 1, 1) := dk_27 (dk_at dksX0_notFound_1 4 rfl rfl)
theorem dX0_notFound_28 : decode cX0_notFound 28 = .ok (.invokevirtual 109, 3) := dk_182 0 109 (dk_at dksX0_notFound_1 5 rfl rfl)
theorem dX0_notFound_31 : decode cX0_notFound 31 = .ok (.isub, 1) := dk_100 (dk_at dksX0_notFound_1 8 rfl rfl)
theorem dX0_notFound_32 : decode cX0_notFound 32 = .ok (.i2l, 1) := dk_133 (dk_at dksX0_notFound_1 9 rfl rfl)
theorem dX0_notFound_33 : decode cX0_notFound 33 = .ok (.lmul, 1) := dk_105 (dk_at dksX0_notFound_1 10 rfl rfl)
theorem dX0_notFound_34 : decode cX0_notFound 34 = .ok (.lstore 4, 2) := dk_55 4 (dk_at dksX0_notFound_1 11 rfl rfl)
theorem dX0_notFound_36 : decode cX0_notFound 36 = .ok (.aload_n 0, 1) := dk_42 (dk_at dksX0_notFound_1 13 rfl rfl)
theorem dX0_notFound_37 : decode cX0_notFound 37 = .ok (.invokevirtual 357, 3) := dk_182 1 101 (dk_at dksX0_notFound_1 14 rfl rfl)
theorem dX0_notFound_40 : decode cX0_notFound 40 = .ok (.iinc 6 1, 3) := dk_132 6 1 (dk_at dksX0_notFound_1 17 rfl rfl)
theorem dX0_notFound_43 : decode cX0_notFound 43 = .ok (.goto (-28), 3) := dk_167 255 228 (dk_at dksX0_notFound_1 20 rfl rfl)
theorem dX0_notFound_46 : decode cX0_notFound 46 = .ok (.aload_n 0, 1) := dk_42 (dk_at dksX0_notFound_1 23 rfl rfl)
theorem dX0_notFound_47 : decode cX0_notFound 47 = .ok (.iload_n 3, 1) := dk_29 (dk_at dksX0_notFound_2 0 rfl rfl)
theorem dX0_notFound_48 : decode cX0_notFound 48 = .ok (.invokevirtual 372, 3) := dk_182 1 116 (dk_at dksX0_notFound_2 1 rfl rfl)
theorem dX0_notFound_51 : decode cX0_notFound 51 = .ok (.goto 13, 3) := dk_167 0 13 (dk_at dksX0_notFound_2 4 rfl rfl)
theorem dX0_notFound_54 : decode cX0_notFound 54 = .ok (.astore 7, 2) := dk_58 7 (dk_at dksX0_notFound_2 7 rfl rfl)
theorem dX0_notFound_56 : decode cX0_notFound 56 = .ok (.aload_n 0, 1) := dk_42 (dk_at dksX0_notFound_2 9 rfl rfl)
theorem dX0_notFound_57 : decode cX0_notFound 57 = .ok (.iload_n 3, 1) := dk_29 (dk_at dksX0_notFound_2 10 rfl rfl)
theorem dX0_notFound_58 : decode cX0_notFound 58 = .ok (.invokevirtual 372, 3) := dk_182 1 116 (dk_at dksX0_notFound_2 11 rfl rfl)
theorem dX0_notFound_61 : decode cX0_notFound 61 = .ok (.aload 7, 2) := dk_25 7 (dk_at dksX0_notFound_2 14 rfl rfl)
theorem dX0_notFound_63 : decode cX0_notFound 63 = .ok (.athrow, 1) := dk_191 (dk_at dksX0_notFound_2 16 rfl rfl)
theorem dX0_notFound_64 : decode cX0_notFound 64 = .ok (.lload 4, 2) := dk_22 4 (dk_at dksX0_notFound_2 17 rfl rfl)
theorem dX0_notFound_66 : decode cX0_notFound 66 = .ok (.lreturn, 1) := dk_173 (dk_at dksX0_notFound_2 19 rfl rfl)
def dkwX0_lowest_1 : List UInt8 := [22, 9, 55, 7, 167, 255, 234, 21, 4, 154, 0, 7, 30, 167, 0, 4, 32, 22, 5, 109, 173]
abbrev dktX0_lowest_1 : List UInt8 := dkwX0_lowest_1 ++ []
def dkwX0_lowest_0 : List UInt8 := [30, 55, 5, 32, 55, 7, 22, 7, 9, 148, 153, 0, 21, 22, 5, 22, 7, 113, 55, 9, 22, 7, 55, 5]
abbrev dktX0_lowest_0 : List UInt8 := dkwX0_lowest_0 ++ dktX0_lowest_1
theorem dksX0_lowest_0 : cX0_lowest.data.toList.drop 0 = dktX0_lowest_0 := by decide +kernel
theorem dksX0_lowest_1 : cX0_lowest.data.toList.drop 24 = dktX0_lowest_1 := dk_seg dksX0_lowest_0 24 rfl rfl
theorem dX0_lowest_0 : decode cX0_lowest 0 = .ok (.lload_n 0, 1) := dk_30 (dk_at dksX0_lowest_0 0 rfl rfl)
theorem dX0_lowest_1 : decode cX0_lowest 1 = .ok (.lstore 5, 2) := dk_55 5 (dk_at dksX0_lowest_0 1 rfl rfl)
theorem dX0_lowest_3 : decode cX0_lowest 3 = .ok (.lload_n 2, 1) := dk_32 (dk_at dksX0_lowest_0 3 rfl rfl)
theorem dX0_lowest_4 : decode cX0_lowest 4 = .ok (.lstore 7, 2) := dk_55 7 (dk_at dksX0_lowest_0 4 rfl rfl)
theorem dX0_lowest_6 : decode cX0_lowest 6 = .ok (.lload 7, 2) := dk_22 7 (dk_at dksX0_lowest_0 6 rfl rfl)
theorem dX0_lowest_8 : decode cX0_lowest 8 = .ok (.lconst 0, 1) := dk_9 (dk_at dksX0_lowest_0 8 rfl rfl)
theorem dX0_lowest_9 : decode cX0_lowest 9 = .ok (.lcmp, 1) := dk_148 (dk_at dksX0_lowest_0 9 rfl rfl)
theorem dX0_lowest_10 : decode cX0_lowest 10 = .ok (.ifCond .eq 21, 3) := dk_153 0 21 (dk_at dksX0_lowest_0 10 rfl rfl)
theorem dX0_lowest_13 : decode cX0_lowest 13 = .ok (.lload 5, 2) := dk_22 5 (dk_at dksX0_lowest_0 13 rfl rfl)
theorem dX0_lowest_15 : decode cX0_lowest 15 = .ok (.lload 7, 2) := dk_22 7 (dk_at dksX0_lowest_0 15 rfl rfl)
theorem dX0_lowest_17 : decode cX0_lowest 17 = .ok (.lrem, 1) := dk_113 (dk_at dksX0_lowest_0 17 rfl rfl)
theorem dX0_lowest_18 : decode cX0_lowest 18 = .ok (.lstore 9, 2) := dk_55 9 (dk_at dksX0_lowest_0 18 rfl rfl)
theorem dX0_lowest_20 : decode cX0_lowest 20 = .ok (.lload 7, 2) := dk_22 7 (dk_at dksX0_lowest_0 20 rfl rfl)
theorem dX0_lowest_22 : decode cX0_lowest 22 = .ok (.lstore 5, 2) := dk_55 5 (dk_at dksX0_lowest_0 22 rfl rfl)
theorem dX0_lowest_24 : decode cX0_lowest 24 = .ok (.lload 9, 2) := dk_22 9 (dk_at dksX0_lowest_1 0 rfl rfl)
theorem dX0_lowest_26 : decode cX0_lowest 26 = .ok (.lstore 7, 2) := dk_55 7 (dk_at dksX0_lowest_1 2 rfl rfl)
theorem dX0_lowest_28 : decode cX0_lowest 28 = .ok (.goto (-22), 3) := dk_167 255 234 (dk_at dksX0_lowest_1 4 rfl rfl)
theorem dX0_lowest_31 : decode cX0_lowest 31 = .ok (.iload 4, 2) := dk_21 4 (dk_at dksX0_lowest_1 7 rfl rfl)
theorem dX0_lowest_33 : decode cX0_lowest 33 = .ok (.ifCond .ne 7, 3) := dk_154 0 7 (dk_at dksX0_lowest_1 9 rfl rfl)
theorem dX0_lowest_36 : decode cX0_lowest 36 = .ok (.lload_n 0, 1) := dk_30 (dk_at dksX0_lowest_1 12 rfl rfl)
theorem dX0_lowest_37 : decode cX0_lowest 37 = .ok (.goto 4, 3) := dk_167 0 4 (dk_at dksX0_lowest_1 13 rfl rfl)
theorem dX0_lowest_40 : decode cX0_lowest 40 = .ok (.lload_n 2, 1) := dk_32 (dk_at dksX0_lowest_1 16 rfl rfl)
theorem dX0_lowest_41 : decode cX0_lowest 41 = .ok (.lload 5, 2) := dk_22 5 (dk_at dksX0_lowest_1 17 rfl rfl)
theorem dX0_lowest_43 : decode cX0_lowest 43 = .ok (.ldiv, 1) := dk_109 (dk_at dksX0_lowest_1 19 rfl rfl)
theorem dX0_lowest_44 : decode cX0_lowest 44 = .ok (.lreturn, 1) := dk_173 (dk_at dksX0_lowest_1 20 rfl rfl)
def dkwX0_soil_4 : List UInt8 := [167, 0, 5, 21, 5, 172]
abbrev dktX0_soil_4 : List UInt8 := dkwX0_soil_4 ++ []
def dkwX0_soil_3 : List UInt8 := [54, 4, 21, 5, 21, 7, 184, 0, 7, 54, 5, 132, 6, 1, 167, 255, 210, 29, 154, 0, 8, 21, 4]
abbrev dktX0_soil_3 : List UInt8 := dkwX0_soil_3 ++ dktX0_soil_4
def dkwX0_soil_2 : List UInt8 := [28, 7, 21, 6, 182, 1, 148, 54, 7, 21, 7, 21, 5, 164, 0, 8, 21, 6, 167, 0, 5, 21, 4]
abbrev dktX0_soil_2 : List UInt8 := dkwX0_soil_2 ++ dktX0_soil_3
def dkwX0_soil_1 : List UInt8 := [154, 0, 6, 16, 254, 172, 2, 54, 4, 2, 54, 5, 3, 54, 6, 21, 6, 16, 8, 162, 0, 45, 42, 27]
abbrev dktX0_soil_1 : List UInt8 := dkwX0_soil_1 ++ dktX0_soil_2
def dkwX0_soil_0 : List UInt8 := [42, 27, 182, 0, 61, 153, 0, 20, 28, 184, 1, 121, 153, 0, 13, 29, 133, 9, 10, 184, 0, 14]
abbrev dktX0_soil_0 : List UInt8 := dkwX0_soil_0 ++ dktX0_soil_1
theorem dksX0_soil_0 : cX0_soil.data.toList.drop 0 = dktX0_soil_0 := by decide +kernel
theorem dksX0_soil_1 : cX0_soil.data.toList.drop 22 = dktX0_soil_1 := dk_seg dksX0_soil_0 22 rfl rfl
theorem dksX0_soil_2 : cX0_soil.data.toList.drop 46 = dktX0_soil_2 := dk_seg dksX0_soil_1 24 rfl rfl
theorem dksX0_soil_3 : cX0_soil.data.toList.drop 69 = dktX0_soil_3 := dk_seg dksX0_soil_2 23 rfl rfl
theorem dksX0_soil_4 : cX0_soil.data.toList.drop 92 = dktX0_soil_4 := dk_seg dksX0_soil_3 23 rfl rfl
theorem dX0_soil_0 : decode cX0_soil 0 = .ok (.aload_n 0, 1) := dk_42 (dk_at dksX0_soil_0 0 rfl rfl)
theorem dX0_soil_1 : decode cX0_soil 1 = .ok (.iload_n 1, 1) := dk_27 (dk_at dksX0_soil_0 1 rfl rfl)
theorem dX0_soil_2 : decode cX0_soil 2 = .ok (.invokevirtual 61, 3) := dk_182 0 61 (dk_at dksX0_soil_0 2 rfl rfl)
theorem dX0_soil_5 : decode cX0_soil 5 = .ok (.ifCond .eq 20, 3) := dk_153 0 20 (dk_at dksX0_soil_0 5 rfl rfl)
theorem dX0_soil_8 : decode cX0_soil 8 = .ok (.iload_n 2, 1) := dk_28 (dk_at dksX0_soil_0 8 rfl rfl)
theorem dX0_soil_9 : decode cX0_soil 9 = .ok (.invokestatic 377, 3) := dk_184 1 121 (dk_at dksX0_soil_0 9 rfl rfl)
theorem dX0_soil_12 : decode cX0_soil 12 = .ok (.ifCond .eq 13, 3) := dk_153 0 13 (dk_at dksX0_soil_0 12 rfl rfl)
theorem dX0_soil_15 : decode cX0_soil 15 = .ok (.iload_n 3, 1) := dk_29 (dk_at dksX0_soil_0 15 rfl rfl)
theorem dX0_soil_16 : decode cX0_soil 16 = .ok (.i2l, 1) := dk_133 (dk_at dksX0_soil_0 16 rfl rfl)
theorem dX0_soil_17 : decode cX0_soil 17 = .ok (.lconst 0, 1) := dk_9 (dk_at dksX0_soil_0 17 rfl rfl)
theorem dX0_soil_18 : decode cX0_soil 18 = .ok (.lconst 1, 1) := dk_10 (dk_at dksX0_soil_0 18 rfl rfl)
theorem dX0_soil_19 : decode cX0_soil 19 = .ok (.invokestatic 14, 3) := dk_184 0 14 (dk_at dksX0_soil_0 19 rfl rfl)
theorem dX0_soil_22 : decode cX0_soil 22 = .ok (.ifCond .ne 6, 3) := dk_154 0 6 (dk_at dksX0_soil_1 0 rfl rfl)
theorem dX0_soil_25 : decode cX0_soil 25 = .ok (.bipush (-2), 2) := dk_16 254 (dk_at dksX0_soil_1 3 rfl rfl)
theorem dX0_soil_27 : decode cX0_soil 27 = .ok (.ireturn, 1) := dk_172 (dk_at dksX0_soil_1 5 rfl rfl)
theorem dX0_soil_28 : decode cX0_soil 28 = .ok (.iconst (-1), 1) := dk_2 (dk_at dksX0_soil_1 6 rfl rfl)
theorem dX0_soil_29 : decode cX0_soil 29 = .ok (.istore 4, 2) := dk_54 4 (dk_at dksX0_soil_1 7 rfl rfl)
theorem dX0_soil_31 : decode cX0_soil 31 = .ok (.iconst (-1), 1) := dk_2 (dk_at dksX0_soil_1 9 rfl rfl)
theorem dX0_soil_32 : decode cX0_soil 32 = .ok (.istore 5, 2) := dk_54 5 (dk_at dksX0_soil_1 10 rfl rfl)
theorem dX0_soil_34 : decode cX0_soil 34 = .ok (.iconst 0, 1) := dk_3 (dk_at dksX0_soil_1 12 rfl rfl)
theorem dX0_soil_35 : decode cX0_soil 35 = .ok (.istore 6, 2) := dk_54 6 (dk_at dksX0_soil_1 13 rfl rfl)
theorem dX0_soil_37 : decode cX0_soil 37 = .ok (.iload 6, 2) := dk_21 6 (dk_at dksX0_soil_1 15 rfl rfl)
theorem dX0_soil_39 : decode cX0_soil 39 = .ok (.bipush 8, 2) := dk_16 8 (dk_at dksX0_soil_1 17 rfl rfl)
theorem dX0_soil_41 : decode cX0_soil 41 = .ok (.if_icmp .ge 45, 3) := dk_162 0 45 (dk_at dksX0_soil_1 19 rfl rfl)
theorem dX0_soil_44 : decode cX0_soil 44 = .ok (.aload_n 0, 1) := dk_42 (dk_at dksX0_soil_1 22 rfl rfl)
theorem dX0_soil_45 : decode cX0_soil 45 = .ok (.iload_n 1, 1) := dk_27 (dk_at dksX0_soil_1 23 rfl rfl)
theorem dX0_soil_46 : decode cX0_soil 46 = .ok (.iload_n 2, 1) := dk_28 (dk_at dksX0_soil_2 0 rfl rfl)
theorem dX0_soil_47 : decode cX0_soil 47 = .ok (.iconst 4, 1) := dk_7 (dk_at dksX0_soil_2 1 rfl rfl)
theorem dX0_soil_48 : decode cX0_soil 48 = .ok (.iload 6, 2) := dk_21 6 (dk_at dksX0_soil_2 2 rfl rfl)
theorem dX0_soil_50 : decode cX0_soil 50 = .ok (.invokevirtual 404, 3) := dk_182 1 148 (dk_at dksX0_soil_2 4 rfl rfl)
theorem dX0_soil_53 : decode cX0_soil 53 = .ok (.istore 7, 2) := dk_54 7 (dk_at dksX0_soil_2 7 rfl rfl)
theorem dX0_soil_55 : decode cX0_soil 55 = .ok (.iload 7, 2) := dk_21 7 (dk_at dksX0_soil_2 9 rfl rfl)
theorem dX0_soil_57 : decode cX0_soil 57 = .ok (.iload 5, 2) := dk_21 5 (dk_at dksX0_soil_2 11 rfl rfl)
theorem dX0_soil_59 : decode cX0_soil 59 = .ok (.if_icmp .le 8, 3) := dk_164 0 8 (dk_at dksX0_soil_2 13 rfl rfl)
theorem dX0_soil_62 : decode cX0_soil 62 = .ok (.iload 6, 2) := dk_21 6 (dk_at dksX0_soil_2 16 rfl rfl)
theorem dX0_soil_64 : decode cX0_soil 64 = .ok (.goto 5, 3) := dk_167 0 5 (dk_at dksX0_soil_2 18 rfl rfl)
theorem dX0_soil_67 : decode cX0_soil 67 = .ok (.iload 4, 2) := dk_21 4 (dk_at dksX0_soil_2 21 rfl rfl)
theorem dX0_soil_69 : decode cX0_soil 69 = .ok (.istore 4, 2) := dk_54 4 (dk_at dksX0_soil_3 0 rfl rfl)
theorem dX0_soil_71 : decode cX0_soil 71 = .ok (.iload 5, 2) := dk_21 5 (dk_at dksX0_soil_3 2 rfl rfl)
theorem dX0_soil_73 : decode cX0_soil 73 = .ok (.iload 7, 2) := dk_21 7 (dk_at dksX0_soil_3 4 rfl rfl)
theorem dX0_soil_75 : decode cX0_soil 75 = .ok (.invokestatic 7, 3) := dk_184 0 7 (dk_at dksX0_soil_3 6 rfl rfl)
theorem dX0_soil_78 : decode cX0_soil 78 = .ok (.istore 5, 2) := dk_54 5 (dk_at dksX0_soil_3 9 rfl rfl)
theorem dX0_soil_80 : decode cX0_soil 80 = .ok (.iinc 6 1, 3) := dk_132 6 1 (dk_at dksX0_soil_3 11 rfl rfl)
theorem dX0_soil_83 : decode cX0_soil 83 = .ok (.goto (-46), 3) := dk_167 255 210 (dk_at dksX0_soil_3 14 rfl rfl)
theorem dX0_soil_86 : decode cX0_soil 86 = .ok (.iload_n 3, 1) := dk_29 (dk_at dksX0_soil_3 17 rfl rfl)
theorem dX0_soil_87 : decode cX0_soil 87 = .ok (.ifCond .ne 8, 3) := dk_154 0 8 (dk_at dksX0_soil_3 18 rfl rfl)
theorem dX0_soil_90 : decode cX0_soil 90 = .ok (.iload 4, 2) := dk_21 4 (dk_at dksX0_soil_3 21 rfl rfl)
theorem dX0_soil_92 : decode cX0_soil 92 = .ok (.goto 5, 3) := dk_167 0 5 (dk_at dksX0_soil_4 0 rfl rfl)
theorem dX0_soil_95 : decode cX0_soil 95 = .ok (.iload 5, 2) := dk_21 5 (dk_at dksX0_soil_4 3 rfl rfl)
theorem dX0_soil_97 : decode cX0_soil 97 = .ok (.ireturn, 1) := dk_172 (dk_at dksX0_soil_4 5 rfl rfl)
def dkwX0_manyBy_2 : List UInt8 := [27, 21, 5, 182, 0, 90, 25, 7, 191]
abbrev dktX0_manyBy_2 : List UInt8 := dkwX0_manyBy_2 ++ []
def dkwX0_manyBy_1 : List UInt8 := [180, 1, 42, 28, 50, 27, 46, 54, 6, 42, 29, 27, 21, 5, 182, 0, 90, 21, 6, 172, 58, 7, 42, 29]
abbrev dktX0_manyBy_1 : List UInt8 := dkwX0_manyBy_1 ++ dktX0_manyBy_2
def dkwX0_manyBy_0 : List UInt8 := [42, 27, 29, 182, 0, 87, 54, 5, 42, 29, 27, 21, 4, 182, 0, 90, 42, 28, 182, 1, 126, 42]
abbrev dktX0_manyBy_0 : List UInt8 := dkwX0_manyBy_0 ++ dktX0_manyBy_1
theorem dksX0_manyBy_0 : cX0_manyBy.data.toList.drop 0 = dktX0_manyBy_0 := by decide +kernel
theorem dksX0_manyBy_1 : cX0_manyBy.data.toList.drop 22 = dktX0_manyBy_1 := dk_seg dksX0_manyBy_0 22 rfl rfl
theorem dksX0_manyBy_2 : cX0_manyBy.data.toList.drop 46 = dktX0_manyBy_2 := dk_seg dksX0_manyBy_1 24 rfl rfl
theorem dX0_manyBy_0 : decode cX0_manyBy 0 = .ok (.aload_n 0, 1) := dk_42 (dk_at dksX0_manyBy_0 0 rfl rfl)
theorem dX0_manyBy_1 : decode cX0_manyBy 1 = .ok (.iload_n 1, 1) := dk_27 (dk_at dksX0_manyBy_0 1 rfl rfl)
theorem dX0_manyBy_2 : decode cX0_manyBy 2 = .ok (.iload_n 3, 1) := dk_29 (dk_at dksX0_manyBy_0 2 rfl rfl)
theorem dX0_manyBy_3 : decode cX0_manyBy 3 = .ok (.invokevirtual 87, 3) := dk_182 0 87 (dk_at dksX0_manyBy_0 3 rfl rfl)
theorem dX0_manyBy_6 : decode cX0_manyBy 6 = .ok (.istore 5, 2) := dk_54 5 (dk_at dksX0_manyBy_0 6 rfl rfl)
theorem dX0_manyBy_8 : decode cX0_manyBy 8 = .ok (.aload_n 0, 1) := dk_42 (dk_at dksX0_manyBy_0 8 rfl rfl)
theorem dX0_manyBy_9 : decode cX0_manyBy 9 = .ok (.iload_n 3, 1) := dk_29 (dk_at dksX0_manyBy_0 9 rfl rfl)
theorem dX0_manyBy_10 : decode cX0_manyBy 10 = .ok (.iload_n 1, 1) := dk_27 (dk_at dksX0_manyBy_0 10 rfl rfl)
theorem dX0_manyBy_11 : decode cX0_manyBy 11 = .ok (.iload 4, 2) := dk_21 4 (dk_at dksX0_manyBy_0 11 rfl rfl)
theorem dX0_manyBy_13 : decode cX0_manyBy 13 = .ok (.invokevirtual 90, 3) := dk_182 0 90 (dk_at dksX0_manyBy_0 13 rfl rfl)
theorem dX0_manyBy_16 : decode cX0_manyBy 16 = .ok (.aload_n 0, 1) := dk_42 (dk_at dksX0_manyBy_0 16 rfl rfl)
theorem dX0_manyBy_17 : decode cX0_manyBy 17 = .ok (.iload_n 2, 1) := dk_28 (dk_at dksX0_manyBy_0 17 rfl rfl)
theorem dX0_manyBy_18 : decode cX0_manyBy 18 = .ok (.invokevirtual 382, 3) := dk_182 1 126 (dk_at dksX0_manyBy_0 18 rfl rfl)
theorem dX0_manyBy_21 : decode cX0_manyBy 21 = .ok (.aload_n 0, 1) := dk_42 (dk_at dksX0_manyBy_0 21 rfl rfl)
theorem dX0_manyBy_22 : decode cX0_manyBy 22 = .ok (.getfield 298, 3) := dk_180 1 42 (dk_at dksX0_manyBy_1 0 rfl rfl)
theorem dX0_manyBy_25 : decode cX0_manyBy 25 = .ok (.iload_n 2, 1) := dk_28 (dk_at dksX0_manyBy_1 3 rfl rfl)
theorem dX0_manyBy_26 : decode cX0_manyBy 26 = .ok (.aaload, 1) := dk_50 (dk_at dksX0_manyBy_1 4 rfl rfl)
theorem dX0_manyBy_27 : decode cX0_manyBy 27 = .ok (.iload_n 1, 1) := dk_27 (dk_at dksX0_manyBy_1 5 rfl rfl)
theorem dX0_manyBy_28 : decode cX0_manyBy 28 = .ok (.iaload, 1) := dk_46 (dk_at dksX0_manyBy_1 6 rfl rfl)
theorem dX0_manyBy_29 : decode cX0_manyBy 29 = .ok (.istore 6, 2) := dk_54 6 (dk_at dksX0_manyBy_1 7 rfl rfl)
theorem dX0_manyBy_31 : decode cX0_manyBy 31 = .ok (.aload_n 0, 1) := dk_42 (dk_at dksX0_manyBy_1 9 rfl rfl)
theorem dX0_manyBy_32 : decode cX0_manyBy 32 = .ok (.iload_n 3, 1) := dk_29 (dk_at dksX0_manyBy_1 10 rfl rfl)
theorem dX0_manyBy_33 : decode cX0_manyBy 33 = .ok (.iload_n 1, 1) := dk_27 (dk_at dksX0_manyBy_1 11 rfl rfl)
theorem dX0_manyBy_34 : decode cX0_manyBy 34 = .ok (.iload 5, 2) := dk_21 5 (dk_at dksX0_manyBy_1 12 rfl rfl)
theorem dX0_manyBy_36 : decode cX0_manyBy 36 = .ok (.invokevirtual 90, 3) := dk_182 0 90 (dk_at dksX0_manyBy_1 14 rfl rfl)
theorem dX0_manyBy_39 : decode cX0_manyBy 39 = .ok (.iload 6, 2) := dk_21 6 (dk_at dksX0_manyBy_1 17 rfl rfl)
theorem dX0_manyBy_41 : decode cX0_manyBy 41 = .ok (.ireturn, 1) := dk_172 (dk_at dksX0_manyBy_1 19 rfl rfl)
theorem dX0_manyBy_42 : decode cX0_manyBy 42 = .ok (.astore 7, 2) := dk_58 7 (dk_at dksX0_manyBy_1 20 rfl rfl)
theorem dX0_manyBy_44 : decode cX0_manyBy 44 = .ok (.aload_n 0, 1) := dk_42 (dk_at dksX0_manyBy_1 22 rfl rfl)
theorem dX0_manyBy_45 : decode cX0_manyBy 45 = .ok (.iload_n 3, 1) := dk_29 (dk_at dksX0_manyBy_1 23 rfl rfl)
theorem dX0_manyBy_46 : decode cX0_manyBy 46 = .ok (.iload_n 1, 1) := dk_27 (dk_at dksX0_manyBy_2 0 rfl rfl)
theorem dX0_manyBy_47 : decode cX0_manyBy 47 = .ok (.iload 5, 2) := dk_21 5 (dk_at dksX0_manyBy_2 1 rfl rfl)
theorem dX0_manyBy_49 : decode cX0_manyBy 49 = .ok (.invokevirtual 90, 3) := dk_182 0 90 (dk_at dksX0_manyBy_2 3 rfl rfl)
theorem dX0_manyBy_52 : decode cX0_manyBy 52 = .ok (.aload 7, 2) := dk_25 7 (dk_at dksX0_manyBy_2 6 rfl rfl)
theorem dX0_manyBy_54 : decode cX0_manyBy 54 = .ok (.athrow, 1) := dk_191 (dk_at dksX0_manyBy_2 8 rfl rfl)
def dkwX0_sown_3 : List UInt8 := [120, 167, 0, 4, 3, 128, 62, 132, 4, 1, 167, 255, 214, 29, 172]
abbrev dktX0_sown_3 : List UInt8 := dkwX0_sown_3 ++ []
def dkwX0_sown_2 : List UInt8 := [42, 27, 16, 10, 108, 27, 16, 10, 112, 21, 4, 184, 0, 55, 28, 182, 1, 154, 153, 0, 10, 4, 21, 4]
abbrev dktX0_sown_2 : List UInt8 := dkwX0_sown_2 ++ dktX0_sown_3
def dkwX0_sown_1 : List UInt8 := [180, 0, 18, 16, 8, 160, 0, 6, 16, 252, 172, 3, 62, 3, 54, 4, 21, 4, 16, 8, 162, 0, 41, 29]
abbrev dktX0_sown_1 : List UInt8 := dkwX0_sown_1 ++ dktX0_sown_2
def dkwX0_sown_0 : List UInt8 := [27, 133, 9, 20, 1, 152, 184, 0, 14, 153, 0, 10, 28, 184, 1, 121, 154, 0, 6, 16, 254, 172, 42]
abbrev dktX0_sown_0 : List UInt8 := dkwX0_sown_0 ++ dktX0_sown_1
theorem dksX0_sown_0 : cX0_sown.data.toList.drop 0 = dktX0_sown_0 := by decide +kernel
theorem dksX0_sown_1 : cX0_sown.data.toList.drop 23 = dktX0_sown_1 := dk_seg dksX0_sown_0 23 rfl rfl
theorem dksX0_sown_2 : cX0_sown.data.toList.drop 47 = dktX0_sown_2 := dk_seg dksX0_sown_1 24 rfl rfl
theorem dksX0_sown_3 : cX0_sown.data.toList.drop 71 = dktX0_sown_3 := dk_seg dksX0_sown_2 24 rfl rfl
theorem dX0_sown_0 : decode cX0_sown 0 = .ok (.iload_n 1, 1) := dk_27 (dk_at dksX0_sown_0 0 rfl rfl)
theorem dX0_sown_1 : decode cX0_sown 1 = .ok (.i2l, 1) := dk_133 (dk_at dksX0_sown_0 1 rfl rfl)
theorem dX0_sown_2 : decode cX0_sown 2 = .ok (.lconst 0, 1) := dk_9 (dk_at dksX0_sown_0 2 rfl rfl)
theorem dX0_sown_3 : decode cX0_sown 3 = .ok (.ldc2_w 408, 3) := dk_20 1 152 (dk_at dksX0_sown_0 3 rfl rfl)
theorem dX0_sown_6 : decode cX0_sown 6 = .ok (.invokestatic 14, 3) := dk_184 0 14 (dk_at dksX0_sown_0 6 rfl rfl)
theorem dX0_sown_9 : decode cX0_sown 9 = .ok (.ifCond .eq 10, 3) := dk_153 0 10 (dk_at dksX0_sown_0 9 rfl rfl)
theorem dX0_sown_12 : decode cX0_sown 12 = .ok (.iload_n 2, 1) := dk_28 (dk_at dksX0_sown_0 12 rfl rfl)
theorem dX0_sown_13 : decode cX0_sown 13 = .ok (.invokestatic 377, 3) := dk_184 1 121 (dk_at dksX0_sown_0 13 rfl rfl)
theorem dX0_sown_16 : decode cX0_sown 16 = .ok (.ifCond .ne 6, 3) := dk_154 0 6 (dk_at dksX0_sown_0 16 rfl rfl)
theorem dX0_sown_19 : decode cX0_sown 19 = .ok (.bipush (-2), 2) := dk_16 254 (dk_at dksX0_sown_0 19 rfl rfl)
theorem dX0_sown_21 : decode cX0_sown 21 = .ok (.ireturn, 1) := dk_172 (dk_at dksX0_sown_0 21 rfl rfl)
theorem dX0_sown_22 : decode cX0_sown 22 = .ok (.aload_n 0, 1) := dk_42 (dk_at dksX0_sown_0 22 rfl rfl)
theorem dX0_sown_23 : decode cX0_sown 23 = .ok (.getfield 18, 3) := dk_180 0 18 (dk_at dksX0_sown_1 0 rfl rfl)
theorem dX0_sown_26 : decode cX0_sown 26 = .ok (.bipush 8, 2) := dk_16 8 (dk_at dksX0_sown_1 3 rfl rfl)
theorem dX0_sown_28 : decode cX0_sown 28 = .ok (.if_icmp .ne 6, 3) := dk_160 0 6 (dk_at dksX0_sown_1 5 rfl rfl)
theorem dX0_sown_31 : decode cX0_sown 31 = .ok (.bipush (-4), 2) := dk_16 252 (dk_at dksX0_sown_1 8 rfl rfl)
theorem dX0_sown_33 : decode cX0_sown 33 = .ok (.ireturn, 1) := dk_172 (dk_at dksX0_sown_1 10 rfl rfl)
theorem dX0_sown_34 : decode cX0_sown 34 = .ok (.iconst 0, 1) := dk_3 (dk_at dksX0_sown_1 11 rfl rfl)
theorem dX0_sown_35 : decode cX0_sown 35 = .ok (.istore_n 3, 1) := dk_62 (dk_at dksX0_sown_1 12 rfl rfl)
theorem dX0_sown_36 : decode cX0_sown 36 = .ok (.iconst 0, 1) := dk_3 (dk_at dksX0_sown_1 13 rfl rfl)
theorem dX0_sown_37 : decode cX0_sown 37 = .ok (.istore 4, 2) := dk_54 4 (dk_at dksX0_sown_1 14 rfl rfl)
theorem dX0_sown_39 : decode cX0_sown 39 = .ok (.iload 4, 2) := dk_21 4 (dk_at dksX0_sown_1 16 rfl rfl)
theorem dX0_sown_41 : decode cX0_sown 41 = .ok (.bipush 8, 2) := dk_16 8 (dk_at dksX0_sown_1 18 rfl rfl)
theorem dX0_sown_43 : decode cX0_sown 43 = .ok (.if_icmp .ge 41, 3) := dk_162 0 41 (dk_at dksX0_sown_1 20 rfl rfl)
theorem dX0_sown_46 : decode cX0_sown 46 = .ok (.iload_n 3, 1) := dk_29 (dk_at dksX0_sown_1 23 rfl rfl)
theorem dX0_sown_47 : decode cX0_sown 47 = .ok (.aload_n 0, 1) := dk_42 (dk_at dksX0_sown_2 0 rfl rfl)
theorem dX0_sown_48 : decode cX0_sown 48 = .ok (.iload_n 1, 1) := dk_27 (dk_at dksX0_sown_2 1 rfl rfl)
theorem dX0_sown_49 : decode cX0_sown 49 = .ok (.bipush 10, 2) := dk_16 10 (dk_at dksX0_sown_2 2 rfl rfl)
theorem dX0_sown_51 : decode cX0_sown 51 = .ok (.idiv, 1) := dk_108 (dk_at dksX0_sown_2 4 rfl rfl)
theorem dX0_sown_52 : decode cX0_sown 52 = .ok (.iload_n 1, 1) := dk_27 (dk_at dksX0_sown_2 5 rfl rfl)
theorem dX0_sown_53 : decode cX0_sown 53 = .ok (.bipush 10, 2) := dk_16 10 (dk_at dksX0_sown_2 6 rfl rfl)
theorem dX0_sown_55 : decode cX0_sown 55 = .ok (.irem, 1) := dk_112 (dk_at dksX0_sown_2 8 rfl rfl)
theorem dX0_sown_56 : decode cX0_sown 56 = .ok (.iload 4, 2) := dk_21 4 (dk_at dksX0_sown_2 9 rfl rfl)
theorem dX0_sown_58 : decode cX0_sown 58 = .ok (.invokestatic 55, 3) := dk_184 0 55 (dk_at dksX0_sown_2 11 rfl rfl)
theorem dX0_sown_61 : decode cX0_sown 61 = .ok (.iload_n 2, 1) := dk_28 (dk_at dksX0_sown_2 14 rfl rfl)
theorem dX0_sown_62 : decode cX0_sown 62 = .ok (.invokevirtual 410, 3) := dk_182 1 154 (dk_at dksX0_sown_2 15 rfl rfl)
theorem dX0_sown_65 : decode cX0_sown 65 = .ok (.ifCond .eq 10, 3) := dk_153 0 10 (dk_at dksX0_sown_2 18 rfl rfl)
theorem dX0_sown_68 : decode cX0_sown 68 = .ok (.iconst 1, 1) := dk_4 (dk_at dksX0_sown_2 21 rfl rfl)
theorem dX0_sown_69 : decode cX0_sown 69 = .ok (.iload 4, 2) := dk_21 4 (dk_at dksX0_sown_2 22 rfl rfl)
theorem dX0_sown_71 : decode cX0_sown 71 = .ok (.ishl, 1) := dk_120 (dk_at dksX0_sown_3 0 rfl rfl)
theorem dX0_sown_72 : decode cX0_sown 72 = .ok (.goto 4, 3) := dk_167 0 4 (dk_at dksX0_sown_3 1 rfl rfl)
theorem dX0_sown_75 : decode cX0_sown 75 = .ok (.iconst 0, 1) := dk_3 (dk_at dksX0_sown_3 4 rfl rfl)
theorem dX0_sown_76 : decode cX0_sown 76 = .ok (.ior, 1) := dk_128 (dk_at dksX0_sown_3 5 rfl rfl)
theorem dX0_sown_77 : decode cX0_sown 77 = .ok (.istore_n 3, 1) := dk_62 (dk_at dksX0_sown_3 6 rfl rfl)
theorem dX0_sown_78 : decode cX0_sown 78 = .ok (.iinc 4 1, 3) := dk_132 4 1 (dk_at dksX0_sown_3 7 rfl rfl)
theorem dX0_sown_81 : decode cX0_sown 81 = .ok (.goto (-42), 3) := dk_167 255 214 (dk_at dksX0_sown_3 10 rfl rfl)
theorem dX0_sown_84 : decode cX0_sown 84 = .ok (.iload_n 3, 1) := dk_29 (dk_at dksX0_sown_3 13 rfl rfl)
theorem dX0_sown_85 : decode cX0_sown 85 = .ok (.ireturn, 1) := dk_172 (dk_at dksX0_sown_3 14 rfl rfl)
def dkwX0_isLeft_4 : List UInt8 := [191]
abbrev dktX0_isLeft_4 : List UInt8 := dkwX0_isLeft_4 ++ []
def dkwX0_isLeft_3 : List UInt8 := [58, 4, 42, 89, 180, 0, 18, 4, 100, 181, 0, 18, 42, 180, 0, 51, 42, 180, 0, 18, 1, 83, 25, 4]
abbrev dktX0_isLeft_3 : List UInt8 := dkwX0_isLeft_3 ++ dktX0_isLeft_4
def dkwX0_isLeft_2 : List UInt8 := [62, 42, 89, 180, 0, 18, 4, 100, 181, 0, 18, 42, 180, 0, 51, 42, 180, 0, 18, 1, 83, 29, 172]
abbrev dktX0_isLeft_2 : List UInt8 := dkwX0_isLeft_2 ++ dktX0_isLeft_3
def dkwX0_isLeft_1 : List UInt8 := [182, 1, 126, 42, 180, 1, 42, 28, 50, 42, 180, 0, 18, 4, 100, 46, 158, 0, 7, 4, 167, 0, 4, 3]
abbrev dktX0_isLeft_1 : List UInt8 := dkwX0_isLeft_1 ++ dktX0_isLeft_2
def dkwX0_isLeft_0 : List UInt8 := [42, 180, 0, 51, 42, 180, 0, 18, 43, 83, 42, 89, 180, 0, 18, 4, 96, 181, 0, 18, 42, 28]
abbrev dktX0_isLeft_0 : List UInt8 := dkwX0_isLeft_0 ++ dktX0_isLeft_1
theorem dksX0_isLeft_0 : cX0_isLeft.data.toList.drop 0 = dktX0_isLeft_0 := by decide +kernel
theorem dksX0_isLeft_1 : cX0_isLeft.data.toList.drop 22 = dktX0_isLeft_1 := dk_seg dksX0_isLeft_0 22 rfl rfl
theorem dksX0_isLeft_2 : cX0_isLeft.data.toList.drop 46 = dktX0_isLeft_2 := dk_seg dksX0_isLeft_1 24 rfl rfl
theorem dksX0_isLeft_3 : cX0_isLeft.data.toList.drop 69 = dktX0_isLeft_3 := dk_seg dksX0_isLeft_2 23 rfl rfl
theorem dksX0_isLeft_4 : cX0_isLeft.data.toList.drop 93 = dktX0_isLeft_4 := dk_seg dksX0_isLeft_3 24 rfl rfl
theorem dX0_isLeft_0 : decode cX0_isLeft 0 = .ok (.aload_n 0, 1) := dk_42 (dk_at dksX0_isLeft_0 0 rfl rfl)
theorem dX0_isLeft_1 : decode cX0_isLeft 1 = .ok (.getfield 51, 3) := dk_180 0 51 (dk_at dksX0_isLeft_0 1 rfl rfl)
theorem dX0_isLeft_4 : decode cX0_isLeft 4 = .ok (.aload_n 0, 1) := dk_42 (dk_at dksX0_isLeft_0 4 rfl rfl)
theorem dX0_isLeft_5 : decode cX0_isLeft 5 = .ok (.getfield 18, 3) := dk_180 0 18 (dk_at dksX0_isLeft_0 5 rfl rfl)
theorem dX0_isLeft_8 : decode cX0_isLeft 8 = .ok (.aload_n 1, 1) := dk_43 (dk_at dksX0_isLeft_0 8 rfl rfl)
theorem dX0_isLeft_9 : decode cX0_isLeft 9 = .ok (.aastore, 1) := dk_83 (dk_at dksX0_isLeft_0 9 rfl rfl)
theorem dX0_isLeft_10 : decode cX0_isLeft 10 = .ok (.aload_n 0, 1) := dk_42 (dk_at dksX0_isLeft_0 10 rfl rfl)
theorem dX0_isLeft_11 : decode cX0_isLeft 11 = .ok (.dup, 1) := dk_89 (dk_at dksX0_isLeft_0 11 rfl rfl)
theorem dX0_isLeft_12 : decode cX0_isLeft 12 = .ok (.getfield 18, 3) := dk_180 0 18 (dk_at dksX0_isLeft_0 12 rfl rfl)
theorem dX0_isLeft_15 : decode cX0_isLeft 15 = .ok (.iconst 1, 1) := dk_4 (dk_at dksX0_isLeft_0 15 rfl rfl)
theorem dX0_isLeft_16 : decode cX0_isLeft 16 = .ok (.iadd, 1) := dk_96 (dk_at dksX0_isLeft_0 16 rfl rfl)
theorem dX0_isLeft_17 : decode cX0_isLeft 17 = .ok (.putfield 18, 3) := dk_181 0 18 (dk_at dksX0_isLeft_0 17 rfl rfl)
theorem dX0_isLeft_20 : decode cX0_isLeft 20 = .ok (.aload_n 0, 1) := dk_42 (dk_at dksX0_isLeft_0 20 rfl rfl)
theorem dX0_isLeft_21 : decode cX0_isLeft 21 = .ok (.iload_n 2, 1) := dk_28 (dk_at dksX0_isLeft_0 21 rfl rfl)
theorem dX0_isLeft_22 : decode cX0_isLeft 22 = .ok (.invokevirtual 382, 3) := dk_182 1 126 (dk_at dksX0_isLeft_1 0 rfl rfl)
theorem dX0_isLeft_25 : decode cX0_isLeft 25 = .ok (.aload_n 0, 1) := dk_42 (dk_at dksX0_isLeft_1 3 rfl rfl)
theorem dX0_isLeft_26 : decode cX0_isLeft 26 = .ok (.getfield 298, 3) := dk_180 1 42 (dk_at dksX0_isLeft_1 4 rfl rfl)
theorem dX0_isLeft_29 : decode cX0_isLeft 29 = .ok (.iload_n 2, 1) := dk_28 (dk_at dksX0_isLeft_1 7 rfl rfl)
theorem dX0_isLeft_30 : decode cX0_isLeft 30 = .ok (.aaload, 1) := dk_50 (dk_at dksX0_isLeft_1 8 rfl rfl)
theorem dX0_isLeft_31 : decode cX0_isLeft 31 = .ok (.aload_n 0, 1) := dk_42 (dk_at dksX0_isLeft_1 9 rfl rfl)
theorem dX0_isLeft_32 : decode cX0_isLeft 32 = .ok (.getfield 18, 3) := dk_180 0 18 (dk_at dksX0_isLeft_1 10 rfl rfl)
theorem dX0_isLeft_35 : decode cX0_isLeft 35 = .ok (.iconst 1, 1) := dk_4 (dk_at dksX0_isLeft_1 13 rfl rfl)
theorem dX0_isLeft_36 : decode cX0_isLeft 36 = .ok (.isub, 1) := dk_100 (dk_at dksX0_isLeft_1 14 rfl rfl)
theorem dX0_isLeft_37 : decode cX0_isLeft 37 = .ok (.iaload, 1) := dk_46 (dk_at dksX0_isLeft_1 15 rfl rfl)
theorem dX0_isLeft_38 : decode cX0_isLeft 38 = .ok (.ifCond .le 7, 3) := dk_158 0 7 (dk_at dksX0_isLeft_1 16 rfl rfl)
theorem dX0_isLeft_41 : decode cX0_isLeft 41 = .ok (.iconst 1, 1) := dk_4 (dk_at dksX0_isLeft_1 19 rfl rfl)
theorem dX0_isLeft_42 : decode cX0_isLeft 42 = .ok (.goto 4, 3) := dk_167 0 4 (dk_at dksX0_isLeft_1 20 rfl rfl)
theorem dX0_isLeft_45 : decode cX0_isLeft 45 = .ok (.iconst 0, 1) := dk_3 (dk_at dksX0_isLeft_1 23 rfl rfl)
theorem dX0_isLeft_46 : decode cX0_isLeft 46 = .ok (.istore_n 3, 1) := dk_62 (dk_at dksX0_isLeft_2 0 rfl rfl)
theorem dX0_isLeft_47 : decode cX0_isLeft 47 = .ok (.aload_n 0, 1) := dk_42 (dk_at dksX0_isLeft_2 1 rfl rfl)
theorem dX0_isLeft_48 : decode cX0_isLeft 48 = .ok (.dup, 1) := dk_89 (dk_at dksX0_isLeft_2 2 rfl rfl)
theorem dX0_isLeft_49 : decode cX0_isLeft 49 = .ok (.getfield 18, 3) := dk_180 0 18 (dk_at dksX0_isLeft_2 3 rfl rfl)
theorem dX0_isLeft_52 : decode cX0_isLeft 52 = .ok (.iconst 1, 1) := dk_4 (dk_at dksX0_isLeft_2 6 rfl rfl)
theorem dX0_isLeft_53 : decode cX0_isLeft 53 = .ok (.isub, 1) := dk_100 (dk_at dksX0_isLeft_2 7 rfl rfl)
theorem dX0_isLeft_54 : decode cX0_isLeft 54 = .ok (.putfield 18, 3) := dk_181 0 18 (dk_at dksX0_isLeft_2 8 rfl rfl)
theorem dX0_isLeft_57 : decode cX0_isLeft 57 = .ok (.aload_n 0, 1) := dk_42 (dk_at dksX0_isLeft_2 11 rfl rfl)
theorem dX0_isLeft_58 : decode cX0_isLeft 58 = .ok (.getfield 51, 3) := dk_180 0 51 (dk_at dksX0_isLeft_2 12 rfl rfl)
theorem dX0_isLeft_61 : decode cX0_isLeft 61 = .ok (.aload_n 0, 1) := dk_42 (dk_at dksX0_isLeft_2 15 rfl rfl)
theorem dX0_isLeft_62 : decode cX0_isLeft 62 = .ok (.getfield 18, 3) := dk_180 0 18 (dk_at dksX0_isLeft_2 16 rfl rfl)
theorem dX0_isLeft_65 : decode cX0_isLeft 65 = .ok (.aconst_null, 1) := dk_1 (dk_at dksX0_isLeft_2 19 rfl rfl)
theorem dX0_isLeft_66 : decode cX0_isLeft 66 = .ok (.aastore, 1) := dk_83 (dk_at dksX0_isLeft_2 20 rfl rfl)
theorem dX0_isLeft_67 : decode cX0_isLeft 67 = .ok (.iload_n 3, 1) := dk_29 (dk_at dksX0_isLeft_2 21 rfl rfl)
theorem dX0_isLeft_68 : decode cX0_isLeft 68 = .ok (.ireturn, 1) := dk_172 (dk_at dksX0_isLeft_2 22 rfl rfl)
theorem dX0_isLeft_69 : decode cX0_isLeft 69 = .ok (.astore 4, 2) := dk_58 4 (dk_at dksX0_isLeft_3 0 rfl rfl)
theorem dX0_isLeft_71 : decode cX0_isLeft 71 = .ok (.aload_n 0, 1) := dk_42 (dk_at dksX0_isLeft_3 2 rfl rfl)
theorem dX0_isLeft_72 : decode cX0_isLeft 72 = .ok (.dup, 1) := dk_89 (dk_at dksX0_isLeft_3 3 rfl rfl)
theorem dX0_isLeft_73 : decode cX0_isLeft 73 = .ok (.getfield 18, 3) := dk_180 0 18 (dk_at dksX0_isLeft_3 4 rfl rfl)
theorem dX0_isLeft_76 : decode cX0_isLeft 76 = .ok (.iconst 1, 1) := dk_4 (dk_at dksX0_isLeft_3 7 rfl rfl)
theorem dX0_isLeft_77 : decode cX0_isLeft 77 = .ok (.isub, 1) := dk_100 (dk_at dksX0_isLeft_3 8 rfl rfl)
theorem dX0_isLeft_78 : decode cX0_isLeft 78 = .ok (.putfield 18, 3) := dk_181 0 18 (dk_at dksX0_isLeft_3 9 rfl rfl)
theorem dX0_isLeft_81 : decode cX0_isLeft 81 = .ok (.aload_n 0, 1) := dk_42 (dk_at dksX0_isLeft_3 12 rfl rfl)
theorem dX0_isLeft_82 : decode cX0_isLeft 82 = .ok (.getfield 51, 3) := dk_180 0 51 (dk_at dksX0_isLeft_3 13 rfl rfl)
theorem dX0_isLeft_85 : decode cX0_isLeft 85 = .ok (.aload_n 0, 1) := dk_42 (dk_at dksX0_isLeft_3 16 rfl rfl)
theorem dX0_isLeft_86 : decode cX0_isLeft 86 = .ok (.getfield 18, 3) := dk_180 0 18 (dk_at dksX0_isLeft_3 17 rfl rfl)
theorem dX0_isLeft_89 : decode cX0_isLeft 89 = .ok (.aconst_null, 1) := dk_1 (dk_at dksX0_isLeft_3 20 rfl rfl)
theorem dX0_isLeft_90 : decode cX0_isLeft 90 = .ok (.aastore, 1) := dk_83 (dk_at dksX0_isLeft_3 21 rfl rfl)
theorem dX0_isLeft_91 : decode cX0_isLeft 91 = .ok (.aload 4, 2) := dk_25 4 (dk_at dksX0_isLeft_3 22 rfl rfl)
theorem dX0_isLeft_93 : decode cX0_isLeft 93 = .ok (.athrow, 1) := dk_191 (dk_at dksX0_isLeft_4 0 rfl rfl)
def dkwX0_safest_3 : List UInt8 := [172]
abbrev dktX0_safest_3 : List UInt8 := dkwX0_safest_3 ++ []
def dkwX0_safest_2 : List UInt8 := [158, 0, 8, 21, 5, 167, 0, 4, 28, 61, 33, 22, 6, 184, 1, 160, 66, 132, 5, 1, 167, 255, 214, 28]
abbrev dktX0_safest_2 : List UInt8 := dkwX0_safest_2 ++ dktX0_safest_3
def dkwX0_safest_1 : List UInt8 := [21, 5, 42, 180, 0, 18, 162, 0, 39, 42, 21, 5, 27, 182, 1, 140, 55, 6, 22, 6, 33, 148]
abbrev dktX0_safest_1 : List UInt8 := dkwX0_safest_1 ++ dktX0_safest_2
def dkwX0_safest_0 : List UInt8 := [27, 133, 9, 20, 1, 134, 184, 0, 14, 154, 0, 6, 16, 254, 172, 2, 61, 20, 1, 158, 66, 3, 54, 5]
abbrev dktX0_safest_0 : List UInt8 := dkwX0_safest_0 ++ dktX0_safest_1
theorem dksX0_safest_0 : cX0_safest.data.toList.drop 0 = dktX0_safest_0 := by decide +kernel
theorem dksX0_safest_1 : cX0_safest.data.toList.drop 24 = dktX0_safest_1 := dk_seg dksX0_safest_0 24 rfl rfl
theorem dksX0_safest_2 : cX0_safest.data.toList.drop 46 = dktX0_safest_2 := dk_seg dksX0_safest_1 22 rfl rfl
theorem dksX0_safest_3 : cX0_safest.data.toList.drop 70 = dktX0_safest_3 := dk_seg dksX0_safest_2 24 rfl rfl
theorem dX0_safest_0 : decode cX0_safest 0 = .ok (.iload_n 1, 1) := dk_27 (dk_at dksX0_safest_0 0 rfl rfl)
theorem dX0_safest_1 : decode cX0_safest 1 = .ok (.i2l, 1) := dk_133 (dk_at dksX0_safest_0 1 rfl rfl)
theorem dX0_safest_2 : decode cX0_safest 2 = .ok (.lconst 0, 1) := dk_9 (dk_at dksX0_safest_0 2 rfl rfl)
theorem dX0_safest_3 : decode cX0_safest 3 = .ok (.ldc2_w 390, 3) := dk_20 1 134 (dk_at dksX0_safest_0 3 rfl rfl)
theorem dX0_safest_6 : decode cX0_safest 6 = .ok (.invokestatic 14, 3) := dk_184 0 14 (dk_at dksX0_safest_0 6 rfl rfl)
theorem dX0_safest_9 : decode cX0_safest 9 = .ok (.ifCond .ne 6, 3) := dk_154 0 6 (dk_at dksX0_safest_0 9 rfl rfl)
theorem dX0_safest_12 : decode cX0_safest 12 = .ok (.bipush (-2), 2) := dk_16 254 (dk_at dksX0_safest_0 12 rfl rfl)
theorem dX0_safest_14 : decode cX0_safest 14 = .ok (.ireturn, 1) := dk_172 (dk_at dksX0_safest_0 14 rfl rfl)
theorem dX0_safest_15 : decode cX0_safest 15 = .ok (.iconst (-1), 1) := dk_2 (dk_at dksX0_safest_0 15 rfl rfl)
theorem dX0_safest_16 : decode cX0_safest 16 = .ok (.istore_n 2, 1) := dk_61 (dk_at dksX0_safest_0 16 rfl rfl)
theorem dX0_safest_17 : decode cX0_safest 17 = .ok (.ldc2_w 414, 3) := dk_20 1 158 (dk_at dksX0_safest_0 17 rfl rfl)
theorem dX0_safest_20 : decode cX0_safest 20 = .ok (.lstore_n 3, 1) := dk_66 (dk_at dksX0_safest_0 20 rfl rfl)
theorem dX0_safest_21 : decode cX0_safest 21 = .ok (.iconst 0, 1) := dk_3 (dk_at dksX0_safest_0 21 rfl rfl)
theorem dX0_safest_22 : decode cX0_safest 22 = .ok (.istore 5, 2) := dk_54 5 (dk_at dksX0_safest_0 22 rfl rfl)
theorem dX0_safest_24 : decode cX0_safest 24 = .ok (.iload 5, 2) := dk_21 5 (dk_at dksX0_safest_1 0 rfl rfl)
theorem dX0_safest_26 : decode cX0_safest 26 = .ok (.aload_n 0, 1) := dk_42 (dk_at dksX0_safest_1 2 rfl rfl)
theorem dX0_safest_27 : decode cX0_safest 27 = .ok (.getfield 18, 3) := dk_180 0 18 (dk_at dksX0_safest_1 3 rfl rfl)
theorem dX0_safest_30 : decode cX0_safest 30 = .ok (.if_icmp .ge 39, 3) := dk_162 0 39 (dk_at dksX0_safest_1 6 rfl rfl)
theorem dX0_safest_33 : decode cX0_safest 33 = .ok (.aload_n 0, 1) := dk_42 (dk_at dksX0_safest_1 9 rfl rfl)
theorem dX0_safest_34 : decode cX0_safest 34 = .ok (.iload 5, 2) := dk_21 5 (dk_at dksX0_safest_1 10 rfl rfl)
theorem dX0_safest_36 : decode cX0_safest 36 = .ok (.iload_n 1, 1) := dk_27 (dk_at dksX0_safest_1 12 rfl rfl)
theorem dX0_safest_37 : decode cX0_safest 37 = .ok (.invokevirtual 396, 3) := dk_182 1 140 (dk_at dksX0_safest_1 13 rfl rfl)
theorem dX0_safest_40 : decode cX0_safest 40 = .ok (.lstore 6, 2) := dk_55 6 (dk_at dksX0_safest_1 16 rfl rfl)
theorem dX0_safest_42 : decode cX0_safest 42 = .ok (.lload 6, 2) := dk_22 6 (dk_at dksX0_safest_1 18 rfl rfl)
theorem dX0_safest_44 : decode cX0_safest 44 = .ok (.lload_n 3, 1) := dk_33 (dk_at dksX0_safest_1 20 rfl rfl)
theorem dX0_safest_45 : decode cX0_safest 45 = .ok (.lcmp, 1) := dk_148 (dk_at dksX0_safest_1 21 rfl rfl)
theorem dX0_safest_46 : decode cX0_safest 46 = .ok (.ifCond .le 8, 3) := dk_158 0 8 (dk_at dksX0_safest_2 0 rfl rfl)
theorem dX0_safest_49 : decode cX0_safest 49 = .ok (.iload 5, 2) := dk_21 5 (dk_at dksX0_safest_2 3 rfl rfl)
theorem dX0_safest_51 : decode cX0_safest 51 = .ok (.goto 4, 3) := dk_167 0 4 (dk_at dksX0_safest_2 5 rfl rfl)
theorem dX0_safest_54 : decode cX0_safest 54 = .ok (.iload_n 2, 1) := dk_28 (dk_at dksX0_safest_2 8 rfl rfl)
theorem dX0_safest_55 : decode cX0_safest 55 = .ok (.istore_n 2, 1) := dk_61 (dk_at dksX0_safest_2 9 rfl rfl)
theorem dX0_safest_56 : decode cX0_safest 56 = .ok (.lload_n 3, 1) := dk_33 (dk_at dksX0_safest_2 10 rfl rfl)
theorem dX0_safest_57 : decode cX0_safest 57 = .ok (.lload 6, 2) := dk_22 6 (dk_at dksX0_safest_2 11 rfl rfl)
theorem dX0_safest_59 : decode cX0_safest 59 = .ok (.invokestatic 416, 3) := dk_184 1 160 (dk_at dksX0_safest_2 13 rfl rfl)
theorem dX0_safest_62 : decode cX0_safest 62 = .ok (.lstore_n 3, 1) := dk_66 (dk_at dksX0_safest_2 16 rfl rfl)
theorem dX0_safest_63 : decode cX0_safest 63 = .ok (.iinc 5 1, 3) := dk_132 5 1 (dk_at dksX0_safest_2 17 rfl rfl)
theorem dX0_safest_66 : decode cX0_safest 66 = .ok (.goto (-42), 3) := dk_167 255 214 (dk_at dksX0_safest_2 20 rfl rfl)
theorem dX0_safest_69 : decode cX0_safest 69 = .ok (.iload_n 2, 1) := dk_28 (dk_at dksX0_safest_2 23 rfl rfl)
theorem dX0_safest_70 : decode cX0_safest 70 = .ok (.ireturn, 1) := dk_172 (dk_at dksX0_safest_3 0 rfl rfl)
def dkwX0_when_3 : List UInt8 := [154, 0, 7, 29, 167, 0, 9, 42, 180, 1, 48, 29, 46, 172]
abbrev dktX0_when_3 : List UInt8 := dkwX0_when_3 ++ []
def dkwX0_when_2 : List UInt8 := [180, 1, 48, 29, 46, 164, 0, 8, 21, 4, 167, 0, 4, 29, 62, 132, 4, 1, 167, 255, 224, 28]
abbrev dktX0_when_2 : List UInt8 := dkwX0_when_2 ++ dktX0_when_3
def dkwX0_when_1 : List UInt8 := [182, 1, 126, 3, 62, 4, 54, 4, 21, 4, 27, 163, 0, 32, 42, 180, 1, 48, 21, 4, 46, 42]
abbrev dktX0_when_1 : List UInt8 := dkwX0_when_1 ++ dktX0_when_2
def dkwX0_when_0 : List UInt8 := [27, 184, 1, 121, 153, 0, 13, 28, 133, 9, 10, 184, 0, 14, 154, 0, 6, 16, 254, 172, 42, 27]
abbrev dktX0_when_0 : List UInt8 := dkwX0_when_0 ++ dktX0_when_1
theorem dksX0_when_0 : cX0_when.data.toList.drop 0 = dktX0_when_0 := by decide +kernel
theorem dksX0_when_1 : cX0_when.data.toList.drop 22 = dktX0_when_1 := dk_seg dksX0_when_0 22 rfl rfl
theorem dksX0_when_2 : cX0_when.data.toList.drop 44 = dktX0_when_2 := dk_seg dksX0_when_1 22 rfl rfl
theorem dksX0_when_3 : cX0_when.data.toList.drop 66 = dktX0_when_3 := dk_seg dksX0_when_2 22 rfl rfl
theorem dX0_when_0 : decode cX0_when 0 = .ok (.iload_n 1, 1) := dk_27 (dk_at dksX0_when_0 0 rfl rfl)
theorem dX0_when_1 : decode cX0_when 1 = .ok (.invokestatic 377, 3) := dk_184 1 121 (dk_at dksX0_when_0 1 rfl rfl)
theorem dX0_when_4 : decode cX0_when 4 = .ok (.ifCond .eq 13, 3) := dk_153 0 13 (dk_at dksX0_when_0 4 rfl rfl)
theorem dX0_when_7 : decode cX0_when 7 = .ok (.iload_n 2, 1) := dk_28 (dk_at dksX0_when_0 7 rfl rfl)
theorem dX0_when_8 : decode cX0_when 8 = .ok (.i2l, 1) := dk_133 (dk_at dksX0_when_0 8 rfl rfl)
theorem dX0_when_9 : decode cX0_when 9 = .ok (.lconst 0, 1) := dk_9 (dk_at dksX0_when_0 9 rfl rfl)
theorem dX0_when_10 : decode cX0_when 10 = .ok (.lconst 1, 1) := dk_10 (dk_at dksX0_when_0 10 rfl rfl)
theorem dX0_when_11 : decode cX0_when 11 = .ok (.invokestatic 14, 3) := dk_184 0 14 (dk_at dksX0_when_0 11 rfl rfl)
theorem dX0_when_14 : decode cX0_when 14 = .ok (.ifCond .ne 6, 3) := dk_154 0 6 (dk_at dksX0_when_0 14 rfl rfl)
theorem dX0_when_17 : decode cX0_when 17 = .ok (.bipush (-2), 2) := dk_16 254 (dk_at dksX0_when_0 17 rfl rfl)
theorem dX0_when_19 : decode cX0_when 19 = .ok (.ireturn, 1) := dk_172 (dk_at dksX0_when_0 19 rfl rfl)
theorem dX0_when_20 : decode cX0_when 20 = .ok (.aload_n 0, 1) := dk_42 (dk_at dksX0_when_0 20 rfl rfl)
theorem dX0_when_21 : decode cX0_when 21 = .ok (.iload_n 1, 1) := dk_27 (dk_at dksX0_when_0 21 rfl rfl)
theorem dX0_when_22 : decode cX0_when 22 = .ok (.invokevirtual 382, 3) := dk_182 1 126 (dk_at dksX0_when_1 0 rfl rfl)
theorem dX0_when_25 : decode cX0_when 25 = .ok (.iconst 0, 1) := dk_3 (dk_at dksX0_when_1 3 rfl rfl)
theorem dX0_when_26 : decode cX0_when 26 = .ok (.istore_n 3, 1) := dk_62 (dk_at dksX0_when_1 4 rfl rfl)
theorem dX0_when_27 : decode cX0_when 27 = .ok (.iconst 1, 1) := dk_4 (dk_at dksX0_when_1 5 rfl rfl)
theorem dX0_when_28 : decode cX0_when 28 = .ok (.istore 4, 2) := dk_54 4 (dk_at dksX0_when_1 6 rfl rfl)
theorem dX0_when_30 : decode cX0_when 30 = .ok (.iload 4, 2) := dk_21 4 (dk_at dksX0_when_1 8 rfl rfl)
theorem dX0_when_32 : decode cX0_when 32 = .ok (.iload_n 1, 1) := dk_27 (dk_at dksX0_when_1 10 rfl rfl)
theorem dX0_when_33 : decode cX0_when 33 = .ok (.if_icmp .gt 32, 3) := dk_163 0 32 (dk_at dksX0_when_1 11 rfl rfl)
theorem dX0_when_36 : decode cX0_when 36 = .ok (.aload_n 0, 1) := dk_42 (dk_at dksX0_when_1 14 rfl rfl)
theorem dX0_when_37 : decode cX0_when 37 = .ok (.getfield 304, 3) := dk_180 1 48 (dk_at dksX0_when_1 15 rfl rfl)
theorem dX0_when_40 : decode cX0_when 40 = .ok (.iload 4, 2) := dk_21 4 (dk_at dksX0_when_1 18 rfl rfl)
theorem dX0_when_42 : decode cX0_when 42 = .ok (.iaload, 1) := dk_46 (dk_at dksX0_when_1 20 rfl rfl)
theorem dX0_when_43 : decode cX0_when 43 = .ok (.aload_n 0, 1) := dk_42 (dk_at dksX0_when_1 21 rfl rfl)
theorem dX0_when_44 : decode cX0_when 44 = .ok (.getfield 304, 3) := dk_180 1 48 (dk_at dksX0_when_2 0 rfl rfl)
theorem dX0_when_47 : decode cX0_when 47 = .ok (.iload_n 3, 1) := dk_29 (dk_at dksX0_when_2 3 rfl rfl)
theorem dX0_when_48 : decode cX0_when 48 = .ok (.iaload, 1) := dk_46 (dk_at dksX0_when_2 4 rfl rfl)
theorem dX0_when_49 : decode cX0_when 49 = .ok (.if_icmp .le 8, 3) := dk_164 0 8 (dk_at dksX0_when_2 5 rfl rfl)
theorem dX0_when_52 : decode cX0_when 52 = .ok (.iload 4, 2) := dk_21 4 (dk_at dksX0_when_2 8 rfl rfl)
theorem dX0_when_54 : decode cX0_when 54 = .ok (.goto 4, 3) := dk_167 0 4 (dk_at dksX0_when_2 10 rfl rfl)
theorem dX0_when_57 : decode cX0_when 57 = .ok (.iload_n 3, 1) := dk_29 (dk_at dksX0_when_2 13 rfl rfl)
theorem dX0_when_58 : decode cX0_when 58 = .ok (.istore_n 3, 1) := dk_62 (dk_at dksX0_when_2 14 rfl rfl)
theorem dX0_when_59 : decode cX0_when 59 = .ok (.iinc 4 1, 3) := dk_132 4 1 (dk_at dksX0_when_2 15 rfl rfl)
theorem dX0_when_62 : decode cX0_when 62 = .ok (.goto (-32), 3) := dk_167 255 224 (dk_at dksX0_when_2 18 rfl rfl)
theorem dX0_when_65 : decode cX0_when 65 = .ok (.iload_n 2, 1) := dk_28 (dk_at dksX0_when_2 21 rfl rfl)
theorem dX0_when_66 : decode cX0_when 66 = .ok (.ifCond .ne 7, 3) := dk_154 0 7 (dk_at dksX0_when_3 0 rfl rfl)
theorem dX0_when_69 : decode cX0_when 69 = .ok (.iload_n 3, 1) := dk_29 (dk_at dksX0_when_3 3 rfl rfl)
theorem dX0_when_70 : decode cX0_when 70 = .ok (.goto 9, 3) := dk_167 0 9 (dk_at dksX0_when_3 4 rfl rfl)
theorem dX0_when_73 : decode cX0_when 73 = .ok (.aload_n 0, 1) := dk_42 (dk_at dksX0_when_3 7 rfl rfl)
theorem dX0_when_74 : decode cX0_when 74 = .ok (.getfield 304, 3) := dk_180 1 48 (dk_at dksX0_when_3 8 rfl rfl)
theorem dX0_when_77 : decode cX0_when 77 = .ok (.iload_n 3, 1) := dk_29 (dk_at dksX0_when_3 11 rfl rfl)
theorem dX0_when_78 : decode cX0_when 78 = .ok (.iaload, 1) := dk_46 (dk_at dksX0_when_3 12 rfl rfl)
theorem dX0_when_79 : decode cX0_when 79 = .ok (.ireturn, 1) := dk_172 (dk_at dksX0_when_3 13 rfl rfl)
def dkwX0_enough_2 : List UInt8 := [182, 1, 148, 29, 161, 0, 6, 21, 4, 172, 132, 4, 1, 167, 255, 230, 2, 172]
abbrev dktX0_enough_2 : List UInt8 := dkwX0_enough_2 ++ []
def dkwX0_enough_1 : List UInt8 := [154, 0, 6, 16, 254, 172, 4, 54, 4, 21, 4, 16, 99, 163, 0, 25, 42, 27, 28, 8, 21, 4]
abbrev dktX0_enough_1 : List UInt8 := dkwX0_enough_1 ++ dktX0_enough_2
