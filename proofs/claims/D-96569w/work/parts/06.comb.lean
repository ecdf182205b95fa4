set_option maxRecDepth 100000
def dkwX0_enough_0 : List UInt8 := [42, 27, 182, 0, 61, 153, 0, 22, 28, 184, 1, 121, 153, 0, 15, 29, 133, 10, 20, 0, 64, 184, 0, 14]
abbrev dktX0_enough_0 : List UInt8 := dkwX0_enough_0 ++ dktX0_enough_1
theorem dksX0_enough_0 : cX0_enough.data.toList.drop 0 = dktX0_enough_0 := by decide +kernel
theorem dksX0_enough_1 : cX0_enough.data.toList.drop 24 = dktX0_enough_1 := dk_seg dksX0_enough_0 24 rfl rfl
theorem dksX0_enough_2 : cX0_enough.data.toList.drop 46 = dktX0_enough_2 := dk_seg dksX0_enough_1 22 rfl rfl
theorem dX0_enough_0 : decode cX0_enough 0 = .ok (.aload_n 0, 1) := dk_42 (dk_at dksX0_enough_0 0 rfl rfl)
theorem dX0_enough_1 : decode cX0_enough 1 = .ok (.iload_n 1, 1) := dk_27 (dk_at dksX0_enough_0 1 rfl rfl)
theorem dX0_enough_2 : decode cX0_enough 2 = .ok (.invokevirtual 61, 3) := dk_182 0 61 (dk_at dksX0_enough_0 2 rfl rfl)
theorem dX0_enough_5 : decode cX0_enough 5 = .ok (.ifCond .eq 22, 3) := dk_153 0 22 (dk_at dksX0_enough_0 5 rfl rfl)
theorem dX0_enough_8 : decode cX0_enough 8 = .ok (.iload_n 2, 1) := dk_28 (dk_at dksX0_enough_0 8 rfl rfl)
theorem dX0_enough_9 : decode cX0_enough 9 = .ok (.invokestatic 377, 3) := dk_184 1 121 (dk_at dksX0_enough_0 9 rfl rfl)
theorem dX0_enough_12 : decode cX0_enough 12 = .ok (.ifCond .eq 15, 3) := dk_153 0 15 (dk_at dksX0_enough_0 12 rfl rfl)
theorem dX0_enough_15 : decode cX0_enough 15 = .ok (.iload_n 3, 1) := dk_29 (dk_at dksX0_enough_0 15 rfl rfl)
theorem dX0_enough_16 : decode cX0_enough 16 = .ok (.i2l, 1) := dk_133 (dk_at dksX0_enough_0 16 rfl rfl)
theorem dX0_enough_17 : decode cX0_enough 17 = .ok (.lconst 1, 1) := dk_10 (dk_at dksX0_enough_0 17 rfl rfl)
theorem dX0_enough_18 : decode cX0_enough 18 = .ok (.ldc2_w 64, 3) := dk_20 0 64 (dk_at dksX0_enough_0 18 rfl rfl)
theorem dX0_enough_21 : decode cX0_enough 21 = .ok (.invokestatic 14, 3) := dk_184 0 14 (dk_at dksX0_enough_0 21 rfl rfl)
theorem dX0_enough_24 : decode cX0_enough 24 = .ok (.ifCond .ne 6, 3) := dk_154 0 6 (dk_at dksX0_enough_1 0 rfl rfl)
theorem dX0_enough_27 : decode cX0_enough 27 = .ok (.bipush (-2), 2) := dk_16 254 (dk_at dksX0_enough_1 3 rfl rfl)
theorem dX0_enough_29 : decode cX0_enough 29 = .ok (.ireturn, 1) := dk_172 (dk_at dksX0_enough_1 5 rfl rfl)
theorem dX0_enough_30 : decode cX0_enough 30 = .ok (.iconst 1, 1) := dk_4 (dk_at dksX0_enough_1 6 rfl rfl)
theorem dX0_enough_31 : decode cX0_enough 31 = .ok (.istore 4, 2) := dk_54 4 (dk_at dksX0_enough_1 7 rfl rfl)
theorem dX0_enough_33 : decode cX0_enough 33 = .ok (.iload 4, 2) := dk_21 4 (dk_at dksX0_enough_1 9 rfl rfl)
theorem dX0_enough_35 : decode cX0_enough 35 = .ok (.bipush 99, 2) := dk_16 99 (dk_at dksX0_enough_1 11 rfl rfl)
theorem dX0_enough_37 : decode cX0_enough 37 = .ok (.if_icmp .gt 25, 3) := dk_163 0 25 (dk_at dksX0_enough_1 13 rfl rfl)
theorem dX0_enough_40 : decode cX0_enough 40 = .ok (.aload_n 0, 1) := dk_42 (dk_at dksX0_enough_1 16 rfl rfl)
theorem dX0_enough_41 : decode cX0_enough 41 = .ok (.iload_n 1, 1) := dk_27 (dk_at dksX0_enough_1 17 rfl rfl)
theorem dX0_enough_42 : decode cX0_enough 42 = .ok (.iload_n 2, 1) := dk_28 (dk_at dksX0_enough_1 18 rfl rfl)
theorem dX0_enough_43 : decode cX0_enough 43 = .ok (.iconst 5, 1) := dk_8 (dk_at dksX0_enough_1 19 rfl rfl)
theorem dX0_enough_44 : decode cX0_enough 44 = .ok (.iload 4, 2) := dk_21 4 (dk_at dksX0_enough_1 20 rfl rfl)
theorem dX0_enough_46 : decode cX0_enough 46 = .ok (.invokevirtual 404, 3) := dk_182 1 148 (dk_at dksX0_enough_2 0 rfl rfl)
theorem dX0_enough_49 : decode cX0_enough 49 = .ok (.iload_n 3, 1) := dk_29 (dk_at dksX0_enough_2 3 rfl rfl)
theorem dX0_enough_50 : decode cX0_enough 50 = .ok (.if_icmp .lt 6, 3) := dk_161 0 6 (dk_at dksX0_enough_2 4 rfl rfl)
theorem dX0_enough_53 : decode cX0_enough 53 = .ok (.iload 4, 2) := dk_21 4 (dk_at dksX0_enough_2 7 rfl rfl)
theorem dX0_enough_55 : decode cX0_enough 55 = .ok (.ireturn, 1) := dk_172 (dk_at dksX0_enough_2 9 rfl rfl)
theorem dX0_enough_56 : decode cX0_enough 56 = .ok (.iinc 4 1, 3) := dk_132 4 1 (dk_at dksX0_enough_2 10 rfl rfl)
theorem dX0_enough_59 : decode cX0_enough 59 = .ok (.goto (-26), 3) := dk_167 255 230 (dk_at dksX0_enough_2 13 rfl rfl)
theorem dX0_enough_62 : decode cX0_enough 62 = .ok (.iconst (-1), 1) := dk_2 (dk_at dksX0_enough_2 16 rfl rfl)
theorem dX0_enough_63 : decode cX0_enough 63 = .ok (.ireturn, 1) := dk_172 (dk_at dksX0_enough_2 17 rfl rfl)
def dkwX0_tells_6 : List UInt8 := [4, 167, 0, 4, 3, 182, 1, 206, 172, 42, 25, 4, 28, 182, 1, 210, 172]
abbrev dktX0_tells_6 : List UInt8 := dkwX0_tells_6 ++ []
def dkwX0_tells_5 : List UInt8 := [182, 1, 202, 172, 42, 25, 4, 28, 7, 16, 8, 182, 1, 202, 172, 42, 25, 4, 28, 29, 8, 160, 0, 7]
abbrev dktX0_tells_5 : List UInt8 := dkwX0_tells_5 ++ dktX0_tells_6
def dkwX0_tells_4 : List UInt8 := [42, 25, 4, 28, 182, 1, 179, 172, 42, 25, 4, 28, 182, 1, 199, 172, 42, 25, 4, 28, 6, 16, 10]
abbrev dktX0_tells_4 : List UInt8 := dkwX0_tells_4 ++ dktX0_tells_5
def dkwX0_tells_3 : List UInt8 := [170, 0, 0, 0, 0, 0, 0, 96, 0, 0, 0, 0, 0, 0, 0, 5, 0, 0, 0, 40, 0, 0, 0, 48, 0, 0, 0, 56, 0, 0, 0, 67, 0, 0, 0, 78, 0, 0, 0, 78]
abbrev dktX0_tells_3 : List UInt8 := dkwX0_tells_3 ++ dktX0_tells_4
def dkwX0_tells_2 : List UInt8 := [172, 25, 4, 25, 4, 184, 1, 163, 184, 1, 167, 16, 30, 164, 0, 6, 16, 254, 172, 29]
abbrev dktX0_tells_2 : List UInt8 := dkwX0_tells_2 ++ dktX0_tells_3
def dkwX0_tells_1 : List UInt8 := [154, 0, 6, 16, 254, 172, 42, 180, 1, 66, 27, 50, 180, 1, 195, 58, 4, 25, 4, 199, 0, 6, 16, 245]
abbrev dktX0_tells_1 : List UInt8 := dkwX0_tells_1 ++ dktX0_tells_2
def dkwX0_tells_0 : List UInt8 := [27, 184, 1, 190, 153, 0, 23, 42, 28, 182, 0, 61, 153, 0, 15, 29, 133, 9, 20, 1, 193, 184, 0, 14]
abbrev dktX0_tells_0 : List UInt8 := dkwX0_tells_0 ++ dktX0_tells_1
theorem dksX0_tells_0 : cX0_tells.data.toList.drop 0 = dktX0_tells_0 := by decide +kernel
theorem dksX0_tells_1 : cX0_tells.data.toList.drop 24 = dktX0_tells_1 := dk_seg dksX0_tells_0 24 rfl rfl
theorem dksX0_tells_2 : cX0_tells.data.toList.drop 48 = dktX0_tells_2 := dk_seg dksX0_tells_1 24 rfl rfl
theorem dksX0_tells_3 : cX0_tells.data.toList.drop 68 = dktX0_tells_3 := dk_seg dksX0_tells_2 20 rfl rfl
theorem dksX0_tells_4 : cX0_tells.data.toList.drop 108 = dktX0_tells_4 := dk_seg dksX0_tells_3 40 rfl rfl
theorem dksX0_tells_5 : cX0_tells.data.toList.drop 131 = dktX0_tells_5 := dk_seg dksX0_tells_4 23 rfl rfl
theorem dksX0_tells_6 : cX0_tells.data.toList.drop 155 = dktX0_tells_6 := dk_seg dksX0_tells_5 24 rfl rfl
theorem dX0_tells_0 : decode cX0_tells 0 = .ok (.iload_n 1, 1) := dk_27 (dk_at dksX0_tells_0 0 rfl rfl)
theorem dX0_tells_1 : decode cX0_tells 1 = .ok (.invokestatic 446, 3) := dk_184 1 190 (dk_at dksX0_tells_0 1 rfl rfl)
theorem dX0_tells_4 : decode cX0_tells 4 = .ok (.ifCond .eq 23, 3) := dk_153 0 23 (dk_at dksX0_tells_0 4 rfl rfl)
theorem dX0_tells_7 : decode cX0_tells 7 = .ok (.aload_n 0, 1) := dk_42 (dk_at dksX0_tells_0 7 rfl rfl)
theorem dX0_tells_8 : decode cX0_tells 8 = .ok (.iload_n 2, 1) := dk_28 (dk_at dksX0_tells_0 8 rfl rfl)
theorem dX0_tells_9 : decode cX0_tells 9 = .ok (.invokevirtual 61, 3) := dk_182 0 61 (dk_at dksX0_tells_0 9 rfl rfl)
theorem dX0_tells_12 : decode cX0_tells 12 = .ok (.ifCond .eq 15, 3) := dk_153 0 15 (dk_at dksX0_tells_0 12 rfl rfl)
theorem dX0_tells_15 : decode cX0_tells 15 = .ok (.iload_n 3, 1) := dk_29 (dk_at dksX0_tells_0 15 rfl rfl)
theorem dX0_tells_16 : decode cX0_tells 16 = .ok (.i2l, 1) := dk_133 (dk_at dksX0_tells_0 16 rfl rfl)
theorem dX0_tells_17 : decode cX0_tells 17 = .ok (.lconst 0, 1) := dk_9 (dk_at dksX0_tells_0 17 rfl rfl)
theorem dX0_tells_18 : decode cX0_tells 18 = .ok (.ldc2_w 449, 3) := dk_20 1 193 (dk_at dksX0_tells_0 18 rfl rfl)
theorem dX0_tells_21 : decode cX0_tells 21 = .ok (.invokestatic 14, 3) := dk_184 0 14 (dk_at dksX0_tells_0 21 rfl rfl)
theorem dX0_tells_24 : decode cX0_tells 24 = .ok (.ifCond .ne 6, 3) := dk_154 0 6 (dk_at dksX0_tells_1 0 rfl rfl)
theorem dX0_tells_27 : decode cX0_tells 27 = .ok (.bipush (-2), 2) := dk_16 254 (dk_at dksX0_tells_1 3 rfl rfl)
theorem dX0_tells_29 : decode cX0_tells 29 = .ok (.ireturn, 1) := dk_172 (dk_at dksX0_tells_1 5 rfl rfl)
theorem dX0_tells_30 : decode cX0_tells 30 = .ok (.aload_n 0, 1) := dk_42 (dk_at dksX0_tells_1 6 rfl rfl)
theorem dX0_tells_31 : decode cX0_tells 31 = .ok (.getfield 322, 3) := dk_180 1 66 (dk_at dksX0_tells_1 7 rfl rfl)
theorem dX0_tells_34 : decode cX0_tells 34 = .ok (.iload_n 1, 1) := dk_27 (dk_at dksX0_tells_1 10 rfl rfl)
theorem dX0_tells_35 : decode cX0_tells 35 = .ok (.aaload, 1) := dk_50 (dk_at dksX0_tells_1 11 rfl rfl)
theorem dX0_tells_36 : decode cX0_tells 36 = .ok (.getfield 451, 3) := dk_180 1 195 (dk_at dksX0_tells_1 12 rfl rfl)
theorem dX0_tells_39 : decode cX0_tells 39 = .ok (.astore 4, 2) := dk_58 4 (dk_at dksX0_tells_1 15 rfl rfl)
theorem dX0_tells_41 : decode cX0_tells 41 = .ok (.aload 4, 2) := dk_25 4 (dk_at dksX0_tells_1 17 rfl rfl)
theorem dX0_tells_43 : decode cX0_tells 43 = .ok (.ifnonnull 6, 3) := dk_199 0 6 (dk_at dksX0_tells_1 19 rfl rfl)
theorem dX0_tells_46 : decode cX0_tells 46 = .ok (.bipush (-11), 2) := dk_16 245 (dk_at dksX0_tells_1 22 rfl rfl)
theorem dX0_tells_48 : decode cX0_tells 48 = .ok (.ireturn, 1) := dk_172 (dk_at dksX0_tells_2 0 rfl rfl)
theorem dX0_tells_49 : decode cX0_tells 49 = .ok (.aload 4, 2) := dk_25 4 (dk_at dksX0_tells_2 1 rfl rfl)
theorem dX0_tells_51 : decode cX0_tells 51 = .ok (.aload 4, 2) := dk_25 4 (dk_at dksX0_tells_2 3 rfl rfl)
theorem dX0_tells_53 : decode cX0_tells 53 = .ok (.invokestatic 419, 3) := dk_184 1 163 (dk_at dksX0_tells_2 5 rfl rfl)
theorem dX0_tells_56 : decode cX0_tells 56 = .ok (.invokestatic 423, 3) := dk_184 1 167 (dk_at dksX0_tells_2 8 rfl rfl)
theorem dX0_tells_59 : decode cX0_tells 59 = .ok (.bipush 30, 2) := dk_16 30 (dk_at dksX0_tells_2 11 rfl rfl)
theorem dX0_tells_61 : decode cX0_tells 61 = .ok (.if_icmp .le 6, 3) := dk_164 0 6 (dk_at dksX0_tells_2 13 rfl rfl)
theorem dX0_tells_64 : decode cX0_tells 64 = .ok (.bipush (-2), 2) := dk_16 254 (dk_at dksX0_tells_2 16 rfl rfl)
theorem dX0_tells_66 : decode cX0_tells 66 = .ok (.ireturn, 1) := dk_172 (dk_at dksX0_tells_2 18 rfl rfl)
theorem dX0_tells_67 : decode cX0_tells 67 = .ok (.iload_n 3, 1) := dk_29 (dk_at dksX0_tells_2 19 rfl rfl)
theorem dX0_tells_68 : decode cX0_tells 68 = .ok (.tableswitch 96 0 5 #[40, 48, 56, 67, 78, 78], 40) := by decide +kernel
theorem dX0_tells_108 : decode cX0_tells 108 = .ok (.aload_n 0, 1) := dk_42 (dk_at dksX0_tells_4 0 rfl rfl)
theorem dX0_tells_109 : decode cX0_tells 109 = .ok (.aload 4, 2) := dk_25 4 (dk_at dksX0_tells_4 1 rfl rfl)
theorem dX0_tells_111 : decode cX0_tells 111 = .ok (.iload_n 2, 1) := dk_28 (dk_at dksX0_tells_4 3 rfl rfl)
theorem dX0_tells_112 : decode cX0_tells 112 = .ok (.invokevirtual 435, 3) := dk_182 1 179 (dk_at dksX0_tells_4 4 rfl rfl)
theorem dX0_tells_115 : decode cX0_tells 115 = .ok (.ireturn, 1) := dk_172 (dk_at dksX0_tells_4 7 rfl rfl)
theorem dX0_tells_116 : decode cX0_tells 116 = .ok (.aload_n 0, 1) := dk_42 (dk_at dksX0_tells_4 8 rfl rfl)
theorem dX0_tells_117 : decode cX0_tells 117 = .ok (.aload 4, 2) := dk_25 4 (dk_at dksX0_tells_4 9 rfl rfl)
theorem dX0_tells_119 : decode cX0_tells 119 = .ok (.iload_n 2, 1) := dk_28 (dk_at dksX0_tells_4 11 rfl rfl)
theorem dX0_tells_120 : decode cX0_tells 120 = .ok (.invokevirtual 455, 3) := dk_182 1 199 (dk_at dksX0_tells_4 12 rfl rfl)
theorem dX0_tells_123 : decode cX0_tells 123 = .ok (.ireturn, 1) := dk_172 (dk_at dksX0_tells_4 15 rfl rfl)
theorem dX0_tells_124 : decode cX0_tells 124 = .ok (.aload_n 0, 1) := dk_42 (dk_at dksX0_tells_4 16 rfl rfl)
theorem dX0_tells_125 : decode cX0_tells 125 = .ok (.aload 4, 2) := dk_25 4 (dk_at dksX0_tells_4 17 rfl rfl)
theorem dX0_tells_127 : decode cX0_tells 127 = .ok (.iload_n 2, 1) := dk_28 (dk_at dksX0_tells_4 19 rfl rfl)
theorem dX0_tells_128 : decode cX0_tells 128 = .ok (.iconst 3, 1) := dk_6 (dk_at dksX0_tells_4 20 rfl rfl)
theorem dX0_tells_129 : decode cX0_tells 129 = .ok (.bipush 10, 2) := dk_16 10 (dk_at dksX0_tells_4 21 rfl rfl)
theorem dX0_tells_131 : decode cX0_tells 131 = .ok (.invokevirtual 458, 3) := dk_182 1 202 (dk_at dksX0_tells_5 0 rfl rfl)
theorem dX0_tells_134 : decode cX0_tells 134 = .ok (.ireturn, 1) := dk_172 (dk_at dksX0_tells_5 3 rfl rfl)
theorem dX0_tells_135 : decode cX0_tells 135 = .ok (.aload_n 0, 1) := dk_42 (dk_at dksX0_tells_5 4 rfl rfl)
theorem dX0_tells_136 : decode cX0_tells 136 = .ok (.aload 4, 2) := dk_25 4 (dk_at dksX0_tells_5 5 rfl rfl)
theorem dX0_tells_138 : decode cX0_tells 138 = .ok (.iload_n 2, 1) := dk_28 (dk_at dksX0_tells_5 7 rfl rfl)
theorem dX0_tells_139 : decode cX0_tells 139 = .ok (.iconst 4, 1) := dk_7 (dk_at dksX0_tells_5 8 rfl rfl)
theorem dX0_tells_140 : decode cX0_tells 140 = .ok (.bipush 8, 2) := dk_16 8 (dk_at dksX0_tells_5 9 rfl rfl)
theorem dX0_tells_142 : decode cX0_tells 142 = .ok (.invokevirtual 458, 3) := dk_182 1 202 (dk_at dksX0_tells_5 11 rfl rfl)
theorem dX0_tells_145 : decode cX0_tells 145 = .ok (.ireturn, 1) := dk_172 (dk_at dksX0_tells_5 14 rfl rfl)
theorem dX0_tells_146 : decode cX0_tells 146 = .ok (.aload_n 0, 1) := dk_42 (dk_at dksX0_tells_5 15 rfl rfl)
theorem dX0_tells_147 : decode cX0_tells 147 = .ok (.aload 4, 2) := dk_25 4 (dk_at dksX0_tells_5 16 rfl rfl)
theorem dX0_tells_149 : decode cX0_tells 149 = .ok (.iload_n 2, 1) := dk_28 (dk_at dksX0_tells_5 18 rfl rfl)
theorem dX0_tells_150 : decode cX0_tells 150 = .ok (.iload_n 3, 1) := dk_29 (dk_at dksX0_tells_5 19 rfl rfl)
theorem dX0_tells_151 : decode cX0_tells 151 = .ok (.iconst 5, 1) := dk_8 (dk_at dksX0_tells_5 20 rfl rfl)
theorem dX0_tells_152 : decode cX0_tells 152 = .ok (.if_icmp .ne 7, 3) := dk_160 0 7 (dk_at dksX0_tells_5 21 rfl rfl)
theorem dX0_tells_155 : decode cX0_tells 155 = .ok (.iconst 1, 1) := dk_4 (dk_at dksX0_tells_6 0 rfl rfl)
theorem dX0_tells_156 : decode cX0_tells 156 = .ok (.goto 4, 3) := dk_167 0 4 (dk_at dksX0_tells_6 1 rfl rfl)
theorem dX0_tells_159 : decode cX0_tells 159 = .ok (.iconst 0, 1) := dk_3 (dk_at dksX0_tells_6 4 rfl rfl)
theorem dX0_tells_160 : decode cX0_tells 160 = .ok (.invokevirtual 462, 3) := dk_182 1 206 (dk_at dksX0_tells_6 5 rfl rfl)
theorem dX0_tells_163 : decode cX0_tells 163 = .ok (.ireturn, 1) := dk_172 (dk_at dksX0_tells_6 8 rfl rfl)
theorem dX0_tells_164 : decode cX0_tells 164 = .ok (.aload_n 0, 1) := dk_42 (dk_at dksX0_tells_6 9 rfl rfl)
theorem dX0_tells_165 : decode cX0_tells 165 = .ok (.aload 4, 2) := dk_25 4 (dk_at dksX0_tells_6 10 rfl rfl)
theorem dX0_tells_167 : decode cX0_tells 167 = .ok (.iload_n 2, 1) := dk_28 (dk_at dksX0_tells_6 12 rfl rfl)
theorem dX0_tells_168 : decode cX0_tells 168 = .ok (.invokevirtual 466, 3) := dk_182 1 210 (dk_at dksX0_tells_6 13 rfl rfl)
theorem dX0_tells_171 : decode cX0_tells 171 = .ok (.ireturn, 1) := dk_172 (dk_at dksX0_tells_6 16 rfl rfl)
def dkwX0_isSheet_0 : List UInt8 := [26, 133, 9, 20, 0, 112, 184, 0, 14, 172]
abbrev dktX0_isSheet_0 : List UInt8 := dkwX0_isSheet_0 ++ []
theorem dksX0_isSheet_0 : cX0_isSheet.data.toList.drop 0 = dktX0_isSheet_0 := by decide +kernel
theorem dX0_isSheet_0 : decode cX0_isSheet 0 = .ok (.iload_n 0, 1) := dk_26 (dk_at dksX0_isSheet_0 0 rfl rfl)
theorem dX0_isSheet_1 : decode cX0_isSheet 1 = .ok (.i2l, 1) := dk_133 (dk_at dksX0_isSheet_0 1 rfl rfl)
theorem dX0_isSheet_2 : decode cX0_isSheet 2 = .ok (.lconst 0, 1) := dk_9 (dk_at dksX0_isSheet_0 2 rfl rfl)
theorem dX0_isSheet_3 : decode cX0_isSheet 3 = .ok (.ldc2_w 112, 3) := dk_20 0 112 (dk_at dksX0_isSheet_0 3 rfl rfl)
theorem dX0_isSheet_6 : decode cX0_isSheet 6 = .ok (.invokestatic 14, 3) := dk_184 0 14 (dk_at dksX0_isSheet_0 6 rfl rfl)
theorem dX0_isSheet_9 : decode cX0_isSheet 9 = .ok (.ireturn, 1) := dk_172 (dk_at dksX0_isSheet_0 9 rfl rfl)
def dkwX0_sortOf_0 : List UInt8 := [42, 193, 1, 243, 153, 0, 7, 3, 167, 0, 15, 42, 193, 1, 247, 153, 0, 7, 4, 167, 0, 4, 5, 172]
abbrev dktX0_sortOf_0 : List UInt8 := dkwX0_sortOf_0 ++ []
theorem dksX0_sortOf_0 : cX0_sortOf.data.toList.drop 0 = dktX0_sortOf_0 := by decide +kernel
theorem dX0_sortOf_0 : decode cX0_sortOf 0 = .ok (.aload_n 0, 1) := dk_42 (dk_at dksX0_sortOf_0 0 rfl rfl)
theorem dX0_sortOf_1 : decode cX0_sortOf 1 = .ok (.instanceof 499, 3) := dk_193 1 243 (dk_at dksX0_sortOf_0 1 rfl rfl)
theorem dX0_sortOf_4 : decode cX0_sortOf 4 = .ok (.ifCond .eq 7, 3) := dk_153 0 7 (dk_at dksX0_sortOf_0 4 rfl rfl)
theorem dX0_sortOf_7 : decode cX0_sortOf 7 = .ok (.iconst 0, 1) := dk_3 (dk_at dksX0_sortOf_0 7 rfl rfl)
theorem dX0_sortOf_8 : decode cX0_sortOf 8 = .ok (.goto 15, 3) := dk_167 0 15 (dk_at dksX0_sortOf_0 8 rfl rfl)
theorem dX0_sortOf_11 : decode cX0_sortOf 11 = .ok (.aload_n 0, 1) := dk_42 (dk_at dksX0_sortOf_0 11 rfl rfl)
theorem dX0_sortOf_12 : decode cX0_sortOf 12 = .ok (.instanceof 503, 3) := dk_193 1 247 (dk_at dksX0_sortOf_0 12 rfl rfl)
theorem dX0_sortOf_15 : decode cX0_sortOf 15 = .ok (.ifCond .eq 7, 3) := dk_153 0 7 (dk_at dksX0_sortOf_0 15 rfl rfl)
theorem dX0_sortOf_18 : decode cX0_sortOf 18 = .ok (.iconst 1, 1) := dk_4 (dk_at dksX0_sortOf_0 18 rfl rfl)
theorem dX0_sortOf_19 : decode cX0_sortOf 19 = .ok (.goto 4, 3) := dk_167 0 4 (dk_at dksX0_sortOf_0 19 rfl rfl)
theorem dX0_sortOf_22 : decode cX0_sortOf 22 = .ok (.iconst 2, 1) := dk_5 (dk_at dksX0_sortOf_0 22 rfl rfl)
theorem dX0_sortOf_23 : decode cX0_sortOf 23 = .ok (.ireturn, 1) := dk_172 (dk_at dksX0_sortOf_0 23 rfl rfl)
def dkwX0_lengthOf_2 : List UInt8 := [42, 192, 1, 243, 190, 172, 42, 192, 1, 247, 190, 172, 42, 192, 1, 249, 190, 172]
abbrev dktX0_lengthOf_2 : List UInt8 := dkwX0_lengthOf_2 ++ []
def dkwX0_lengthOf_1 : List UInt8 := [171, 0, 0, 0, 0, 0, 39, 0, 0, 0, 2, 0, 0, 0, 0, 0, 0, 0, 27, 0, 0, 0, 1, 0, 0, 0, 33]
abbrev dktX0_lengthOf_1 : List UInt8 := dkwX0_lengthOf_1 ++ dktX0_lengthOf_2
def dkwX0_lengthOf_0 : List UInt8 := [27]
abbrev dktX0_lengthOf_0 : List UInt8 := dkwX0_lengthOf_0 ++ dktX0_lengthOf_1
theorem dksX0_lengthOf_0 : cX0_lengthOf.data.toList.drop 0 = dktX0_lengthOf_0 := by decide +kernel
theorem dksX0_lengthOf_1 : cX0_lengthOf.data.toList.drop 1 = dktX0_lengthOf_1 := dk_seg dksX0_lengthOf_0 1 rfl rfl
theorem dksX0_lengthOf_2 : cX0_lengthOf.data.toList.drop 28 = dktX0_lengthOf_2 := dk_seg dksX0_lengthOf_1 27 rfl rfl
theorem dX0_lengthOf_0 : decode cX0_lengthOf 0 = .ok (.iload_n 1, 1) := dk_27 (dk_at dksX0_lengthOf_0 0 rfl rfl)
theorem dX0_lengthOf_1 : decode cX0_lengthOf 1 = .ok (.lookupswitch 39 #[(0, 27), (1, 33)], 27) := by decide +kernel
theorem dX0_lengthOf_28 : decode cX0_lengthOf 28 = .ok (.aload_n 0, 1) := dk_42 (dk_at dksX0_lengthOf_2 0 rfl rfl)
theorem dX0_lengthOf_29 : decode cX0_lengthOf 29 = .ok (.checkcast 499, 3) := dk_192 1 243 (dk_at dksX0_lengthOf_2 1 rfl rfl)
theorem dX0_lengthOf_32 : decode cX0_lengthOf 32 = .ok (.arraylength, 1) := dk_190 (dk_at dksX0_lengthOf_2 4 rfl rfl)
theorem dX0_lengthOf_33 : decode cX0_lengthOf 33 = .ok (.ireturn, 1) := dk_172 (dk_at dksX0_lengthOf_2 5 rfl rfl)
theorem dX0_lengthOf_34 : decode cX0_lengthOf 34 = .ok (.aload_n 0, 1) := dk_42 (dk_at dksX0_lengthOf_2 6 rfl rfl)
theorem dX0_lengthOf_35 : decode cX0_lengthOf 35 = .ok (.checkcast 503, 3) := dk_192 1 247 (dk_at dksX0_lengthOf_2 7 rfl rfl)
theorem dX0_lengthOf_38 : decode cX0_lengthOf 38 = .ok (.arraylength, 1) := dk_190 (dk_at dksX0_lengthOf_2 10 rfl rfl)
theorem dX0_lengthOf_39 : decode cX0_lengthOf 39 = .ok (.ireturn, 1) := dk_172 (dk_at dksX0_lengthOf_2 11 rfl rfl)
theorem dX0_lengthOf_40 : decode cX0_lengthOf 40 = .ok (.aload_n 0, 1) := dk_42 (dk_at dksX0_lengthOf_2 12 rfl rfl)
theorem dX0_lengthOf_41 : decode cX0_lengthOf 41 = .ok (.checkcast 505, 3) := dk_192 1 249 (dk_at dksX0_lengthOf_2 13 rfl rfl)
theorem dX0_lengthOf_44 : decode cX0_lengthOf 44 = .ok (.arraylength, 1) := dk_190 (dk_at dksX0_lengthOf_2 16 rfl rfl)
theorem dX0_lengthOf_45 : decode cX0_lengthOf 45 = .ok (.ireturn, 1) := dk_172 (dk_at dksX0_lengthOf_2 17 rfl rfl)
def dkwX0_otherwise_2 : List UInt8 := [21, 4, 172, 132, 4, 1, 167, 255, 220, 2, 172]
abbrev dktX0_otherwise_2 : List UInt8 := dkwX0_otherwise_2 ++ []
def dkwX0_otherwise_1 : List UInt8 := [43, 184, 1, 163, 21, 4, 184, 1, 171, 42, 180, 1, 42, 21, 4, 4, 96, 50, 28, 46, 159, 0, 6]
abbrev dktX0_otherwise_1 : List UInt8 := dkwX0_otherwise_1 ++ dktX0_otherwise_2
def dkwX0_otherwise_0 : List UInt8 := [43, 43, 184, 1, 163, 184, 1, 167, 62, 42, 29, 182, 1, 126, 3, 54, 4, 21, 4, 29, 162, 0, 36, 43]
abbrev dktX0_otherwise_0 : List UInt8 := dkwX0_otherwise_0 ++ dktX0_otherwise_1
theorem dksX0_otherwise_0 : cX0_otherwise.data.toList.drop 0 = dktX0_otherwise_0 := by decide +kernel
theorem dksX0_otherwise_1 : cX0_otherwise.data.toList.drop 24 = dktX0_otherwise_1 := dk_seg dksX0_otherwise_0 24 rfl rfl
theorem dksX0_otherwise_2 : cX0_otherwise.data.toList.drop 47 = dktX0_otherwise_2 := dk_seg dksX0_otherwise_1 23 rfl rfl
theorem dX0_otherwise_0 : decode cX0_otherwise 0 = .ok (.aload_n 1, 1) := dk_43 (dk_at dksX0_otherwise_0 0 rfl rfl)
theorem dX0_otherwise_1 : decode cX0_otherwise 1 = .ok (.aload_n 1, 1) := dk_43 (dk_at dksX0_otherwise_0 1 rfl rfl)
theorem dX0_otherwise_2 : decode cX0_otherwise 2 = .ok (.invokestatic 419, 3) := dk_184 1 163 (dk_at dksX0_otherwise_0 2 rfl rfl)
theorem dX0_otherwise_5 : decode cX0_otherwise 5 = .ok (.invokestatic 423, 3) := dk_184 1 167 (dk_at dksX0_otherwise_0 5 rfl rfl)
theorem dX0_otherwise_8 : decode cX0_otherwise 8 = .ok (.istore_n 3, 1) := dk_62 (dk_at dksX0_otherwise_0 8 rfl rfl)
theorem dX0_otherwise_9 : decode cX0_otherwise 9 = .ok (.aload_n 0, 1) := dk_42 (dk_at dksX0_otherwise_0 9 rfl rfl)
theorem dX0_otherwise_10 : decode cX0_otherwise 10 = .ok (.iload_n 3, 1) := dk_29 (dk_at dksX0_otherwise_0 10 rfl rfl)
theorem dX0_otherwise_11 : decode cX0_otherwise 11 = .ok (.invokevirtual 382, 3) := dk_182 1 126 (dk_at dksX0_otherwise_0 11 rfl rfl)
theorem dX0_otherwise_14 : decode cX0_otherwise 14 = .ok (.iconst 0, 1) := dk_3 (dk_at dksX0_otherwise_0 14 rfl rfl)
theorem dX0_otherwise_15 : decode cX0_otherwise 15 = .ok (.istore 4, 2) := dk_54 4 (dk_at dksX0_otherwise_0 15 rfl rfl)
theorem dX0_otherwise_17 : decode cX0_otherwise 17 = .ok (.iload 4, 2) := dk_21 4 (dk_at dksX0_otherwise_0 17 rfl rfl)
theorem dX0_otherwise_19 : decode cX0_otherwise 19 = .ok (.iload_n 3, 1) := dk_29 (dk_at dksX0_otherwise_0 19 rfl rfl)
theorem dX0_otherwise_20 : decode cX0_otherwise 20 = .ok (.if_icmp .ge 36, 3) := dk_162 0 36 (dk_at dksX0_otherwise_0 20 rfl rfl)
theorem dX0_otherwise_23 : decode cX0_otherwise 23 = .ok (.aload_n 1, 1) := dk_43 (dk_at dksX0_otherwise_0 23 rfl rfl)
theorem dX0_otherwise_24 : decode cX0_otherwise 24 = .ok (.aload_n 1, 1) := dk_43 (dk_at dksX0_otherwise_1 0 rfl rfl)
theorem dX0_otherwise_25 : decode cX0_otherwise 25 = .ok (.invokestatic 419, 3) := dk_184 1 163 (dk_at dksX0_otherwise_1 1 rfl rfl)
theorem dX0_otherwise_28 : decode cX0_otherwise 28 = .ok (.iload 4, 2) := dk_21 4 (dk_at dksX0_otherwise_1 4 rfl rfl)
theorem dX0_otherwise_30 : decode cX0_otherwise 30 = .ok (.invokestatic 427, 3) := dk_184 1 171 (dk_at dksX0_otherwise_1 6 rfl rfl)
theorem dX0_otherwise_33 : decode cX0_otherwise 33 = .ok (.aload_n 0, 1) := dk_42 (dk_at dksX0_otherwise_1 9 rfl rfl)
theorem dX0_otherwise_34 : decode cX0_otherwise 34 = .ok (.getfield 298, 3) := dk_180 1 42 (dk_at dksX0_otherwise_1 10 rfl rfl)
theorem dX0_otherwise_37 : decode cX0_otherwise 37 = .ok (.iload 4, 2) := dk_21 4 (dk_at dksX0_otherwise_1 13 rfl rfl)
theorem dX0_otherwise_39 : decode cX0_otherwise 39 = .ok (.iconst 1, 1) := dk_4 (dk_at dksX0_otherwise_1 15 rfl rfl)
theorem dX0_otherwise_40 : decode cX0_otherwise 40 = .ok (.iadd, 1) := dk_96 (dk_at dksX0_otherwise_1 16 rfl rfl)
theorem dX0_otherwise_41 : decode cX0_otherwise 41 = .ok (.aaload, 1) := dk_50 (dk_at dksX0_otherwise_1 17 rfl rfl)
theorem dX0_otherwise_42 : decode cX0_otherwise 42 = .ok (.iload_n 2, 1) := dk_28 (dk_at dksX0_otherwise_1 18 rfl rfl)
theorem dX0_otherwise_43 : decode cX0_otherwise 43 = .ok (.iaload, 1) := dk_46 (dk_at dksX0_otherwise_1 19 rfl rfl)
theorem dX0_otherwise_44 : decode cX0_otherwise 44 = .ok (.if_icmp .eq 6, 3) := dk_159 0 6 (dk_at dksX0_otherwise_1 20 rfl rfl)
theorem dX0_otherwise_47 : decode cX0_otherwise 47 = .ok (.iload 4, 2) := dk_21 4 (dk_at dksX0_otherwise_2 0 rfl rfl)
theorem dX0_otherwise_49 : decode cX0_otherwise 49 = .ok (.ireturn, 1) := dk_172 (dk_at dksX0_otherwise_2 2 rfl rfl)
theorem dX0_otherwise_50 : decode cX0_otherwise 50 = .ok (.iinc 4 1, 3) := dk_132 4 1 (dk_at dksX0_otherwise_2 3 rfl rfl)
theorem dX0_otherwise_53 : decode cX0_otherwise 53 = .ok (.goto (-36), 3) := dk_167 255 220 (dk_at dksX0_otherwise_2 6 rfl rfl)
theorem dX0_otherwise_56 : decode cX0_otherwise 56 = .ok (.iconst (-1), 1) := dk_2 (dk_at dksX0_otherwise_2 9 rfl rfl)
theorem dX0_otherwise_57 : decode cX0_otherwise 57 = .ok (.ireturn, 1) := dk_172 (dk_at dksX0_otherwise_2 10 rfl rfl)
def dkwX0_item_4 : List UInt8 := [46, 172]
abbrev dktX0_item_4 : List UInt8 := dkwX0_item_4 ++ []
def dkwX0_item_3 : List UInt8 := [184, 1, 244, 42, 192, 1, 247, 28, 53, 172, 28, 42, 192, 1, 249, 190, 184, 1, 244, 42, 192, 1, 249, 28]
abbrev dktX0_item_3 : List UInt8 := dkwX0_item_3 ++ dktX0_item_4
def dkwX0_item_2 : List UInt8 := [28, 42, 192, 1, 243, 190, 184, 1, 244, 42, 192, 1, 243, 28, 51, 172, 28, 42, 192, 1, 247, 190]
abbrev dktX0_item_2 : List UInt8 := dkwX0_item_2 ++ dktX0_item_3
def dkwX0_item_1 : List UInt8 := [171, 0, 0, 0, 0, 0, 59, 0, 0, 0, 2, 0, 0, 0, 0, 0, 0, 0, 27, 0, 0, 0, 1, 0, 0, 0, 43]
abbrev dktX0_item_1 : List UInt8 := dkwX0_item_1 ++ dktX0_item_2
def dkwX0_item_0 : List UInt8 := [27]
abbrev dktX0_item_0 : List UInt8 := dkwX0_item_0 ++ dktX0_item_1
theorem dksX0_item_0 : cX0_item.data.toList.drop 0 = dktX0_item_0 := by decide +kernel
theorem dksX0_item_1 : cX0_item.data.toList.drop 1 = dktX0_item_1 := dk_seg dksX0_item_0 1 rfl rfl
theorem dksX0_item_2 : cX0_item.data.toList.drop 28 = dktX0_item_2 := dk_seg dksX0_item_1 27 rfl rfl
theorem dksX0_item_3 : cX0_item.data.toList.drop 50 = dktX0_item_3 := dk_seg dksX0_item_2 22 rfl rfl
theorem dksX0_item_4 : cX0_item.data.toList.drop 74 = dktX0_item_4 := dk_seg dksX0_item_3 24 rfl rfl
theorem dX0_item_0 : decode cX0_item 0 = .ok (.iload_n 1, 1) := dk_27 (dk_at dksX0_item_0 0 rfl rfl)
theorem dX0_item_1 : decode cX0_item 1 = .ok (.lookupswitch 59 #[(0, 27), (1, 43)], 27) := by decide +kernel
theorem dX0_item_28 : decode cX0_item 28 = .ok (.iload_n 2, 1) := dk_28 (dk_at dksX0_item_2 0 rfl rfl)
theorem dX0_item_29 : decode cX0_item 29 = .ok (.aload_n 0, 1) := dk_42 (dk_at dksX0_item_2 1 rfl rfl)
theorem dX0_item_30 : decode cX0_item 30 = .ok (.checkcast 499, 3) := dk_192 1 243 (dk_at dksX0_item_2 2 rfl rfl)
theorem dX0_item_33 : decode cX0_item 33 = .ok (.arraylength, 1) := dk_190 (dk_at dksX0_item_2 5 rfl rfl)
theorem dX0_item_34 : decode cX0_item 34 = .ok (.invokestatic 500, 3) := dk_184 1 244 (dk_at dksX0_item_2 6 rfl rfl)
theorem dX0_item_37 : decode cX0_item 37 = .ok (.aload_n 0, 1) := dk_42 (dk_at dksX0_item_2 9 rfl rfl)
theorem dX0_item_38 : decode cX0_item 38 = .ok (.checkcast 499, 3) := dk_192 1 243 (dk_at dksX0_item_2 10 rfl rfl)
theorem dX0_item_41 : decode cX0_item 41 = .ok (.iload_n 2, 1) := dk_28 (dk_at dksX0_item_2 13 rfl rfl)
theorem dX0_item_42 : decode cX0_item 42 = .ok (.baload, 1) := dk_51 (dk_at dksX0_item_2 14 rfl rfl)
theorem dX0_item_43 : decode cX0_item 43 = .ok (.ireturn, 1) := dk_172 (dk_at dksX0_item_2 15 rfl rfl)
theorem dX0_item_44 : decode cX0_item 44 = .ok (.iload_n 2, 1) := dk_28 (dk_at dksX0_item_2 16 rfl rfl)
theorem dX0_item_45 : decode cX0_item 45 = .ok (.aload_n 0, 1) := dk_42 (dk_at dksX0_item_2 17 rfl rfl)
theorem dX0_item_46 : decode cX0_item 46 = .ok (.checkcast 503, 3) := dk_192 1 247 (dk_at dksX0_item_2 18 rfl rfl)
theorem dX0_item_49 : decode cX0_item 49 = .ok (.arraylength, 1) := dk_190 (dk_at dksX0_item_2 21 rfl rfl)
theorem dX0_item_50 : decode cX0_item 50 = .ok (.invokestatic 500, 3) := dk_184 1 244 (dk_at dksX0_item_3 0 rfl rfl)
theorem dX0_item_53 : decode cX0_item 53 = .ok (.aload_n 0, 1) := dk_42 (dk_at dksX0_item_3 3 rfl rfl)
theorem dX0_item_54 : decode cX0_item 54 = .ok (.checkcast 503, 3) := dk_192 1 247 (dk_at dksX0_item_3 4 rfl rfl)
theorem dX0_item_57 : decode cX0_item 57 = .ok (.iload_n 2, 1) := dk_28 (dk_at dksX0_item_3 7 rfl rfl)
theorem dX0_item_58 : decode cX0_item 58 = .ok (.saload, 1) := dk_53 (dk_at dksX0_item_3 8 rfl rfl)
theorem dX0_item_59 : decode cX0_item 59 = .ok (.ireturn, 1) := dk_172 (dk_at dksX0_item_3 9 rfl rfl)
theorem dX0_item_60 : decode cX0_item 60 = .ok (.iload_n 2, 1) := dk_28 (dk_at dksX0_item_3 10 rfl rfl)
theorem dX0_item_61 : decode cX0_item 61 = .ok (.aload_n 0, 1) := dk_42 (dk_at dksX0_item_3 11 rfl rfl)
theorem dX0_item_62 : decode cX0_item 62 = .ok (.checkcast 505, 3) := dk_192 1 249 (dk_at dksX0_item_3 12 rfl rfl)
theorem dX0_item_65 : decode cX0_item 65 = .ok (.arraylength, 1) := dk_190 (dk_at dksX0_item_3 15 rfl rfl)
theorem dX0_item_66 : decode cX0_item 66 = .ok (.invokestatic 500, 3) := dk_184 1 244 (dk_at dksX0_item_3 16 rfl rfl)
theorem dX0_item_69 : decode cX0_item 69 = .ok (.aload_n 0, 1) := dk_42 (dk_at dksX0_item_3 19 rfl rfl)
theorem dX0_item_70 : decode cX0_item 70 = .ok (.checkcast 505, 3) := dk_192 1 249 (dk_at dksX0_item_3 20 rfl rfl)
theorem dX0_item_73 : decode cX0_item 73 = .ok (.iload_n 2, 1) := dk_28 (dk_at dksX0_item_3 23 rfl rfl)
theorem dX0_item_74 : decode cX0_item 74 = .ok (.iaload, 1) := dk_46 (dk_at dksX0_item_4 0 rfl rfl)
theorem dX0_item_75 : decode cX0_item 75 = .ok (.ireturn, 1) := dk_172 (dk_at dksX0_item_4 1 rfl rfl)
def dkwX0_asksPlace_0 : List UInt8 := [26, 155, 0, 8, 26, 27, 161, 0, 11, 187, 1, 255, 89, 183, 2, 1, 191, 177]
abbrev dktX0_asksPlace_0 : List UInt8 := dkwX0_asksPlace_0 ++ []
theorem dksX0_asksPlace_0 : cX0_asksPlace.data.toList.drop 0 = dktX0_asksPlace_0 := by decide +kernel
theorem dX0_asksPlace_0 : decode cX0_asksPlace 0 = .ok (.iload_n 0, 1) := dk_26 (dk_at dksX0_asksPlace_0 0 rfl rfl)
theorem dX0_asksPlace_1 : decode cX0_asksPlace 1 = .ok (.ifCond .lt 8, 3) := dk_155 0 8 (dk_at dksX0_asksPlace_0 1 rfl rfl)
theorem dX0_asksPlace_4 : decode cX0_asksPlace 4 = .ok (.iload_n 0, 1) := dk_26 (dk_at dksX0_asksPlace_0 4 rfl rfl)
theorem dX0_asksPlace_5 : decode cX0_asksPlace 5 = .ok (.iload_n 1, 1) := dk_27 (dk_at dksX0_asksPlace_0 5 rfl rfl)
theorem dX0_asksPlace_6 : decode cX0_asksPlace 6 = .ok (.if_icmp .lt 11, 3) := dk_161 0 11 (dk_at dksX0_asksPlace_0 6 rfl rfl)
theorem dX0_asksPlace_9 : decode cX0_asksPlace 9 = .ok (.new 511, 3) := dk_187 1 255 (dk_at dksX0_asksPlace_0 9 rfl rfl)
theorem dX0_asksPlace_12 : decode cX0_asksPlace 12 = .ok (.dup, 1) := dk_89 (dk_at dksX0_asksPlace_0 12 rfl rfl)
theorem dX0_asksPlace_13 : decode cX0_asksPlace 13 = .ok (.invokespecial 513, 3) := dk_183 2 1 (dk_at dksX0_asksPlace_0 13 rfl rfl)
theorem dX0_asksPlace_16 : decode cX0_asksPlace 16 = .ok (.athrow, 1) := dk_191 (dk_at dksX0_asksPlace_0 16 rfl rfl)
theorem dX0_asksPlace_17 : decode cX0_asksPlace 17 = .ok (.return_, 1) := dk_177 (dk_at dksX0_asksPlace_0 17 rfl rfl)
def dkwX0_kindsOf_1 : List UInt8 := [4, 21, 4, 120, 167, 0, 4, 3, 128, 62, 132, 4, 1, 167, 255, 224, 29, 172]
abbrev dktX0_kindsOf_1 : List UInt8 := dkwX0_kindsOf_1 ++ []
def dkwX0_kindsOf_0 : List UInt8 := [3, 62, 3, 54, 4, 21, 4, 16, 6, 162, 0, 31, 29, 42, 43, 28, 21, 4, 182, 1, 182, 153, 0, 10]
abbrev dktX0_kindsOf_0 : List UInt8 := dkwX0_kindsOf_0 ++ dktX0_kindsOf_1
theorem dksX0_kindsOf_0 : cX0_kindsOf.data.toList.drop 0 = dktX0_kindsOf_0 := by decide +kernel
theorem dksX0_kindsOf_1 : cX0_kindsOf.data.toList.drop 24 = dktX0_kindsOf_1 := dk_seg dksX0_kindsOf_0 24 rfl rfl
theorem dX0_kindsOf_0 : decode cX0_kindsOf 0 = .ok (.iconst 0, 1) := dk_3 (dk_at dksX0_kindsOf_0 0 rfl rfl)
theorem dX0_kindsOf_1 : decode cX0_kindsOf 1 = .ok (.istore_n 3, 1) := dk_62 (dk_at dksX0_kindsOf_0 1 rfl rfl)
theorem dX0_kindsOf_2 : decode cX0_kindsOf 2 = .ok (.iconst 0, 1) := dk_3 (dk_at dksX0_kindsOf_0 2 rfl rfl)
theorem dX0_kindsOf_3 : decode cX0_kindsOf 3 = .ok (.istore 4, 2) := dk_54 4 (dk_at dksX0_kindsOf_0 3 rfl rfl)
theorem dX0_kindsOf_5 : decode cX0_kindsOf 5 = .ok (.iload 4, 2) := dk_21 4 (dk_at dksX0_kindsOf_0 5 rfl rfl)
theorem dX0_kindsOf_7 : decode cX0_kindsOf 7 = .ok (.bipush 6, 2) := dk_16 6 (dk_at dksX0_kindsOf_0 7 rfl rfl)
theorem dX0_kindsOf_9 : decode cX0_kindsOf 9 = .ok (.if_icmp .ge 31, 3) := dk_162 0 31 (dk_at dksX0_kindsOf_0 9 rfl rfl)
theorem dX0_kindsOf_12 : decode cX0_kindsOf 12 = .ok (.iload_n 3, 1) := dk_29 (dk_at dksX0_kindsOf_0 12 rfl rfl)
theorem dX0_kindsOf_13 : decode cX0_kindsOf 13 = .ok (.aload_n 0, 1) := dk_42 (dk_at dksX0_kindsOf_0 13 rfl rfl)
theorem dX0_kindsOf_14 : decode cX0_kindsOf 14 = .ok (.aload_n 1, 1) := dk_43 (dk_at dksX0_kindsOf_0 14 rfl rfl)
theorem dX0_kindsOf_15 : decode cX0_kindsOf 15 = .ok (.iload_n 2, 1) := dk_28 (dk_at dksX0_kindsOf_0 15 rfl rfl)
theorem dX0_kindsOf_16 : decode cX0_kindsOf 16 = .ok (.iload 4, 2) := dk_21 4 (dk_at dksX0_kindsOf_0 16 rfl rfl)
theorem dX0_kindsOf_18 : decode cX0_kindsOf 18 = .ok (.invokevirtual 438, 3) := dk_182 1 182 (dk_at dksX0_kindsOf_0 18 rfl rfl)
theorem dX0_kindsOf_21 : decode cX0_kindsOf 21 = .ok (.ifCond .eq 10, 3) := dk_153 0 10 (dk_at dksX0_kindsOf_0 21 rfl rfl)
theorem dX0_kindsOf_24 : decode cX0_kindsOf 24 = .ok (.iconst 1, 1) := dk_4 (dk_at dksX0_kindsOf_1 0 rfl rfl)
theorem dX0_kindsOf_25 : decode cX0_kindsOf 25 = .ok (.iload 4, 2) := dk_21 4 (dk_at dksX0_kindsOf_1 1 rfl rfl)
theorem dX0_kindsOf_27 : decode cX0_kindsOf 27 = .ok (.ishl, 1) := dk_120 (dk_at dksX0_kindsOf_1 3 rfl rfl)
theorem dX0_kindsOf_28 : decode cX0_kindsOf 28 = .ok (.goto 4, 3) := dk_167 0 4 (dk_at dksX0_kindsOf_1 4 rfl rfl)
theorem dX0_kindsOf_31 : decode cX0_kindsOf 31 = .ok (.iconst 0, 1) := dk_3 (dk_at dksX0_kindsOf_1 7 rfl rfl)
theorem dX0_kindsOf_32 : decode cX0_kindsOf 32 = .ok (.ior, 1) := dk_128 (dk_at dksX0_kindsOf_1 8 rfl rfl)
theorem dX0_kindsOf_33 : decode cX0_kindsOf 33 = .ok (.istore_n 3, 1) := dk_62 (dk_at dksX0_kindsOf_1 9 rfl rfl)
theorem dX0_kindsOf_34 : decode cX0_kindsOf 34 = .ok (.iinc 4 1, 3) := dk_132 4 1 (dk_at dksX0_kindsOf_1 10 rfl rfl)
theorem dX0_kindsOf_37 : decode cX0_kindsOf 37 = .ok (.goto (-32), 3) := dk_167 255 224 (dk_at dksX0_kindsOf_1 13 rfl rfl)
theorem dX0_kindsOf_40 : decode cX0_kindsOf 40 = .ok (.iload_n 3, 1) := dk_29 (dk_at dksX0_kindsOf_1 16 rfl rfl)
theorem dX0_kindsOf_41 : decode cX0_kindsOf 41 = .ok (.ireturn, 1) := dk_172 (dk_at dksX0_kindsOf_1 17 rfl rfl)
def dkwX0_isSoAs_3 : List UInt8 := [25, 6, 191]
abbrev dktX0_isSoAs_3 : List UInt8 := dkwX0_isSoAs_3 ++ []
def dkwX0_isSoAs_2 : List UInt8 := [54, 5, 42, 180, 0, 51, 28, 25, 4, 83, 21, 5, 172, 58, 6, 42, 180, 0, 51, 28, 25, 4, 83]
abbrev dktX0_isSoAs_2 : List UInt8 := dkwX0_isSoAs_2 ++ dktX0_isSoAs_3
def dkwX0_isSoAs_1 : List UInt8 := [184, 0, 55, 25, 4, 182, 1, 175, 83, 42, 43, 28, 182, 1, 179, 2, 160, 0, 7, 4, 167, 0, 4, 3]
abbrev dktX0_isSoAs_1 : List UInt8 := dkwX0_isSoAs_1 ++ dktX0_isSoAs_2
def dkwX0_isSoAs_0 : List UInt8 := [42, 180, 0, 51, 28, 50, 58, 4, 42, 180, 0, 51, 28, 29, 25, 4, 180, 0, 76, 25, 4, 180, 0, 79]
abbrev dktX0_isSoAs_0 : List UInt8 := dkwX0_isSoAs_0 ++ dktX0_isSoAs_1
theorem dksX0_isSoAs_0 : cX0_isSoAs.data.toList.drop 0 = dktX0_isSoAs_0 := by decide +kernel
theorem dksX0_isSoAs_1 : cX0_isSoAs.data.toList.drop 24 = dktX0_isSoAs_1 := dk_seg dksX0_isSoAs_0 24 rfl rfl
theorem dksX0_isSoAs_2 : cX0_isSoAs.data.toList.drop 48 = dktX0_isSoAs_2 := dk_seg dksX0_isSoAs_1 24 rfl rfl
theorem dksX0_isSoAs_3 : cX0_isSoAs.data.toList.drop 71 = dktX0_isSoAs_3 := dk_seg dksX0_isSoAs_2 23 rfl rfl
theorem dX0_isSoAs_0 : decode cX0_isSoAs 0 = .ok (.aload_n 0, 1) := dk_42 (dk_at dksX0_isSoAs_0 0 rfl rfl)
theorem dX0_isSoAs_1 : decode cX0_isSoAs 1 = .ok (.getfield 51, 3) := dk_180 0 51 (dk_at dksX0_isSoAs_0 1 rfl rfl)
theorem dX0_isSoAs_4 : decode cX0_isSoAs 4 = .ok (.iload_n 2, 1) := dk_28 (dk_at dksX0_isSoAs_0 4 rfl rfl)
theorem dX0_isSoAs_5 : decode cX0_isSoAs 5 = .ok (.aaload, 1) := dk_50 (dk_at dksX0_isSoAs_0 5 rfl rfl)
theorem dX0_isSoAs_6 : decode cX0_isSoAs 6 = .ok (.astore 4, 2) := dk_58 4 (dk_at dksX0_isSoAs_0 6 rfl rfl)
theorem dX0_isSoAs_8 : decode cX0_isSoAs 8 = .ok (.aload_n 0, 1) := dk_42 (dk_at dksX0_isSoAs_0 8 rfl rfl)
theorem dX0_isSoAs_9 : decode cX0_isSoAs 9 = .ok (.getfield 51, 3) := dk_180 0 51 (dk_at dksX0_isSoAs_0 9 rfl rfl)
theorem dX0_isSoAs_12 : decode cX0_isSoAs 12 = .ok (.iload_n 2, 1) := dk_28 (dk_at dksX0_isSoAs_0 12 rfl rfl)
theorem dX0_isSoAs_13 : decode cX0_isSoAs 13 = .ok (.iload_n 3, 1) := dk_29 (dk_at dksX0_isSoAs_0 13 rfl rfl)
theorem dX0_isSoAs_14 : decode cX0_isSoAs 14 = .ok (.aload 4, 2) := dk_25 4 (dk_at dksX0_isSoAs_0 14 rfl rfl)
theorem dX0_isSoAs_16 : decode cX0_isSoAs 16 = .ok (.getfield 76, 3) := dk_180 0 76 (dk_at dksX0_isSoAs_0 16 rfl rfl)
theorem dX0_isSoAs_19 : decode cX0_isSoAs 19 = .ok (.aload 4, 2) := dk_25 4 (dk_at dksX0_isSoAs_0 19 rfl rfl)
theorem dX0_isSoAs_21 : decode cX0_isSoAs 21 = .ok (.getfield 79, 3) := dk_180 0 79 (dk_at dksX0_isSoAs_0 21 rfl rfl)
theorem dX0_isSoAs_24 : decode cX0_isSoAs 24 = .ok (.invokestatic 55, 3) := dk_184 0 55 (dk_at dksX0_isSoAs_1 0 rfl rfl)
theorem dX0_isSoAs_27 : decode cX0_isSoAs 27 = .ok (.aload 4, 2) := dk_25 4 (dk_at dksX0_isSoAs_1 3 rfl rfl)
theorem dX0_isSoAs_29 : decode cX0_isSoAs 29 = .ok (.invokevirtual 431, 3) := dk_182 1 175 (dk_at dksX0_isSoAs_1 5 rfl rfl)
theorem dX0_isSoAs_32 : decode cX0_isSoAs 32 = .ok (.aastore, 1) := dk_83 (dk_at dksX0_isSoAs_1 8 rfl rfl)
theorem dX0_isSoAs_33 : decode cX0_isSoAs 33 = .ok (.aload_n 0, 1) := dk_42 (dk_at dksX0_isSoAs_1 9 rfl rfl)
theorem dX0_isSoAs_34 : decode cX0_isSoAs 34 = .ok (.aload_n 1, 1) := dk_43 (dk_at dksX0_isSoAs_1 10 rfl rfl)
theorem dX0_isSoAs_35 : decode cX0_isSoAs 35 = .ok (.iload_n 2, 1) := dk_28 (dk_at dksX0_isSoAs_1 11 rfl rfl)
theorem dX0_isSoAs_36 : decode cX0_isSoAs 36 = .ok (.invokevirtual 435, 3) := dk_182 1 179 (dk_at dksX0_isSoAs_1 12 rfl rfl)
theorem dX0_isSoAs_39 : decode cX0_isSoAs 39 = .ok (.iconst (-1), 1) := dk_2 (dk_at dksX0_isSoAs_1 15 rfl rfl)
theorem dX0_isSoAs_40 : decode cX0_isSoAs 40 = .ok (.if_icmp .ne 7, 3) := dk_160 0 7 (dk_at dksX0_isSoAs_1 16 rfl rfl)
theorem dX0_isSoAs_43 : decode cX0_isSoAs 43 = .ok (.iconst 1, 1) := dk_4 (dk_at dksX0_isSoAs_1 19 rfl rfl)
theorem dX0_isSoAs_44 : decode cX0_isSoAs 44 = .ok (.goto 4, 3) := dk_167 0 4 (dk_at dksX0_isSoAs_1 20 rfl rfl)
theorem dX0_isSoAs_47 : decode cX0_isSoAs 47 = .ok (.iconst 0, 1) := dk_3 (dk_at dksX0_isSoAs_1 23 rfl rfl)
theorem dX0_isSoAs_48 : decode cX0_isSoAs 48 = .ok (.istore 5, 2) := dk_54 5 (dk_at dksX0_isSoAs_2 0 rfl rfl)
theorem dX0_isSoAs_50 : decode cX0_isSoAs 50 = .ok (.aload_n 0, 1) := dk_42 (dk_at dksX0_isSoAs_2 2 rfl rfl)
theorem dX0_isSoAs_51 : decode cX0_isSoAs 51 = .ok (.getfield 51, 3) := dk_180 0 51 (dk_at dksX0_isSoAs_2 3 rfl rfl)
theorem dX0_isSoAs_54 : decode cX0_isSoAs 54 = .ok (.iload_n 2, 1) := dk_28 (dk_at dksX0_isSoAs_2 6 rfl rfl)
theorem dX0_isSoAs_55 : decode cX0_isSoAs 55 = .ok (.aload 4, 2) := dk_25 4 (dk_at dksX0_isSoAs_2 7 rfl rfl)
theorem dX0_isSoAs_57 : decode cX0_isSoAs 57 = .ok (.aastore, 1) := dk_83 (dk_at dksX0_isSoAs_2 9 rfl rfl)
theorem dX0_isSoAs_58 : decode cX0_isSoAs 58 = .ok (.iload 5, 2) := dk_21 5 (dk_at dksX0_isSoAs_2 10 rfl rfl)
theorem dX0_isSoAs_60 : decode cX0_isSoAs 60 = .ok (.ireturn, 1) := dk_172 (dk_at dksX0_isSoAs_2 12 rfl rfl)
theorem dX0_isSoAs_61 : decode cX0_isSoAs 61 = .ok (.astore 6, 2) := dk_58 6 (dk_at dksX0_isSoAs_2 13 rfl rfl)
theorem dX0_isSoAs_63 : decode cX0_isSoAs 63 = .ok (.aload_n 0, 1) := dk_42 (dk_at dksX0_isSoAs_2 15 rfl rfl)
theorem dX0_isSoAs_64 : decode cX0_isSoAs 64 = .ok (.getfield 51, 3) := dk_180 0 51 (dk_at dksX0_isSoAs_2 16 rfl rfl)
theorem dX0_isSoAs_67 : decode cX0_isSoAs 67 = .ok (.iload_n 2, 1) := dk_28 (dk_at dksX0_isSoAs_2 19 rfl rfl)
theorem dX0_isSoAs_68 : decode cX0_isSoAs 68 = .ok (.aload 4, 2) := dk_25 4 (dk_at dksX0_isSoAs_2 20 rfl rfl)
theorem dX0_isSoAs_70 : decode cX0_isSoAs 70 = .ok (.aastore, 1) := dk_83 (dk_at dksX0_isSoAs_2 22 rfl rfl)
theorem dX0_isSoAs_71 : decode cX0_isSoAs 71 = .ok (.aload 6, 2) := dk_25 6 (dk_at dksX0_isSoAs_3 0 rfl rfl)
theorem dX0_isSoAs_73 : decode cX0_isSoAs 73 = .ok (.athrow, 1) := dk_191 (dk_at dksX0_isSoAs_3 2 rfl rfl)
def dkwX0_setBy_1 : List UInt8 := [153, 0, 10, 4, 21, 6, 120, 167, 0, 4, 3, 128, 54, 5, 132, 6, 1, 167, 255, 221, 21, 5, 172]
abbrev dktX0_setBy_1 : List UInt8 := dkwX0_setBy_1 ++ []
def dkwX0_setBy_0 : List UInt8 := [3, 54, 5, 3, 54, 6, 21, 6, 21, 4, 162, 0, 34, 21, 5, 42, 43, 28, 29, 21, 6, 182, 1, 186]
abbrev dktX0_setBy_0 : List UInt8 := dkwX0_setBy_0 ++ dktX0_setBy_1
theorem dksX0_setBy_0 : cX0_setBy.data.toList.drop 0 = dktX0_setBy_0 := by decide +kernel
theorem dksX0_setBy_1 : cX0_setBy.data.toList.drop 24 = dktX0_setBy_1 := dk_seg dksX0_setBy_0 24 rfl rfl
theorem dX0_setBy_0 : decode cX0_setBy 0 = .ok (.iconst 0, 1) := dk_3 (dk_at dksX0_setBy_0 0 rfl rfl)
theorem dX0_setBy_1 : decode cX0_setBy 1 = .ok (.istore 5, 2) := dk_54 5 (dk_at dksX0_setBy_0 1 rfl rfl)
theorem dX0_setBy_3 : decode cX0_setBy 3 = .ok (.iconst 0, 1) := dk_3 (dk_at dksX0_setBy_0 3 rfl rfl)
theorem dX0_setBy_4 : decode cX0_setBy 4 = .ok (.istore 6, 2) := dk_54 6 (dk_at dksX0_setBy_0 4 rfl rfl)
theorem dX0_setBy_6 : decode cX0_setBy 6 = .ok (.iload 6, 2) := dk_21 6 (dk_at dksX0_setBy_0 6 rfl rfl)
theorem dX0_setBy_8 : decode cX0_setBy 8 = .ok (.iload 4, 2) := dk_21 4 (dk_at dksX0_setBy_0 8 rfl rfl)
theorem dX0_setBy_10 : decode cX0_setBy 10 = .ok (.if_icmp .ge 34, 3) := dk_162 0 34 (dk_at dksX0_setBy_0 10 rfl rfl)
theorem dX0_setBy_13 : decode cX0_setBy 13 = .ok (.iload 5, 2) := dk_21 5 (dk_at dksX0_setBy_0 13 rfl rfl)
theorem dX0_setBy_15 : decode cX0_setBy 15 = .ok (.aload_n 0, 1) := dk_42 (dk_at dksX0_setBy_0 15 rfl rfl)
theorem dX0_setBy_16 : decode cX0_setBy 16 = .ok (.aload_n 1, 1) := dk_43 (dk_at dksX0_setBy_0 16 rfl rfl)
theorem dX0_setBy_17 : decode cX0_setBy 17 = .ok (.iload_n 2, 1) := dk_28 (dk_at dksX0_setBy_0 17 rfl rfl)
theorem dX0_setBy_18 : decode cX0_setBy 18 = .ok (.iload_n 3, 1) := dk_29 (dk_at dksX0_setBy_0 18 rfl rfl)
theorem dX0_setBy_19 : decode cX0_setBy 19 = .ok (.iload 6, 2) := dk_21 6 (dk_at dksX0_setBy_0 19 rfl rfl)
theorem dX0_setBy_21 : decode cX0_setBy 21 = .ok (.invokevirtual 442, 3) := dk_182 1 186 (dk_at dksX0_setBy_0 21 rfl rfl)
theorem dX0_setBy_24 : decode cX0_setBy 24 = .ok (.ifCond .eq 10, 3) := dk_153 0 10 (dk_at dksX0_setBy_1 0 rfl rfl)
theorem dX0_setBy_27 : decode cX0_setBy 27 = .ok (.iconst 1, 1) := dk_4 (dk_at dksX0_setBy_1 3 rfl rfl)
theorem dX0_setBy_28 : decode cX0_setBy 28 = .ok (.iload 6, 2) := dk_21 6 (dk_at dksX0_setBy_1 4 rfl rfl)
theorem dX0_setBy_30 : decode cX0_setBy 30 = .ok (.ishl, 1) := dk_120 (dk_at dksX0_setBy_1 6 rfl rfl)
theorem dX0_setBy_31 : decode cX0_setBy 31 = .ok (.goto 4, 3) := dk_167 0 4 (dk_at dksX0_setBy_1 7 rfl rfl)
theorem dX0_setBy_34 : decode cX0_setBy 34 = .ok (.iconst 0, 1) := dk_3 (dk_at dksX0_setBy_1 10 rfl rfl)
theorem dX0_setBy_35 : decode cX0_setBy 35 = .ok (.ior, 1) := dk_128 (dk_at dksX0_setBy_1 11 rfl rfl)
theorem dX0_setBy_36 : decode cX0_setBy 36 = .ok (.istore 5, 2) := dk_54 5 (dk_at dksX0_setBy_1 12 rfl rfl)
theorem dX0_setBy_38 : decode cX0_setBy 38 = .ok (.iinc 6 1, 3) := dk_132 6 1 (dk_at dksX0_setBy_1 14 rfl rfl)
theorem dX0_setBy_41 : decode cX0_setBy 41 = .ok (.goto (-35), 3) := dk_167 255 221 (dk_at dksX0_setBy_1 17 rfl rfl)
theorem dX0_setBy_44 : decode cX0_setBy 44 = .ok (.iload 5, 2) := dk_21 5 (dk_at dksX0_setBy_1 20 rfl rfl)
theorem dX0_setBy_46 : decode cX0_setBy 46 = .ok (.ireturn, 1) := dk_172 (dk_at dksX0_setBy_1 22 rfl rfl)
def dkwX0_isSoBy_2 : List UInt8 := [29, 28, 21, 5, 182, 0, 90, 25, 7, 191]
abbrev dktX0_isSoBy_2 : List UInt8 := dkwX0_isSoBy_2 ++ []
def dkwX0_isSoBy_1 : List UInt8 := [160, 0, 7, 4, 167, 0, 4, 3, 54, 6, 42, 29, 28, 21, 5, 182, 0, 90, 21, 6, 172, 58, 7, 42]
abbrev dktX0_isSoBy_1 : List UInt8 := dkwX0_isSoBy_1 ++ dktX0_isSoBy_2
def dkwX0_isSoBy_0 : List UInt8 := [42, 28, 29, 182, 0, 87, 54, 5, 42, 29, 28, 21, 4, 182, 0, 90, 42, 43, 28, 182, 1, 179, 2]
abbrev dktX0_isSoBy_0 : List UInt8 := dkwX0_isSoBy_0 ++ dktX0_isSoBy_1
theorem dksX0_isSoBy_0 : cX0_isSoBy.data.toList.drop 0 = dktX0_isSoBy_0 := by decide +kernel
theorem dksX0_isSoBy_1 : cX0_isSoBy.data.toList.drop 23 = dktX0_isSoBy_1 := dk_seg dksX0_isSoBy_0 23 rfl rfl
theorem dksX0_isSoBy_2 : cX0_isSoBy.data.toList.drop 47 = dktX0_isSoBy_2 := dk_seg dksX0_isSoBy_1 24 rfl rfl
theorem dX0_isSoBy_0 : decode cX0_isSoBy 0 = .ok (.aload_n 0, 1) := dk_42 (dk_at dksX0_isSoBy_0 0 rfl rfl)
theorem dX0_isSoBy_1 : decode cX0_isSoBy 1 = .ok (.iload_n 2, 1) := dk_28 (dk_at dksX0_isSoBy_0 1 rfl rfl)
theorem dX0_isSoBy_2 : decode cX0_isSoBy 2 = .ok (.iload_n 3, 1) := dk_29 (dk_at dksX0_isSoBy_0 2 rfl rfl)
theorem dX0_isSoBy_3 : decode cX0_isSoBy 3 = .ok (.invokevirtual 87, 3) := dk_182 0 87 (dk_at dksX0_isSoBy_0 3 rfl rfl)
theorem dX0_isSoBy_6 : decode cX0_isSoBy 6 = .ok (.istore 5, 2) := dk_54 5 (dk_at dksX0_isSoBy_0 6 rfl rfl)
theorem dX0_isSoBy_8 : decode cX0_isSoBy 8 = .ok (.aload_n 0, 1) := dk_42 (dk_at dksX0_isSoBy_0 8 rfl rfl)
theorem dX0_isSoBy_9 : decode cX0_isSoBy 9 = .ok (.iload_n 3, 1) := dk_29 (dk_at dksX0_isSoBy_0 9 rfl rfl)
theorem dX0_isSoBy_10 : decode cX0_isSoBy 10 = .ok (.iload_n 2, 1) := dk_28 (dk_at dksX0_isSoBy_0 10 rfl rfl)
theorem dX0_isSoBy_11 : decode cX0_isSoBy 11 = .ok (.iload 4, 2) := dk_21 4 (dk_at dksX0_isSoBy_0 11 rfl rfl)
theorem dX0_isSoBy_13 : decode cX0_isSoBy 13 = .ok (.invokevirtual 90, 3) := dk_182 0 90 (dk_at dksX0_isSoBy_0 13 rfl rfl)
theorem dX0_isSoBy_16 : decode cX0_isSoBy 16 = .ok (.aload_n 0, 1) := dk_42 (dk_at dksX0_isSoBy_0 16 rfl rfl)
theorem dX0_isSoBy_17 : decode cX0_isSoBy 17 = .ok (.aload_n 1, 1) := dk_43 (dk_at dksX0_isSoBy_0 17 rfl rfl)
theorem dX0_isSoBy_18 : decode cX0_isSoBy 18 = .ok (.iload_n 2, 1) := dk_28 (dk_at dksX0_isSoBy_0 18 rfl rfl)
theorem dX0_isSoBy_19 : decode cX0_isSoBy 19 = .ok (.invokevirtual 435, 3) := dk_182 1 179 (dk_at dksX0_isSoBy_0 19 rfl rfl)
theorem dX0_isSoBy_22 : decode cX0_isSoBy 22 = .ok (.iconst (-1), 1) := dk_2 (dk_at dksX0_isSoBy_0 22 rfl rfl)
theorem dX0_isSoBy_23 : decode cX0_isSoBy 23 = .ok (.if_icmp .ne 7, 3) := dk_160 0 7 (dk_at dksX0_isSoBy_1 0 rfl rfl)
theorem dX0_isSoBy_26 : decode cX0_isSoBy 26 = .ok (.iconst 1, 1) := dk_4 (dk_at dksX0_isSoBy_1 3 rfl rfl)
theorem dX0_isSoBy_27 : decode cX0_isSoBy 27 = .ok (.goto 4, 3) := dk_167 0 4 (dk_at dksX0_isSoBy_1 4 rfl rfl)
theorem dX0_isSoBy_30 : decode cX0_isSoBy 30 = .ok (.iconst 0, 1) := dk_3 (dk_at dksX0_isSoBy_1 7 rfl rfl)
theorem dX0_isSoBy_31 : decode cX0_isSoBy 31 = .ok (.istore 6, 2) := dk_54 6 (dk_at dksX0_isSoBy_1 8 rfl rfl)
theorem dX0_isSoBy_33 : decode cX0_isSoBy 33 = .ok (.aload_n 0, 1) := dk_42 (dk_at dksX0_isSoBy_1 10 rfl rfl)
theorem dX0_isSoBy_34 : decode cX0_isSoBy 34 = .ok (.iload_n 3, 1) := dk_29 (dk_at dksX0_isSoBy_1 11 rfl rfl)
theorem dX0_isSoBy_35 : decode cX0_isSoBy 35 = .ok (.iload_n 2, 1) := dk_28 (dk_at dksX0_isSoBy_1 12 rfl rfl)
theorem dX0_isSoBy_36 : decode cX0_isSoBy 36 = .ok (.iload 5, 2) := dk_21 5 (dk_at dksX0_isSoBy_1 13 rfl rfl)
theorem dX0_isSoBy_38 : decode cX0_isSoBy 38 = .ok (.invokevirtual 90, 3) := dk_182 0 90 (dk_at dksX0_isSoBy_1 15 rfl rfl)
theorem dX0_isSoBy_41 : decode cX0_isSoBy 41 = .ok (.iload 6, 2) := dk_21 6 (dk_at dksX0_isSoBy_1 18 rfl rfl)
theorem dX0_isSoBy_43 : decode cX0_isSoBy 43 = .ok (.ireturn, 1) := dk_172 (dk_at dksX0_isSoBy_1 20 rfl rfl)
theorem dX0_isSoBy_44 : decode cX0_isSoBy 44 = .ok (.astore 7, 2) := dk_58 7 (dk_at dksX0_isSoBy_1 21 rfl rfl)
theorem dX0_isSoBy_46 : decode cX0_isSoBy 46 = .ok (.aload_n 0, 1) := dk_42 (dk_at dksX0_isSoBy_1 23 rfl rfl)
theorem dX0_isSoBy_47 : decode cX0_isSoBy 47 = .ok (.iload_n 3, 1) := dk_29 (dk_at dksX0_isSoBy_2 0 rfl rfl)
theorem dX0_isSoBy_48 : decode cX0_isSoBy 48 = .ok (.iload_n 2, 1) := dk_28 (dk_at dksX0_isSoBy_2 1 rfl rfl)
theorem dX0_isSoBy_49 : decode cX0_isSoBy 49 = .ok (.iload 5, 2) := dk_21 5 (dk_at dksX0_isSoBy_2 2 rfl rfl)
theorem dX0_isSoBy_51 : decode cX0_isSoBy 51 = .ok (.invokevirtual 90, 3) := dk_182 0 90 (dk_at dksX0_isSoBy_2 4 rfl rfl)
theorem dX0_isSoBy_54 : decode cX0_isSoBy 54 = .ok (.aload 7, 2) := dk_25 7 (dk_at dksX0_isSoBy_2 7 rfl rfl)
theorem dX0_isSoBy_56 : decode cX0_isSoBy 56 = .ok (.athrow, 1) := dk_191 (dk_at dksX0_isSoBy_2 9 rfl rfl)
def dkwX0_bulbsBy_2 : List UInt8 := [167, 0, 5, 21, 4, 172]
abbrev dktX0_bulbsBy_2 : List UInt8 := dkwX0_bulbsBy_2 ++ []
def dkwX0_bulbsBy_1 : List UInt8 := [153, 0, 13, 29, 153, 0, 6, 21, 5, 172, 132, 4, 1, 132, 5, 1, 167, 255, 224, 29, 153, 0, 7, 2]
abbrev dktX0_bulbsBy_1 : List UInt8 := dkwX0_bulbsBy_1 ++ dktX0_bulbsBy_2
def dkwX0_bulbsBy_0 : List UInt8 := [3, 54, 4, 3, 54, 5, 21, 5, 16, 99, 163, 0, 31, 42, 43, 28, 8, 21, 5, 182, 1, 186]
abbrev dktX0_bulbsBy_0 : List UInt8 := dkwX0_bulbsBy_0 ++ dktX0_bulbsBy_1
theorem dksX0_bulbsBy_0 : cX0_bulbsBy.data.toList.drop 0 = dktX0_bulbsBy_0 := by decide +kernel
theorem dksX0_bulbsBy_1 : cX0_bulbsBy.data.toList.drop 22 = dktX0_bulbsBy_1 := dk_seg dksX0_bulbsBy_0 22 rfl rfl
theorem dksX0_bulbsBy_2 : cX0_bulbsBy.data.toList.drop 46 = dktX0_bulbsBy_2 := dk_seg dksX0_bulbsBy_1 24 rfl rfl
theorem dX0_bulbsBy_0 : decode cX0_bulbsBy 0 = .ok (.iconst 0, 1) := dk_3 (dk_at dksX0_bulbsBy_0 0 rfl rfl)
theorem dX0_bulbsBy_1 : decode cX0_bulbsBy 1 = .ok (.istore 4, 2) := dk_54 4 (dk_at dksX0_bulbsBy_0 1 rfl rfl)
theorem dX0_bulbsBy_3 : decode cX0_bulbsBy 3 = .ok (.iconst 0, 1) := dk_3 (dk_at dksX0_bulbsBy_0 3 rfl rfl)
theorem dX0_bulbsBy_4 : decode cX0_bulbsBy 4 = .ok (.istore 5, 2) := dk_54 5 (dk_at dksX0_bulbsBy_0 4 rfl rfl)
theorem dX0_bulbsBy_6 : decode cX0_bulbsBy 6 = .ok (.iload 5, 2) := dk_21 5 (dk_at dksX0_bulbsBy_0 6 rfl rfl)
theorem dX0_bulbsBy_8 : decode cX0_bulbsBy 8 = .ok (.bipush 99, 2) := dk_16 99 (dk_at dksX0_bulbsBy_0 8 rfl rfl)
theorem dX0_bulbsBy_10 : decode cX0_bulbsBy 10 = .ok (.if_icmp .gt 31, 3) := dk_163 0 31 (dk_at dksX0_bulbsBy_0 10 rfl rfl)
theorem dX0_bulbsBy_13 : decode cX0_bulbsBy 13 = .ok (.aload_n 0, 1) := dk_42 (dk_at dksX0_bulbsBy_0 13 rfl rfl)
theorem dX0_bulbsBy_14 : decode cX0_bulbsBy 14 = .ok (.aload_n 1, 1) := dk_43 (dk_at dksX0_bulbsBy_0 14 rfl rfl)
theorem dX0_bulbsBy_15 : decode cX0_bulbsBy 15 = .ok (.iload_n 2, 1) := dk_28 (dk_at dksX0_bulbsBy_0 15 rfl rfl)
theorem dX0_bulbsBy_16 : decode cX0_bulbsBy 16 = .ok (.iconst 5, 1) := dk_8 (dk_at dksX0_bulbsBy_0 16 rfl rfl)
theorem dX0_bulbsBy_17 : decode cX0_bulbsBy 17 = .ok (.iload 5, 2) := dk_21 5 (dk_at dksX0_bulbsBy_0 17 rfl rfl)
theorem dX0_bulbsBy_19 : decode cX0_bulbsBy 19 = .ok (.invokevirtual 442, 3) := dk_182 1 186 (dk_at dksX0_bulbsBy_0 19 rfl rfl)
theorem dX0_bulbsBy_22 : decode cX0_bulbsBy 22 = .ok (.ifCond .eq 13, 3) := dk_153 0 13 (dk_at dksX0_bulbsBy_1 0 rfl rfl)
theorem dX0_bulbsBy_25 : decode cX0_bulbsBy 25 = .ok (.iload_n 3, 1) := dk_29 (dk_at dksX0_bulbsBy_1 3 rfl rfl)
theorem dX0_bulbsBy_26 : decode cX0_bulbsBy 26 = .ok (.ifCond .eq 6, 3) := dk_153 0 6 (dk_at dksX0_bulbsBy_1 4 rfl rfl)
theorem dX0_bulbsBy_29 : decode cX0_bulbsBy 29 = .ok (.iload 5, 2) := dk_21 5 (dk_at dksX0_bulbsBy_1 7 rfl rfl)
theorem dX0_bulbsBy_31 : decode cX0_bulbsBy 31 = .ok (.ireturn, 1) := dk_172 (dk_at dksX0_bulbsBy_1 9 rfl rfl)
theorem dX0_bulbsBy_32 : decode cX0_bulbsBy 32 = .ok (.iinc 4 1, 3) := dk_132 4 1 (dk_at dksX0_bulbsBy_1 10 rfl rfl)
theorem dX0_bulbsBy_35 : decode cX0_bulbsBy 35 = .ok (.iinc 5 1, 3) := dk_132 5 1 (dk_at dksX0_bulbsBy_1 13 rfl rfl)
theorem dX0_bulbsBy_38 : decode cX0_bulbsBy 38 = .ok (.goto (-32), 3) := dk_167 255 224 (dk_at dksX0_bulbsBy_1 16 rfl rfl)
theorem dX0_bulbsBy_41 : decode cX0_bulbsBy 41 = .ok (.iload_n 3, 1) := dk_29 (dk_at dksX0_bulbsBy_1 19 rfl rfl)
theorem dX0_bulbsBy_42 : decode cX0_bulbsBy 42 = .ok (.ifCond .eq 7, 3) := dk_153 0 7 (dk_at dksX0_bulbsBy_1 20 rfl rfl)
theorem dX0_bulbsBy_45 : decode cX0_bulbsBy 45 = .ok (.iconst (-1), 1) := dk_2 (dk_at dksX0_bulbsBy_1 23 rfl rfl)
theorem dX0_bulbsBy_46 : decode cX0_bulbsBy 46 = .ok (.goto 5, 3) := dk_167 0 5 (dk_at dksX0_bulbsBy_2 0 rfl rfl)
theorem dX0_bulbsBy_49 : decode cX0_bulbsBy 49 = .ok (.iload 4, 2) := dk_21 4 (dk_at dksX0_bulbsBy_2 3 rfl rfl)
theorem dX0_bulbsBy_51 : decode cX0_bulbsBy 51 = .ok (.ireturn, 1) := dk_172 (dk_at dksX0_bulbsBy_2 5 rfl rfl)
def dkwX0_textsOf_3 : List UInt8 := [25, 6, 191, 21, 4, 172]
abbrev dktX0_textsOf_3 : List UInt8 := dkwX0_textsOf_3 ++ []
def dkwX0_textsOf_2 : List UInt8 := [54, 4, 132, 5, 1, 167, 255, 215, 42, 29, 181, 1, 79, 167, 0, 13, 58, 6, 42, 29, 181, 1, 79]
abbrev dktX0_textsOf_2 : List UInt8 := dkwX0_textsOf_2 ++ dktX0_textsOf_3
def dkwX0_textsOf_1 : List UInt8 := [181, 1, 79, 21, 4, 42, 43, 28, 182, 1, 179, 2, 160, 0, 10, 4, 21, 5, 120, 167, 0, 4, 3, 128]
abbrev dktX0_textsOf_1 : List UInt8 := dkwX0_textsOf_1 ++ dktX0_textsOf_2
def dkwX0_textsOf_0 : List UInt8 := [42, 180, 1, 79, 62, 3, 54, 4, 3, 54, 5, 21, 5, 42, 180, 1, 3, 162, 0, 38, 42, 21, 5]
abbrev dktX0_textsOf_0 : List UInt8 := dkwX0_textsOf_0 ++ dktX0_textsOf_1
theorem dksX0_textsOf_0 : cX0_textsOf.data.toList.drop 0 = dktX0_textsOf_0 := by decide +kernel
theorem dksX0_textsOf_1 : cX0_textsOf.data.toList.drop 23 = dktX0_textsOf_1 := dk_seg dksX0_textsOf_0 23 rfl rfl
theorem dksX0_textsOf_2 : cX0_textsOf.data.toList.drop 47 = dktX0_textsOf_2 := dk_seg dksX0_textsOf_1 24 rfl rfl
theorem dksX0_textsOf_3 : cX0_textsOf.data.toList.drop 70 = dktX0_textsOf_3 := dk_seg dksX0_textsOf_2 23 rfl rfl
theorem dX0_textsOf_0 : decode cX0_textsOf 0 = .ok (.aload_n 0, 1) := dk_42 (dk_at dksX0_textsOf_0 0 rfl rfl)
theorem dX0_textsOf_1 : decode cX0_textsOf 1 = .ok (.getfield 335, 3) := dk_180 1 79 (dk_at dksX0_textsOf_0 1 rfl rfl)
theorem dX0_textsOf_4 : decode cX0_textsOf 4 = .ok (.istore_n 3, 1) := dk_62 (dk_at dksX0_textsOf_0 4 rfl rfl)
theorem dX0_textsOf_5 : decode cX0_textsOf 5 = .ok (.iconst 0, 1) := dk_3 (dk_at dksX0_textsOf_0 5 rfl rfl)
theorem dX0_textsOf_6 : decode cX0_textsOf 6 = .ok (.istore 4, 2) := dk_54 4 (dk_at dksX0_textsOf_0 6 rfl rfl)
theorem dX0_textsOf_8 : decode cX0_textsOf 8 = .ok (.iconst 0, 1) := dk_3 (dk_at dksX0_textsOf_0 8 rfl rfl)
theorem dX0_textsOf_9 : decode cX0_textsOf 9 = .ok (.istore 5, 2) := dk_54 5 (dk_at dksX0_textsOf_0 9 rfl rfl)
theorem dX0_textsOf_11 : decode cX0_textsOf 11 = .ok (.iload 5, 2) := dk_21 5 (dk_at dksX0_textsOf_0 11 rfl rfl)
theorem dX0_textsOf_13 : decode cX0_textsOf 13 = .ok (.aload_n 0, 1) := dk_42 (dk_at dksX0_textsOf_0 13 rfl rfl)
theorem dX0_textsOf_14 : decode cX0_textsOf 14 = .ok (.getfield 259, 3) := dk_180 1 3 (dk_at dksX0_textsOf_0 14 rfl rfl)
theorem dX0_textsOf_17 : decode cX0_textsOf 17 = .ok (.if_icmp .ge 38, 3) := dk_162 0 38 (dk_at dksX0_textsOf_0 17 rfl rfl)
theorem dX0_textsOf_20 : decode cX0_textsOf 20 = .ok (.aload_n 0, 1) := dk_42 (dk_at dksX0_textsOf_0 20 rfl rfl)
theorem dX0_textsOf_21 : decode cX0_textsOf 21 = .ok (.iload 5, 2) := dk_21 5 (dk_at dksX0_textsOf_0 21 rfl rfl)
theorem dX0_textsOf_23 : decode cX0_textsOf 23 = .ok (.putfield 335, 3) := dk_181 1 79 (dk_at dksX0_textsOf_1 0 rfl rfl)
theorem dX0_textsOf_26 : decode cX0_textsOf 26 = .ok (.iload 4, 2) := dk_21 4 (dk_at dksX0_textsOf_1 3 rfl rfl)
theorem dX0_textsOf_28 : decode cX0_textsOf 28 = .ok (.aload_n 0, 1) := dk_42 (dk_at dksX0_textsOf_1 5 rfl rfl)
theorem dX0_textsOf_29 : decode cX0_textsOf 29 = .ok (.aload_n 1, 1) := dk_43 (dk_at dksX0_textsOf_1 6 rfl rfl)
theorem dX0_textsOf_30 : decode cX0_textsOf 30 = .ok (.iload_n 2, 1) := dk_28 (dk_at dksX0_textsOf_1 7 rfl rfl)
theorem dX0_textsOf_31 : decode cX0_textsOf 31 = .ok (.invokevirtual 435, 3) := dk_182 1 179 (dk_at dksX0_textsOf_1 8 rfl rfl)
theorem dX0_textsOf_34 : decode cX0_textsOf 34 = .ok (.iconst (-1), 1) := dk_2 (dk_at dksX0_textsOf_1 11 rfl rfl)
theorem dX0_textsOf_35 : decode cX0_textsOf 35 = .ok (.if_icmp .ne 10, 3) := dk_160 0 10 (dk_at dksX0_textsOf_1 12 rfl rfl)
theorem dX0_textsOf_38 : decode cX0_textsOf 38 = .ok (.iconst 1, 1) := dk_4 (dk_at dksX0_textsOf_1 15 rfl rfl)
theorem dX0_textsOf_39 : decode cX0_textsOf 39 = .ok (.iload 5, 2) := dk_21 5 (dk_at dksX0_textsOf_1 16 rfl rfl)
theorem dX0_textsOf_41 : decode cX0_textsOf 41 = .ok (.ishl, 1) := dk_120 (dk_at dksX0_textsOf_1 18 rfl rfl)
theorem dX0_textsOf_42 : decode cX0_textsOf 42 = .ok (.goto 4, 3) := dk_167 0 4 (dk_at dksX0_textsOf_1 19 rfl rfl)
theorem dX0_textsOf_45 : decode cX0_textsOf 45 = .ok (.iconst 0, 1) := dk_3 (dk_at dksX0_textsOf_1 22 rfl rfl)
theorem dX0_textsOf_46 : decode cX0_textsOf 46 = .ok (.ior, 1) := dk_128 (dk_at dksX0_textsOf_1 23 rfl rfl)
theorem dX0_textsOf_47 : decode cX0_textsOf 47 = .ok (.istore 4, 2) := dk_54 4 (dk_at dksX0_textsOf_2 0 rfl rfl)
theorem dX0_textsOf_49 : decode cX0_textsOf 49 = .ok (.iinc 5 1, 3) := dk_132 5 1 (dk_at dksX0_textsOf_2 2 rfl rfl)
theorem dX0_textsOf_52 : decode cX0_textsOf 52 = .ok (.goto (-41), 3) := dk_167 255 215 (dk_at dksX0_textsOf_2 5 rfl rfl)
theorem dX0_textsOf_55 : decode cX0_textsOf 55 = .ok (.aload_n 0, 1) := dk_42 (dk_at dksX0_textsOf_2 8 rfl rfl)
theorem dX0_textsOf_56 : decode cX0_textsOf 56 = .ok (.iload_n 3, 1) := dk_29 (dk_at dksX0_textsOf_2 9 rfl rfl)
theorem dX0_textsOf_57 : decode cX0_textsOf 57 = .ok (.putfield 335, 3) := dk_181 1 79 (dk_at dksX0_textsOf_2 10 rfl rfl)
theorem dX0_textsOf_60 : decode cX0_textsOf 60 = .ok (.goto 13, 3) := dk_167 0 13 (dk_at dksX0_textsOf_2 13 rfl rfl)
theorem dX0_textsOf_63 : decode cX0_textsOf 63 = .ok (.astore 6, 2) := dk_58 6 (dk_at dksX0_textsOf_2 16 rfl rfl)
theorem dX0_textsOf_65 : decode cX0_textsOf 65 = .ok (.aload_n 0, 1) := dk_42 (dk_at dksX0_textsOf_2 18 rfl rfl)
theorem dX0_textsOf_66 : decode cX0_textsOf 66 = .ok (.iload_n 3, 1) := dk_29 (dk_at dksX0_textsOf_2 19 rfl rfl)
theorem dX0_textsOf_67 : decode cX0_textsOf 67 = .ok (.putfield 335, 3) := dk_181 1 79 (dk_at dksX0_textsOf_2 20 rfl rfl)
theorem dX0_textsOf_70 : decode cX0_textsOf 70 = .ok (.aload 6, 2) := dk_25 6 (dk_at dksX0_textsOf_3 0 rfl rfl)
theorem dX0_textsOf_72 : decode cX0_textsOf 72 = .ok (.athrow, 1) := dk_191 (dk_at dksX0_textsOf_3 2 rfl rfl)
theorem dX0_textsOf_73 : decode cX0_textsOf 73 = .ok (.iload 4, 2) := dk_21 4 (dk_at dksX0_textsOf_3 3 rfl rfl)
theorem dX0_textsOf_75 : decode cX0_textsOf 75 = .ok (.ireturn, 1) := dk_172 (dk_at dksX0_textsOf_3 5 rfl rfl)
def dkwX0_film_3 : List UInt8 := [29, 172]
abbrev dktX0_film_3 : List UInt8 := dkwX0_film_3 ++ []
def dkwX0_film_2 : List UInt8 := [27, 21, 4, 42, 180, 1, 42, 21, 4, 4, 96, 50, 28, 46, 182, 1, 216, 87, 132, 4, 1, 167, 255, 228]
abbrev dktX0_film_2 : List UInt8 := dkwX0_film_2 ++ dktX0_film_3
def dkwX0_film_1 : List UInt8 := [172, 42, 29, 182, 1, 126, 42, 27, 5, 29, 182, 1, 213, 87, 3, 54, 4, 21, 4, 29, 162, 0, 28, 42]
abbrev dktX0_film_1 : List UInt8 := dkwX0_film_1 ++ dktX0_film_2
def dkwX0_film_0 : List UInt8 := [27, 184, 1, 190, 153, 0, 18, 42, 28, 182, 0, 61, 153, 0, 10, 29, 184, 1, 121, 154, 0, 6, 16, 254]
abbrev dktX0_film_0 : List UInt8 := dkwX0_film_0 ++ dktX0_film_1
theorem dksX0_film_0 : cX0_film.data.toList.drop 0 = dktX0_film_0 := by decide +kernel
theorem dksX0_film_1 : cX0_film.data.toList.drop 24 = dktX0_film_1 := dk_seg dksX0_film_0 24 rfl rfl
theorem dksX0_film_2 : cX0_film.data.toList.drop 48 = dktX0_film_2 := dk_seg dksX0_film_1 24 rfl rfl
theorem dksX0_film_3 : cX0_film.data.toList.drop 72 = dktX0_film_3 := dk_seg dksX0_film_2 24 rfl rfl
theorem dX0_film_0 : decode cX0_film 0 = .ok (.iload_n 1, 1) := dk_27 (dk_at dksX0_film_0 0 rfl rfl)
theorem dX0_film_1 : decode cX0_film 1 = .ok (.invokestatic 446, 3) := dk_184 1 190 (dk_at dksX0_film_0 1 rfl rfl)
theorem dX0_film_4 : decode cX0_film 4 = .ok (.ifCond .eq 18, 3) := dk_153 0 18 (dk_at dksX0_film_0 4 rfl rfl)
theorem dX0_film_7 : decode cX0_film 7 = .ok (.aload_n 0, 1) := dk_42 (dk_at dksX0_film_0 7 rfl rfl)
theorem dX0_film_8 : decode cX0_film 8 = .ok (.iload_n 2, 1) := dk_28 (dk_at dksX0_film_0 8 rfl rfl)
theorem dX0_film_9 : decode cX0_film 9 = .ok (.invokevirtual 61, 3) := dk_182 0 61 (dk_at dksX0_film_0 9 rfl rfl)
theorem dX0_film_12 : decode cX0_film 12 = .ok (.ifCond .eq 10, 3) := dk_153 0 10 (dk_at dksX0_film_0 12 rfl rfl)
theorem dX0_film_15 : decode cX0_film 15 = .ok (.iload_n 3, 1) := dk_29 (dk_at dksX0_film_0 15 rfl rfl)
theorem dX0_film_16 : decode cX0_film 16 = .ok (.invokestatic 377, 3) := dk_184 1 121 (dk_at dksX0_film_0 16 rfl rfl)
theorem dX0_film_19 : decode cX0_film 19 = .ok (.ifCond .ne 6, 3) := dk_154 0 6 (dk_at dksX0_film_0 19 rfl rfl)
theorem dX0_film_22 : decode cX0_film 22 = .ok (.bipush (-2), 2) := dk_16 254 (dk_at dksX0_film_0 22 rfl rfl)
theorem dX0_film_24 : decode cX0_film 24 = .ok (.ireturn, 1) := dk_172 (dk_at dksX0_film_1 0 rfl rfl)
theorem dX0_film_25 : decode cX0_film 25 = .ok (.aload_n 0, 1) := dk_42 (dk_at dksX0_film_1 1 rfl rfl)
theorem dX0_film_26 : decode cX0_film 26 = .ok (.iload_n 3, 1) := dk_29 (dk_at dksX0_film_1 2 rfl rfl)
theorem dX0_film_27 : decode cX0_film 27 = .ok (.invokevirtual 382, 3) := dk_182 1 126 (dk_at dksX0_film_1 3 rfl rfl)
theorem dX0_film_30 : decode cX0_film 30 = .ok (.aload_n 0, 1) := dk_42 (dk_at dksX0_film_1 6 rfl rfl)
theorem dX0_film_31 : decode cX0_film 31 = .ok (.iload_n 1, 1) := dk_27 (dk_at dksX0_film_1 7 rfl rfl)
theorem dX0_film_32 : decode cX0_film 32 = .ok (.iconst 2, 1) := dk_5 (dk_at dksX0_film_1 8 rfl rfl)
theorem dX0_film_33 : decode cX0_film 33 = .ok (.iload_n 3, 1) := dk_29 (dk_at dksX0_film_1 9 rfl rfl)
theorem dX0_film_34 : decode cX0_film 34 = .ok (.invokevirtual 469, 3) := dk_182 1 213 (dk_at dksX0_film_1 10 rfl rfl)
theorem dX0_film_37 : decode cX0_film 37 = .ok (.pop, 1) := dk_87 (dk_at dksX0_film_1 13 rfl rfl)
theorem dX0_film_38 : decode cX0_film 38 = .ok (.iconst 0, 1) := dk_3 (dk_at dksX0_film_1 14 rfl rfl)
theorem dX0_film_39 : decode cX0_film 39 = .ok (.istore 4, 2) := dk_54 4 (dk_at dksX0_film_1 15 rfl rfl)
theorem dX0_film_41 : decode cX0_film 41 = .ok (.iload 4, 2) := dk_21 4 (dk_at dksX0_film_1 17 rfl rfl)
theorem dX0_film_43 : decode cX0_film 43 = .ok (.iload_n 3, 1) := dk_29 (dk_at dksX0_film_1 19 rfl rfl)
theorem dX0_film_44 : decode cX0_film 44 = .ok (.if_icmp .ge 28, 3) := dk_162 0 28 (dk_at dksX0_film_1 20 rfl rfl)
theorem dX0_film_47 : decode cX0_film 47 = .ok (.aload_n 0, 1) := dk_42 (dk_at dksX0_film_1 23 rfl rfl)
theorem dX0_film_48 : decode cX0_film 48 = .ok (.iload_n 1, 1) := dk_27 (dk_at dksX0_film_2 0 rfl rfl)
theorem dX0_film_49 : decode cX0_film 49 = .ok (.iload 4, 2) := dk_21 4 (dk_at dksX0_film_2 1 rfl rfl)
theorem dX0_film_51 : decode cX0_film 51 = .ok (.aload_n 0, 1) := dk_42 (dk_at dksX0_film_2 3 rfl rfl)
theorem dX0_film_52 : decode cX0_film 52 = .ok (.getfield 298, 3) := dk_180 1 42 (dk_at dksX0_film_2 4 rfl rfl)
theorem dX0_film_55 : decode cX0_film 55 = .ok (.iload 4, 2) := dk_21 4 (dk_at dksX0_film_2 7 rfl rfl)
theorem dX0_film_57 : decode cX0_film 57 = .ok (.iconst 1, 1) := dk_4 (dk_at dksX0_film_2 9 rfl rfl)
theorem dX0_film_58 : decode cX0_film 58 = .ok (.iadd, 1) := dk_96 (dk_at dksX0_film_2 10 rfl rfl)
theorem dX0_film_59 : decode cX0_film 59 = .ok (.aaload, 1) := dk_50 (dk_at dksX0_film_2 11 rfl rfl)
theorem dX0_film_60 : decode cX0_film 60 = .ok (.iload_n 2, 1) := dk_28 (dk_at dksX0_film_2 12 rfl rfl)
theorem dX0_film_61 : decode cX0_film 61 = .ok (.iaload, 1) := dk_46 (dk_at dksX0_film_2 13 rfl rfl)
theorem dX0_film_62 : decode cX0_film 62 = .ok (.invokevirtual 472, 3) := dk_182 1 216 (dk_at dksX0_film_2 14 rfl rfl)
theorem dX0_film_65 : decode cX0_film 65 = .ok (.pop, 1) := dk_87 (dk_at dksX0_film_2 17 rfl rfl)
theorem dX0_film_66 : decode cX0_film 66 = .ok (.iinc 4 1, 3) := dk_132 4 1 (dk_at dksX0_film_2 18 rfl rfl)
theorem dX0_film_69 : decode cX0_film 69 = .ok (.goto (-28), 3) := dk_167 255 228 (dk_at dksX0_film_2 21 rfl rfl)
theorem dX0_film_72 : decode cX0_film 72 = .ok (.iload_n 3, 1) := dk_29 (dk_at dksX0_film_3 0 rfl rfl)
theorem dX0_film_73 : decode cX0_film 73 = .ok (.ireturn, 1) := dk_172 (dk_at dksX0_film_3 1 rfl rfl)
def dkwX0_sheet_3 : List UInt8 := [16, 242, 172]
abbrev dktX0_sheet_3 : List UInt8 := dkwX0_sheet_3 ++ []
def dkwX0_sheet_2 : List UInt8 := [181, 1, 195, 4, 172, 42, 180, 1, 66, 27, 50, 28, 29, 184, 1, 237, 181, 1, 195, 4, 172, 58, 4]
abbrev dktX0_sheet_2 : List UInt8 := dkwX0_sheet_2 ++ dktX0_sheet_3
def dkwX0_sheet_1 : List UInt8 := [159, 0, 12, 29, 16, 40, 164, 0, 6, 16, 254, 172, 28, 2, 160, 0, 15, 42, 180, 1, 66, 27, 50, 1]
abbrev dktX0_sheet_1 : List UInt8 := dkwX0_sheet_1 ++ dktX0_sheet_2
def dkwX0_sheet_0 : List UInt8 := [27, 184, 1, 190, 153, 0, 28, 28, 133, 20, 1, 158, 20, 1, 235, 184, 0, 14, 153, 0, 14, 28, 2]
abbrev dktX0_sheet_0 : List UInt8 := dkwX0_sheet_0 ++ dktX0_sheet_1
theorem dksX0_sheet_0 : cX0_sheet.data.toList.drop 0 = dktX0_sheet_0 := by decide +kernel
theorem dksX0_sheet_1 : cX0_sheet.data.toList.drop 23 = dktX0_sheet_1 := dk_seg dksX0_sheet_0 23 rfl rfl
theorem dksX0_sheet_2 : cX0_sheet.data.toList.drop 47 = dktX0_sheet_2 := dk_seg dksX0_sheet_1 24 rfl rfl
theorem dksX0_sheet_3 : cX0_sheet.data.toList.drop 70 = dktX0_sheet_3 := dk_seg dksX0_sheet_2 23 rfl rfl
theorem dX0_sheet_0 : decode cX0_sheet 0 = .ok (.iload_n 1, 1) := dk_27 (dk_at dksX0_sheet_0 0 rfl rfl)
theorem dX0_sheet_1 : decode cX0_sheet 1 = .ok (.invokestatic 446, 3) := dk_184 1 190 (dk_at dksX0_sheet_0 1 rfl rfl)
theorem dX0_sheet_4 : decode cX0_sheet 4 = .ok (.ifCond .eq 28, 3) := dk_153 0 28 (dk_at dksX0_sheet_0 4 rfl rfl)
theorem dX0_sheet_7 : decode cX0_sheet 7 = .ok (.iload_n 2, 1) := dk_28 (dk_at dksX0_sheet_0 7 rfl rfl)
theorem dX0_sheet_8 : decode cX0_sheet 8 = .ok (.i2l, 1) := dk_133 (dk_at dksX0_sheet_0 8 rfl rfl)
theorem dX0_sheet_9 : decode cX0_sheet 9 = .ok (.ldc2_w 414, 3) := dk_20 1 158 (dk_at dksX0_sheet_0 9 rfl rfl)
theorem dX0_sheet_12 : decode cX0_sheet 12 = .ok (.ldc2_w 491, 3) := dk_20 1 235 (dk_at dksX0_sheet_0 12 rfl rfl)
theorem dX0_sheet_15 : decode cX0_sheet 15 = .ok (.invokestatic 14, 3) := dk_184 0 14 (dk_at dksX0_sheet_0 15 rfl rfl)
theorem dX0_sheet_18 : decode cX0_sheet 18 = .ok (.ifCond .eq 14, 3) := dk_153 0 14 (dk_at dksX0_sheet_0 18 rfl rfl)
theorem dX0_sheet_21 : decode cX0_sheet 21 = .ok (.iload_n 2, 1) := dk_28 (dk_at dksX0_sheet_0 21 rfl rfl)
theorem dX0_sheet_22 : decode cX0_sheet 22 = .ok (.iconst (-1), 1) := dk_2 (dk_at dksX0_sheet_0 22 rfl rfl)
theorem dX0_sheet_23 : decode cX0_sheet 23 = .ok (.if_icmp .eq 12, 3) := dk_159 0 12 (dk_at dksX0_sheet_1 0 rfl rfl)
theorem dX0_sheet_26 : decode cX0_sheet 26 = .ok (.iload_n 3, 1) := dk_29 (dk_at dksX0_sheet_1 3 rfl rfl)
theorem dX0_sheet_27 : decode cX0_sheet 27 = .ok (.bipush 40, 2) := dk_16 40 (dk_at dksX0_sheet_1 4 rfl rfl)
theorem dX0_sheet_29 : decode cX0_sheet 29 = .ok (.if_icmp .le 6, 3) := dk_164 0 6 (dk_at dksX0_sheet_1 6 rfl rfl)
theorem dX0_sheet_32 : decode cX0_sheet 32 = .ok (.bipush (-2), 2) := dk_16 254 (dk_at dksX0_sheet_1 9 rfl rfl)
theorem dX0_sheet_34 : decode cX0_sheet 34 = .ok (.ireturn, 1) := dk_172 (dk_at dksX0_sheet_1 11 rfl rfl)
theorem dX0_sheet_35 : decode cX0_sheet 35 = .ok (.iload_n 2, 1) := dk_28 (dk_at dksX0_sheet_1 12 rfl rfl)
theorem dX0_sheet_36 : decode cX0_sheet 36 = .ok (.iconst (-1), 1) := dk_2 (dk_at dksX0_sheet_1 13 rfl rfl)
theorem dX0_sheet_37 : decode cX0_sheet 37 = .ok (.if_icmp .ne 15, 3) := dk_160 0 15 (dk_at dksX0_sheet_1 14 rfl rfl)
theorem dX0_sheet_40 : decode cX0_sheet 40 = .ok (.aload_n 0, 1) := dk_42 (dk_at dksX0_sheet_1 17 rfl rfl)
theorem dX0_sheet_41 : decode cX0_sheet 41 = .ok (.getfield 322, 3) := dk_180 1 66 (dk_at dksX0_sheet_1 18 rfl rfl)
theorem dX0_sheet_44 : decode cX0_sheet 44 = .ok (.iload_n 1, 1) := dk_27 (dk_at dksX0_sheet_1 21 rfl rfl)
theorem dX0_sheet_45 : decode cX0_sheet 45 = .ok (.aaload, 1) := dk_50 (dk_at dksX0_sheet_1 22 rfl rfl)
theorem dX0_sheet_46 : decode cX0_sheet 46 = .ok (.aconst_null, 1) := dk_1 (dk_at dksX0_sheet_1 23 rfl rfl)
theorem dX0_sheet_47 : decode cX0_sheet 47 = .ok (.putfield 451, 3) := dk_181 1 195 (dk_at dksX0_sheet_2 0 rfl rfl)
theorem dX0_sheet_50 : decode cX0_sheet 50 = .ok (.iconst 1, 1) := dk_4 (dk_at dksX0_sheet_2 3 rfl rfl)
theorem dX0_sheet_51 : decode cX0_sheet 51 = .ok (.ireturn, 1) := dk_172 (dk_at dksX0_sheet_2 4 rfl rfl)
theorem dX0_sheet_52 : decode cX0_sheet 52 = .ok (.aload_n 0, 1) := dk_42 (dk_at dksX0_sheet_2 5 rfl rfl)
theorem dX0_sheet_53 : decode cX0_sheet 53 = .ok (.getfield 322, 3) := dk_180 1 66 (dk_at dksX0_sheet_2 6 rfl rfl)
theorem dX0_sheet_56 : decode cX0_sheet 56 = .ok (.iload_n 1, 1) := dk_27 (dk_at dksX0_sheet_2 9 rfl rfl)
theorem dX0_sheet_57 : decode cX0_sheet 57 = .ok (.aaload, 1) := dk_50 (dk_at dksX0_sheet_2 10 rfl rfl)
theorem dX0_sheet_58 : decode cX0_sheet 58 = .ok (.iload_n 2, 1) := dk_28 (dk_at dksX0_sheet_2 11 rfl rfl)
theorem dX0_sheet_59 : decode cX0_sheet 59 = .ok (.iload_n 3, 1) := dk_29 (dk_at dksX0_sheet_2 12 rfl rfl)
theorem dX0_sheet_60 : decode cX0_sheet 60 = .ok (.invokestatic 493, 3) := dk_184 1 237 (dk_at dksX0_sheet_2 13 rfl rfl)
theorem dX0_sheet_63 : decode cX0_sheet 63 = .ok (.putfield 451, 3) := dk_181 1 195 (dk_at dksX0_sheet_2 16 rfl rfl)
theorem dX0_sheet_66 : decode cX0_sheet 66 = .ok (.iconst 1, 1) := dk_4 (dk_at dksX0_sheet_2 19 rfl rfl)
theorem dX0_sheet_67 : decode cX0_sheet 67 = .ok (.ireturn, 1) := dk_172 (dk_at dksX0_sheet_2 20 rfl rfl)
theorem dX0_sheet_68 : decode cX0_sheet 68 = .ok (.astore 4, 2) := dk_58 4 (dk_at dksX0_sheet_2 21 rfl rfl)
theorem dX0_sheet_70 : decode cX0_sheet 70 = .ok (.bipush (-14), 2) := dk_16 242 (dk_at dksX0_sheet_3 0 rfl rfl)
theorem dX0_sheet_72 : decode cX0_sheet 72 = .ok (.ireturn, 1) := dk_172 (dk_at dksX0_sheet_3 2 rfl rfl)
def dkwX0_rowOf_2 : List UInt8 := [27, 188, 8, 176, 27, 188, 9, 176, 27, 188, 10, 176]
abbrev dktX0_rowOf_2 : List UInt8 := dkwX0_rowOf_2 ++ []
def dkwX0_rowOf_1 : List UInt8 := [171, 0, 0, 0, 0, 0, 35, 0, 0, 0, 2, 0, 0, 0, 0, 0, 0, 0, 27, 0, 0, 0, 1, 0, 0, 0, 31]
abbrev dktX0_rowOf_1 : List UInt8 := dkwX0_rowOf_1 ++ dktX0_rowOf_2
def dkwX0_rowOf_0 : List UInt8 := [26]
abbrev dktX0_rowOf_0 : List UInt8 := dkwX0_rowOf_0 ++ dktX0_rowOf_1
theorem dksX0_rowOf_0 : cX0_rowOf.data.toList.drop 0 = dktX0_rowOf_0 := by decide +kernel
theorem dksX0_rowOf_1 : cX0_rowOf.data.toList.drop 1 = dktX0_rowOf_1 := dk_seg dksX0_rowOf_0 1 rfl rfl
theorem dksX0_rowOf_2 : cX0_rowOf.data.toList.drop 28 = dktX0_rowOf_2 := dk_seg dksX0_rowOf_1 27 rfl rfl
theorem dX0_rowOf_0 : decode cX0_rowOf 0 = .ok (.iload_n 0, 1) := dk_26 (dk_at dksX0_rowOf_0 0 rfl rfl)
theorem dX0_rowOf_1 : decode cX0_rowOf 1 = .ok (.lookupswitch 35 #[(0, 27), (1, 31)], 27) := by decide +kernel
theorem dX0_rowOf_28 : decode cX0_rowOf 28 = .ok (.iload_n 1, 1) := dk_27 (dk_at dksX0_rowOf_2 0 rfl rfl)
theorem dX0_rowOf_29 : decode cX0_rowOf 29 = .ok (.newarray .byte, 2) := dk_188_8 (dk_at dksX0_rowOf_2 1 rfl rfl)
theorem dX0_rowOf_31 : decode cX0_rowOf 31 = .ok (.areturn, 1) := dk_176 (dk_at dksX0_rowOf_2 3 rfl rfl)
theorem dX0_rowOf_32 : decode cX0_rowOf 32 = .ok (.iload_n 1, 1) := dk_27 (dk_at dksX0_rowOf_2 4 rfl rfl)
theorem dX0_rowOf_33 : decode cX0_rowOf 33 = .ok (.newarray .short, 2) := dk_188_9 (dk_at dksX0_rowOf_2 5 rfl rfl)
theorem dX0_rowOf_35 : decode cX0_rowOf 35 = .ok (.areturn, 1) := dk_176 (dk_at dksX0_rowOf_2 7 rfl rfl)
theorem dX0_rowOf_36 : decode cX0_rowOf 36 = .ok (.iload_n 1, 1) := dk_27 (dk_at dksX0_rowOf_2 8 rfl rfl)
theorem dX0_rowOf_37 : decode cX0_rowOf 37 = .ok (.newarray .int, 2) := dk_188_10 (dk_at dksX0_rowOf_2 9 rfl rfl)
theorem dX0_rowOf_39 : decode cX0_rowOf 39 = .ok (.areturn, 1) := dk_176 (dk_at dksX0_rowOf_2 11 rfl rfl)
def dkwX0_cell_1 : List UInt8 := [172, 58, 4, 16, 245, 172, 58, 4, 16, 244, 172]
abbrev dktX0_cell_1 : List UInt8 := dkwX0_cell_1 ++ []
def dkwX0_cell_0 : List UInt8 := [27, 184, 1, 190, 154, 0, 6, 16, 254, 172, 42, 180, 1, 66, 27, 50, 180, 1, 195, 28, 29, 184, 1, 250]
abbrev dktX0_cell_0 : List UInt8 := dkwX0_cell_0 ++ dktX0_cell_1
theorem dksX0_cell_0 : cX0_cell.data.toList.drop 0 = dktX0_cell_0 := by decide +kernel
theorem dksX0_cell_1 : cX0_cell.data.toList.drop 24 = dktX0_cell_1 := dk_seg dksX0_cell_0 24 rfl rfl
theorem dX0_cell_0 : decode cX0_cell 0 = .ok (.iload_n 1, 1) := dk_27 (dk_at dksX0_cell_0 0 rfl rfl)
theorem dX0_cell_1 : decode cX0_cell 1 = .ok (.invokestatic 446, 3) := dk_184 1 190 (dk_at dksX0_cell_0 1 rfl rfl)
theorem dX0_cell_4 : decode cX0_cell 4 = .ok (.ifCond .ne 6, 3) := dk_154 0 6 (dk_at dksX0_cell_0 4 rfl rfl)
theorem dX0_cell_7 : decode cX0_cell 7 = .ok (.bipush (-2), 2) := dk_16 254 (dk_at dksX0_cell_0 7 rfl rfl)
theorem dX0_cell_9 : decode cX0_cell 9 = .ok (.ireturn, 1) := dk_172 (dk_at dksX0_cell_0 9 rfl rfl)
theorem dX0_cell_10 : decode cX0_cell 10 = .ok (.aload_n 0, 1) := dk_42 (dk_at dksX0_cell_0 10 rfl rfl)
theorem dX0_cell_11 : decode cX0_cell 11 = .ok (.getfield 322, 3) := dk_180 1 66 (dk_at dksX0_cell_0 11 rfl rfl)
theorem dX0_cell_14 : decode cX0_cell 14 = .ok (.iload_n 1, 1) := dk_27 (dk_at dksX0_cell_0 14 rfl rfl)
theorem dX0_cell_15 : decode cX0_cell 15 = .ok (.aaload, 1) := dk_50 (dk_at dksX0_cell_0 15 rfl rfl)
theorem dX0_cell_16 : decode cX0_cell 16 = .ok (.getfield 451, 3) := dk_180 1 195 (dk_at dksX0_cell_0 16 rfl rfl)
theorem dX0_cell_19 : decode cX0_cell 19 = .ok (.iload_n 2, 1) := dk_28 (dk_at dksX0_cell_0 19 rfl rfl)
theorem dX0_cell_20 : decode cX0_cell 20 = .ok (.iload_n 3, 1) := dk_29 (dk_at dksX0_cell_0 20 rfl rfl)
theorem dX0_cell_21 : decode cX0_cell 21 = .ok (.invokestatic 506, 3) := dk_184 1 250 (dk_at dksX0_cell_0 21 rfl rfl)
theorem dX0_cell_24 : decode cX0_cell 24 = .ok (.ireturn, 1) := dk_172 (dk_at dksX0_cell_1 0 rfl rfl)
theorem dX0_cell_25 : decode cX0_cell 25 = .ok (.astore 4, 2) := dk_58 4 (dk_at dksX0_cell_1 1 rfl rfl)
theorem dX0_cell_27 : decode cX0_cell 27 = .ok (.bipush (-11), 2) := dk_16 245 (dk_at dksX0_cell_1 3 rfl rfl)
theorem dX0_cell_29 : decode cX0_cell 29 = .ok (.ireturn, 1) := dk_172 (dk_at dksX0_cell_1 5 rfl rfl)
theorem dX0_cell_30 : decode cX0_cell 30 = .ok (.astore 4, 2) := dk_58 4 (dk_at dksX0_cell_1 6 rfl rfl)
theorem dX0_cell_32 : decode cX0_cell 32 = .ok (.bipush (-12), 2) := dk_16 244 (dk_at dksX0_cell_1 8 rfl rfl)
theorem dX0_cell_34 : decode cX0_cell 34 = .ok (.ireturn, 1) := dk_172 (dk_at dksX0_cell_1 10 rfl rfl)
def dkwX0_put_2 : List UInt8 := [28, 147, 86, 167, 0, 19, 27, 42, 192, 1, 249, 190, 184, 1, 244, 42, 192, 1, 249, 27, 28, 79, 4, 172]
abbrev dktX0_put_2 : List UInt8 := dkwX0_put_2 ++ []
def dkwX0_put_1 : List UInt8 := [167, 0, 46, 42, 193, 1, 247, 153, 0, 23, 27, 42, 192, 1, 247, 190, 184, 1, 244, 42, 192, 1, 247, 27]
abbrev dktX0_put_1 : List UInt8 := dkwX0_put_1 ++ dktX0_put_2
def dkwX0_put_0 : List UInt8 := [42, 193, 1, 243, 153, 0, 23, 27, 42, 192, 1, 243, 190, 184, 1, 244, 42, 192, 1, 243, 27, 28, 145, 84]
abbrev dktX0_put_0 : List UInt8 := dkwX0_put_0 ++ dktX0_put_1
theorem dksX0_put_0 : cX0_put.data.toList.drop 0 = dktX0_put_0 := by decide +kernel
theorem dksX0_put_1 : cX0_put.data.toList.drop 24 = dktX0_put_1 := dk_seg dksX0_put_0 24 rfl rfl
theorem dksX0_put_2 : cX0_put.data.toList.drop 48 = dktX0_put_2 := dk_seg dksX0_put_1 24 rfl rfl
theorem dX0_put_0 : decode cX0_put 0 = .ok (.aload_n 0, 1) := dk_42 (dk_at dksX0_put_0 0 rfl rfl)
theorem dX0_put_1 : decode cX0_put 1 = .ok (.instanceof 499, 3) := dk_193 1 243 (dk_at dksX0_put_0 1 rfl rfl)
theorem dX0_put_4 : decode cX0_put 4 = .ok (.ifCond .eq 23, 3) := dk_153 0 23 (dk_at dksX0_put_0 4 rfl rfl)
theorem dX0_put_7 : decode cX0_put 7 = .ok (.iload_n 1, 1) := dk_27 (dk_at dksX0_put_0 7 rfl rfl)
theorem dX0_put_8 : decode cX0_put 8 = .ok (.aload_n 0, 1) := dk_42 (dk_at dksX0_put_0 8 rfl rfl)
theorem dX0_put_9 : decode cX0_put 9 = .ok (.checkcast 499, 3) := dk_192 1 243 (dk_at dksX0_put_0 9 rfl rfl)
theorem dX0_put_12 : decode cX0_put 12 = .ok (.arraylength, 1) := dk_190 (dk_at dksX0_put_0 12 rfl rfl)
theorem dX0_put_13 : decode cX0_put 13 = .ok (.invokestatic 500, 3) := dk_184 1 244 (dk_at dksX0_put_0 13 rfl rfl)
theorem dX0_put_16 : decode cX0_put 16 = .ok (.aload_n 0, 1) := dk_42 (dk_at dksX0_put_0 16 rfl rfl)
theorem dX0_put_17 : decode cX0_put 17 = .ok (.checkcast 499, 3) := dk_192 1 243 (dk_at dksX0_put_0 17 rfl rfl)
theorem dX0_put_20 : decode cX0_put 20 = .ok (.iload_n 1, 1) := dk_27 (dk_at dksX0_put_0 20 rfl rfl)
theorem dX0_put_21 : decode cX0_put 21 = .ok (.iload_n 2, 1) := dk_28 (dk_at dksX0_put_0 21 rfl rfl)
theorem dX0_put_22 : decode cX0_put 22 = .ok (.i2b, 1) := dk_145 (dk_at dksX0_put_0 22 rfl rfl)
theorem dX0_put_23 : decode cX0_put 23 = .ok (.bastore, 1) := dk_84 (dk_at dksX0_put_0 23 rfl rfl)
theorem dX0_put_24 : decode cX0_put 24 = .ok (.goto 46, 3) := dk_167 0 46 (dk_at dksX0_put_1 0 rfl rfl)
theorem dX0_put_27 : decode cX0_put 27 = .ok (.aload_n 0, 1) := dk_42 (dk_at dksX0_put_1 3 rfl rfl)
theorem dX0_put_28 : decode cX0_put 28 = .ok (.instanceof 503, 3) := dk_193 1 247 (dk_at dksX0_put_1 4 rfl rfl)
theorem dX0_put_31 : decode cX0_put 31 = .ok (.ifCond .eq 23, 3) := dk_153 0 23 (dk_at dksX0_put_1 7 rfl rfl)
theorem dX0_put_34 : decode cX0_put 34 = .ok (.iload_n 1, 1) := dk_27 (dk_at dksX0_put_1 10 rfl rfl)
theorem dX0_put_35 : decode cX0_put 35 = .ok (.aload_n 0, 1) := dk_42 (dk_at dksX0_put_1 11 rfl rfl)
theorem dX0_put_36 : decode cX0_put 36 = .ok (.checkcast 503, 3) := dk_192 1 247 (dk_at dksX0_put_1 12 rfl rfl)
theorem dX0_put_39 : decode cX0_put 39 = .ok (.arraylength, 1) := dk_190 (dk_at dksX0_put_1 15 rfl rfl)
theorem dX0_put_40 : decode cX0_put 40 = .ok (.invokestatic 500, 3) := dk_184 1 244 (dk_at dksX0_put_1 16 rfl rfl)
theorem dX0_put_43 : decode cX0_put 43 = .ok (.aload_n 0, 1) := dk_42 (dk_at dksX0_put_1 19 rfl rfl)
theorem dX0_put_44 : decode cX0_put 44 = .ok (.checkcast 503, 3) := dk_192 1 247 (dk_at dksX0_put_1 20 rfl rfl)
theorem dX0_put_47 : decode cX0_put 47 = .ok (.iload_n 1, 1) := dk_27 (dk_at dksX0_put_1 23 rfl rfl)
theorem dX0_put_48 : decode cX0_put 48 = .ok (.iload_n 2, 1) := dk_28 (dk_at dksX0_put_2 0 rfl rfl)
theorem dX0_put_49 : decode cX0_put 49 = .ok (.i2s, 1) := dk_147 (dk_at dksX0_put_2 1 rfl rfl)
theorem dX0_put_50 : decode cX0_put 50 = .ok (.sastore, 1) := dk_86 (dk_at dksX0_put_2 2 rfl rfl)
theorem dX0_put_51 : decode cX0_put 51 = .ok (.goto 19, 3) := dk_167 0 19 (dk_at dksX0_put_2 3 rfl rfl)
theorem dX0_put_54 : decode cX0_put 54 = .ok (.iload_n 1, 1) := dk_27 (dk_at dksX0_put_2 6 rfl rfl)
theorem dX0_put_55 : decode cX0_put 55 = .ok (.aload_n 0, 1) := dk_42 (dk_at dksX0_put_2 7 rfl rfl)
theorem dX0_put_56 : decode cX0_put 56 = .ok (.checkcast 505, 3) := dk_192 1 249 (dk_at dksX0_put_2 8 rfl rfl)
theorem dX0_put_59 : decode cX0_put 59 = .ok (.arraylength, 1) := dk_190 (dk_at dksX0_put_2 11 rfl rfl)
theorem dX0_put_60 : decode cX0_put 60 = .ok (.invokestatic 500, 3) := dk_184 1 244 (dk_at dksX0_put_2 12 rfl rfl)
theorem dX0_put_63 : decode cX0_put 63 = .ok (.aload_n 0, 1) := dk_42 (dk_at dksX0_put_2 15 rfl rfl)
theorem dX0_put_64 : decode cX0_put 64 = .ok (.checkcast 505, 3) := dk_192 1 249 (dk_at dksX0_put_2 16 rfl rfl)
theorem dX0_put_67 : decode cX0_put 67 = .ok (.iload_n 1, 1) := dk_27 (dk_at dksX0_put_2 19 rfl rfl)
theorem dX0_put_68 : decode cX0_put 68 = .ok (.iload_n 2, 1) := dk_28 (dk_at dksX0_put_2 20 rfl rfl)
theorem dX0_put_69 : decode cX0_put 69 = .ok (.iastore, 1) := dk_79 (dk_at dksX0_put_2 21 rfl rfl)
theorem dX0_put_70 : decode cX0_put 70 = .ok (.iconst 1, 1) := dk_4 (dk_at dksX0_put_2 22 rfl rfl)
theorem dX0_put_71 : decode cX0_put 71 = .ok (.ireturn, 1) := dk_172 (dk_at dksX0_put_2 23 rfl rfl)
def dkwX0_drawn_0 : List UInt8 := [28, 184, 1, 121, 153, 0, 12, 42, 27, 28, 182, 1, 220, 167, 0, 5, 16, 254, 172]
abbrev dktX0_drawn_0 : List UInt8 := dkwX0_drawn_0 ++ []
theorem dksX0_drawn_0 : cX0_drawn.data.toList.drop 0 = dktX0_drawn_0 := by decide +kernel
theorem dX0_drawn_0 : decode cX0_drawn 0 = .ok (.iload_n 2, 1) := dk_28 (dk_at dksX0_drawn_0 0 rfl rfl)
theorem dX0_drawn_1 : decode cX0_drawn 1 = .ok (.invokestatic 377, 3) := dk_184 1 121 (dk_at dksX0_drawn_0 1 rfl rfl)
theorem dX0_drawn_4 : decode cX0_drawn 4 = .ok (.ifCond .eq 12, 3) := dk_153 0 12 (dk_at dksX0_drawn_0 4 rfl rfl)
theorem dX0_drawn_7 : decode cX0_drawn 7 = .ok (.aload_n 0, 1) := dk_42 (dk_at dksX0_drawn_0 7 rfl rfl)
theorem dX0_drawn_8 : decode cX0_drawn 8 = .ok (.iload_n 1, 1) := dk_27 (dk_at dksX0_drawn_0 8 rfl rfl)
theorem dX0_drawn_9 : decode cX0_drawn 9 = .ok (.iload_n 2, 1) := dk_28 (dk_at dksX0_drawn_0 9 rfl rfl)
theorem dX0_drawn_10 : decode cX0_drawn 10 = .ok (.invokevirtual 476, 3) := dk_182 1 220 (dk_at dksX0_drawn_0 10 rfl rfl)
theorem dX0_drawn_13 : decode cX0_drawn 13 = .ok (.goto 5, 3) := dk_167 0 5 (dk_at dksX0_drawn_0 13 rfl rfl)
theorem dX0_drawn_16 : decode cX0_drawn 16 = .ok (.bipush (-2), 2) := dk_16 254 (dk_at dksX0_drawn_0 16 rfl rfl)
theorem dX0_drawn_18 : decode cX0_drawn 18 = .ok (.ireturn, 1) := dk_172 (dk_at dksX0_drawn_0 18 rfl rfl)
def dkwX0_allDrawn_4 : List UInt8 := [54, 5, 42, 21, 4, 182, 1, 116, 21, 5, 172, 58, 7, 42, 21, 4, 182, 1, 116, 25, 7, 191]
abbrev dktX0_allDrawn_4 : List UInt8 := dkwX0_allDrawn_4 ++ []
def dkwX0_allDrawn_3 : List UInt8 := [181, 0, 82, 132, 6, 1, 167, 255, 203, 42, 182, 1, 101, 132, 5, 1, 167, 255, 184, 42, 182, 1, 104]
abbrev dktX0_allDrawn_3 : List UInt8 := dkwX0_allDrawn_3 ++ dktX0_allDrawn_4
def dkwX0_allDrawn_2 : List UInt8 := [21, 6, 50, 3, 42, 180, 0, 51, 21, 6, 50, 180, 0, 82, 29, 16, 9, 124, 7, 112, 100, 184, 0, 7]
abbrev dktX0_allDrawn_2 : List UInt8 := dkwX0_allDrawn_2 ++ dktX0_allDrawn_3
def dkwX0_allDrawn_1 : List UInt8 := [21, 6, 42, 180, 0, 18, 162, 0, 50, 29, 19, 1, 219, 104, 17, 48, 57, 96, 62, 42, 180, 0, 51]
abbrev dktX0_allDrawn_1 : List UInt8 := dkwX0_allDrawn_1 ++ dktX0_allDrawn_2
def dkwX0_allDrawn_0 : List UInt8 := [27, 62, 42, 180, 0, 66, 54, 4, 42, 182, 1, 110, 3, 54, 5, 21, 5, 28, 162, 0, 72, 3, 54, 6]
abbrev dktX0_allDrawn_0 : List UInt8 := dkwX0_allDrawn_0 ++ dktX0_allDrawn_1
theorem dksX0_allDrawn_0 : cX0_allDrawn.data.toList.drop 0 = dktX0_allDrawn_0 := by decide +kernel
theorem dksX0_allDrawn_1 : cX0_allDrawn.data.toList.drop 24 = dktX0_allDrawn_1 := dk_seg dksX0_allDrawn_0 24 rfl rfl
theorem dksX0_allDrawn_2 : cX0_allDrawn.data.toList.drop 47 = dktX0_allDrawn_2 := dk_seg dksX0_allDrawn_1 23 rfl rfl
theorem dksX0_allDrawn_3 : cX0_allDrawn.data.toList.drop 71 = dktX0_allDrawn_3 := dk_seg dksX0_allDrawn_2 24 rfl rfl
theorem dksX0_allDrawn_4 : cX0_allDrawn.data.toList.drop 94 = dktX0_allDrawn_4 := dk_seg dksX0_allDrawn_3 23 rfl rfl
theorem dX0_allDrawn_0 : decode cX0_allDrawn 0 = .ok (.iload_n 1, 1) := dk_27 (dk_at dksX0_allDrawn_0 0 rfl rfl)
theorem dX0_allDrawn_1 : decode cX0_allDrawn 1 = .ok (.istore_n 3, 1) := dk_62 (dk_at dksX0_allDrawn_0 1 rfl rfl)
theorem dX0_allDrawn_2 : decode cX0_allDrawn 2 = .ok (.aload_n 0, 1) := dk_42 (dk_at dksX0_allDrawn_0 2 rfl rfl)
theorem dX0_allDrawn_3 : decode cX0_allDrawn 3 = .ok (.getfield 66, 3) := dk_180 0 66 (dk_at dksX0_allDrawn_0 3 rfl rfl)
theorem dX0_allDrawn_6 : decode cX0_allDrawn 6 = .ok (.istore 4, 2) := dk_54 4 (dk_at dksX0_allDrawn_0 6 rfl rfl)
theorem dX0_allDrawn_8 : decode cX0_allDrawn 8 = .ok (.aload_n 0, 1) := dk_42 (dk_at dksX0_allDrawn_0 8 rfl rfl)
theorem dX0_allDrawn_9 : decode cX0_allDrawn 9 = .ok (.invokevirtual 366, 3) := dk_182 1 110 (dk_at dksX0_allDrawn_0 9 rfl rfl)
theorem dX0_allDrawn_12 : decode cX0_allDrawn 12 = .ok (.iconst 0, 1) := dk_3 (dk_at dksX0_allDrawn_0 12 rfl rfl)
theorem dX0_allDrawn_13 : decode cX0_allDrawn 13 = .ok (.istore 5, 2) := dk_54 5 (dk_at dksX0_allDrawn_0 13 rfl rfl)
theorem dX0_allDrawn_15 : decode cX0_allDrawn 15 = .ok (.iload 5, 2) := dk_21 5 (dk_at dksX0_allDrawn_0 15 rfl rfl)
theorem dX0_allDrawn_17 : decode cX0_allDrawn 17 = .ok (.iload_n 2, 1) := dk_28 (dk_at dksX0_allDrawn_0 17 rfl rfl)
theorem dX0_allDrawn_18 : decode cX0_allDrawn 18 = .ok (.if_icmp .ge 72, 3) := dk_162 0 72 (dk_at dksX0_allDrawn_0 18 rfl rfl)
theorem dX0_allDrawn_21 : decode cX0_allDrawn 21 = .ok (.iconst 0, 1) := dk_3 (dk_at dksX0_allDrawn_0 21 rfl rfl)
theorem dX0_allDrawn_22 : decode cX0_allDrawn 22 = .ok (.istore 6, 2) := dk_54 6 (dk_at dksX0_allDrawn_0 22 rfl rfl)
theorem dX0_allDrawn_24 : decode cX0_allDrawn 24 = .ok (.iload 6, 2) := dk_21 6 (dk_at dksX0_allDrawn_1 0 rfl rfl)
theorem dX0_allDrawn_26 : decode cX0_allDrawn 26 = .ok (.aload_n 0, 1) := dk_42 (dk_at dksX0_allDrawn_1 2 rfl rfl)
theorem dX0_allDrawn_27 : decode cX0_allDrawn 27 = .ok (.getfield 18, 3) := dk_180 0 18 (dk_at dksX0_allDrawn_1 3 rfl rfl)
theorem dX0_allDrawn_30 : decode cX0_allDrawn 30 = .ok (.if_icmp .ge 50, 3) := dk_162 0 50 (dk_at dksX0_allDrawn_1 6 rfl rfl)
theorem dX0_allDrawn_33 : decode cX0_allDrawn 33 = .ok (.iload_n 3, 1) := dk_29 (dk_at dksX0_allDrawn_1 9 rfl rfl)
theorem dX0_allDrawn_34 : decode cX0_allDrawn 34 = .ok (.ldc_w 475, 3) := dk_19 1 219 (dk_at dksX0_allDrawn_1 10 rfl rfl)
theorem dX0_allDrawn_37 : decode cX0_allDrawn 37 = .ok (.imul, 1) := dk_104 (dk_at dksX0_allDrawn_1 13 rfl rfl)
theorem dX0_allDrawn_38 : decode cX0_allDrawn 38 = .ok (.sipush 12345, 3) := dk_17 48 57 (dk_at dksX0_allDrawn_1 14 rfl rfl)
theorem dX0_allDrawn_41 : decode cX0_allDrawn 41 = .ok (.iadd, 1) := dk_96 (dk_at dksX0_allDrawn_1 17 rfl rfl)
theorem dX0_allDrawn_42 : decode cX0_allDrawn 42 = .ok (.istore_n 3, 1) := dk_62 (dk_at dksX0_allDrawn_1 18 rfl rfl)
theorem dX0_allDrawn_43 : decode cX0_allDrawn 43 = .ok (.aload_n 0, 1) := dk_42 (dk_at dksX0_allDrawn_1 19 rfl rfl)
theorem dX0_allDrawn_44 : decode cX0_allDrawn 44 = .ok (.getfield 51, 3) := dk_180 0 51 (dk_at dksX0_allDrawn_1 20 rfl rfl)
theorem dX0_allDrawn_47 : decode cX0_allDrawn 47 = .ok (.iload 6, 2) := dk_21 6 (dk_at dksX0_allDrawn_2 0 rfl rfl)
theorem dX0_allDrawn_49 : decode cX0_allDrawn 49 = .ok (.aaload, 1) := dk_50 (dk_at dksX0_allDrawn_2 2 rfl rfl)
theorem dX0_allDrawn_50 : decode cX0_allDrawn 50 = .ok (.iconst 0, 1) := dk_3 (dk_at dksX0_allDrawn_2 3 rfl rfl)
theorem dX0_allDrawn_51 : decode cX0_allDrawn 51 = .ok (.aload_n 0, 1) := dk_42 (dk_at dksX0_allDrawn_2 4 rfl rfl)
theorem dX0_allDrawn_52 : decode cX0_allDrawn 52 = .ok (.getfield 51, 3) := dk_180 0 51 (dk_at dksX0_allDrawn_2 5 rfl rfl)
theorem dX0_allDrawn_55 : decode cX0_allDrawn 55 = .ok (.iload 6, 2) := dk_21 6 (dk_at dksX0_allDrawn_2 8 rfl rfl)
theorem dX0_allDrawn_57 : decode cX0_allDrawn 57 = .ok (.aaload, 1) := dk_50 (dk_at dksX0_allDrawn_2 10 rfl rfl)
theorem dX0_allDrawn_58 : decode cX0_allDrawn 58 = .ok (.getfield 82, 3) := dk_180 0 82 (dk_at dksX0_allDrawn_2 11 rfl rfl)
theorem dX0_allDrawn_61 : decode cX0_allDrawn 61 = .ok (.iload_n 3, 1) := dk_29 (dk_at dksX0_allDrawn_2 14 rfl rfl)
theorem dX0_allDrawn_62 : decode cX0_allDrawn 62 = .ok (.bipush 9, 2) := dk_16 9 (dk_at dksX0_allDrawn_2 15 rfl rfl)
theorem dX0_allDrawn_64 : decode cX0_allDrawn 64 = .ok (.iushr, 1) := dk_124 (dk_at dksX0_allDrawn_2 17 rfl rfl)
theorem dX0_allDrawn_65 : decode cX0_allDrawn 65 = .ok (.iconst 4, 1) := dk_7 (dk_at dksX0_allDrawn_2 18 rfl rfl)
theorem dX0_allDrawn_66 : decode cX0_allDrawn 66 = .ok (.irem, 1) := dk_112 (dk_at dksX0_allDrawn_2 19 rfl rfl)
theorem dX0_allDrawn_67 : decode cX0_allDrawn 67 = .ok (.isub, 1) := dk_100 (dk_at dksX0_allDrawn_2 20 rfl rfl)
theorem dX0_allDrawn_68 : decode cX0_allDrawn 68 = .ok (.invokestatic 7, 3) := dk_184 0 7 (dk_at dksX0_allDrawn_2 21 rfl rfl)
theorem dX0_allDrawn_71 : decode cX0_allDrawn 71 = .ok (.putfield 82, 3) := dk_181 0 82 (dk_at dksX0_allDrawn_3 0 rfl rfl)
theorem dX0_allDrawn_74 : decode cX0_allDrawn 74 = .ok (.iinc 6 1, 3) := dk_132 6 1 (dk_at dksX0_allDrawn_3 3 rfl rfl)
theorem dX0_allDrawn_77 : decode cX0_allDrawn 77 = .ok (.goto (-53), 3) := dk_167 255 203 (dk_at dksX0_allDrawn_3 6 rfl rfl)
theorem dX0_allDrawn_80 : decode cX0_allDrawn 80 = .ok (.aload_n 0, 1) := dk_42 (dk_at dksX0_allDrawn_3 9 rfl rfl)
theorem dX0_allDrawn_81 : decode cX0_allDrawn 81 = .ok (.invokevirtual 357, 3) := dk_182 1 101 (dk_at dksX0_allDrawn_3 10 rfl rfl)
theorem dX0_allDrawn_84 : decode cX0_allDrawn 84 = .ok (.iinc 5 1, 3) := dk_132 5 1 (dk_at dksX0_allDrawn_3 13 rfl rfl)
theorem dX0_allDrawn_87 : decode cX0_allDrawn 87 = .ok (.goto (-72), 3) := dk_167 255 184 (dk_at dksX0_allDrawn_3 16 rfl rfl)
theorem dX0_allDrawn_90 : decode cX0_allDrawn 90 = .ok (.aload_n 0, 1) := dk_42 (dk_at dksX0_allDrawn_3 19 rfl rfl)
theorem dX0_allDrawn_91 : decode cX0_allDrawn 91 = .ok (.invokevirtual 360, 3) := dk_182 1 104 (dk_at dksX0_allDrawn_3 20 rfl rfl)
theorem dX0_allDrawn_94 : decode cX0_allDrawn 94 = .ok (.istore 5, 2) := dk_54 5 (dk_at dksX0_allDrawn_4 0 rfl rfl)
theorem dX0_allDrawn_96 : decode cX0_allDrawn 96 = .ok (.aload_n 0, 1) := dk_42 (dk_at dksX0_allDrawn_4 2 rfl rfl)
theorem dX0_allDrawn_97 : decode cX0_allDrawn 97 = .ok (.iload 4, 2) := dk_21 4 (dk_at dksX0_allDrawn_4 3 rfl rfl)
theorem dX0_allDrawn_99 : decode cX0_allDrawn 99 = .ok (.invokevirtual 372, 3) := dk_182 1 116 (dk_at dksX0_allDrawn_4 5 rfl rfl)
theorem dX0_allDrawn_102 : decode cX0_allDrawn 102 = .ok (.iload 5, 2) := dk_21 5 (dk_at dksX0_allDrawn_4 8 rfl rfl)
theorem dX0_allDrawn_104 : decode cX0_allDrawn 104 = .ok (.ireturn, 1) := dk_172 (dk_at dksX0_allDrawn_4 10 rfl rfl)
theorem dX0_allDrawn_105 : decode cX0_allDrawn 105 = .ok (.astore 7, 2) := dk_58 7 (dk_at dksX0_allDrawn_4 11 rfl rfl)
theorem dX0_allDrawn_107 : decode cX0_allDrawn 107 = .ok (.aload_n 0, 1) := dk_42 (dk_at dksX0_allDrawn_4 13 rfl rfl)
theorem dX0_allDrawn_108 : decode cX0_allDrawn 108 = .ok (.iload 4, 2) := dk_21 4 (dk_at dksX0_allDrawn_4 14 rfl rfl)
theorem dX0_allDrawn_110 : decode cX0_allDrawn 110 = .ok (.invokevirtual 372, 3) := dk_182 1 116 (dk_at dksX0_allDrawn_4 16 rfl rfl)
theorem dX0_allDrawn_113 : decode cX0_allDrawn 113 = .ok (.aload 7, 2) := dk_25 7 (dk_at dksX0_allDrawn_4 19 rfl rfl)
theorem dX0_allDrawn_115 : decode cX0_allDrawn 115 = .ok (.athrow, 1) := dk_191 (dk_at dksX0_allDrawn_4 21 rfl rfl)
def dkwX0_chance_3 : List UInt8 := [28, 133, 29, 184, 1, 144, 173]
abbrev dktX0_chance_3 : List UInt8 := dkwX0_chance_3 ++ []
def dkwX0_chance_2 : List UInt8 := [16, 10, 182, 1, 220, 158, 0, 7, 10, 167, 0, 4, 9, 97, 55, 4, 132, 6, 1, 167, 255, 224, 22, 4]
abbrev dktX0_chance_2 : List UInt8 := dkwX0_chance_2 ++ dktX0_chance_3
def dkwX0_chance_1 : List UInt8 := [20, 1, 136, 173, 9, 55, 4, 3, 54, 6, 21, 6, 28, 162, 0, 32, 22, 4, 42, 27, 21, 6, 96]
abbrev dktX0_chance_1 : List UInt8 := dkwX0_chance_1 ++ dktX0_chance_2
def dkwX0_chance_0 : List UInt8 := [28, 133, 10, 20, 1, 223, 184, 0, 14, 153, 0, 13, 29, 133, 9, 10, 184, 0, 14, 154, 0, 7]
abbrev dktX0_chance_0 : List UInt8 := dkwX0_chance_0 ++ dktX0_chance_1
theorem dksX0_chance_0 : cX0_chance.data.toList.drop 0 = dktX0_chance_0 := by decide +kernel
theorem dksX0_chance_1 : cX0_chance.data.toList.drop 22 = dktX0_chance_1 := dk_seg dksX0_chance_0 22 rfl rfl
theorem dksX0_chance_2 : cX0_chance.data.toList.drop 45 = dktX0_chance_2 := dk_seg dksX0_chance_1 23 rfl rfl
theorem dksX0_chance_3 : cX0_chance.data.toList.drop 69 = dktX0_chance_3 := dk_seg dksX0_chance_2 24 rfl rfl
theorem dX0_chance_0 : decode cX0_chance 0 = .ok (.iload_n 2, 1) := dk_28 (dk_at dksX0_chance_0 0 rfl rfl)
theorem dX0_chance_1 : decode cX0_chance 1 = .ok (.i2l, 1) := dk_133 (dk_at dksX0_chance_0 1 rfl rfl)
theorem dX0_chance_2 : decode cX0_chance 2 = .ok (.lconst 1, 1) := dk_10 (dk_at dksX0_chance_0 2 rfl rfl)
theorem dX0_chance_3 : decode cX0_chance 3 = .ok (.ldc2_w 479, 3) := dk_20 1 223 (dk_at dksX0_chance_0 3 rfl rfl)
theorem dX0_chance_6 : decode cX0_chance 6 = .ok (.invokestatic 14, 3) := dk_184 0 14 (dk_at dksX0_chance_0 6 rfl rfl)
theorem dX0_chance_9 : decode cX0_chance 9 = .ok (.ifCond .eq 13, 3) := dk_153 0 13 (dk_at dksX0_chance_0 9 rfl rfl)
theorem dX0_chance_12 : decode cX0_chance 12 = .ok (.iload_n 3, 1) := dk_29 (dk_at dksX0_chance_0 12 rfl rfl)
theorem dX0_chance_13 : decode cX0_chance 13 = .ok (.i2l, 1) := dk_133 (dk_at dksX0_chance_0 13 rfl rfl)
theorem dX0_chance_14 : decode cX0_chance 14 = .ok (.lconst 0, 1) := dk_9 (dk_at dksX0_chance_0 14 rfl rfl)
theorem dX0_chance_15 : decode cX0_chance 15 = .ok (.lconst 1, 1) := dk_10 (dk_at dksX0_chance_0 15 rfl rfl)
theorem dX0_chance_16 : decode cX0_chance 16 = .ok (.invokestatic 14, 3) := dk_184 0 14 (dk_at dksX0_chance_0 16 rfl rfl)
theorem dX0_chance_19 : decode cX0_chance 19 = .ok (.ifCond .ne 7, 3) := dk_154 0 7 (dk_at dksX0_chance_0 19 rfl rfl)
theorem dX0_chance_22 : decode cX0_chance 22 = .ok (.ldc2_w 392, 3) := dk_20 1 136 (dk_at dksX0_chance_1 0 rfl rfl)
theorem dX0_chance_25 : decode cX0_chance 25 = .ok (.lreturn, 1) := dk_173 (dk_at dksX0_chance_1 3 rfl rfl)
theorem dX0_chance_26 : decode cX0_chance 26 = .ok (.lconst 0, 1) := dk_9 (dk_at dksX0_chance_1 4 rfl rfl)
theorem dX0_chance_27 : decode cX0_chance 27 = .ok (.lstore 4, 2) := dk_55 4 (dk_at dksX0_chance_1 5 rfl rfl)
theorem dX0_chance_29 : decode cX0_chance 29 = .ok (.iconst 0, 1) := dk_3 (dk_at dksX0_chance_1 7 rfl rfl)
theorem dX0_chance_30 : decode cX0_chance 30 = .ok (.istore 6, 2) := dk_54 6 (dk_at dksX0_chance_1 8 rfl rfl)
theorem dX0_chance_32 : decode cX0_chance 32 = .ok (.iload 6, 2) := dk_21 6 (dk_at dksX0_chance_1 10 rfl rfl)
theorem dX0_chance_34 : decode cX0_chance 34 = .ok (.iload_n 2, 1) := dk_28 (dk_at dksX0_chance_1 12 rfl rfl)
theorem dX0_chance_35 : decode cX0_chance 35 = .ok (.if_icmp .ge 32, 3) := dk_162 0 32 (dk_at dksX0_chance_1 13 rfl rfl)
theorem dX0_chance_38 : decode cX0_chance 38 = .ok (.lload 4, 2) := dk_22 4 (dk_at dksX0_chance_1 16 rfl rfl)
theorem dX0_chance_40 : decode cX0_chance 40 = .ok (.aload_n 0, 1) := dk_42 (dk_at dksX0_chance_1 18 rfl rfl)
theorem dX0_chance_41 : decode cX0_chance 41 = .ok (.iload_n 1, 1) := dk_27 (dk_at dksX0_chance_1 19 rfl rfl)
theorem dX0_chance_42 : decode cX0_chance 42 = .ok (.iload 6, 2) := dk_21 6 (dk_at dksX0_chance_1 20 rfl rfl)
theorem dX0_chance_44 : decode cX0_chance 44 = .ok (.iadd, 1) := dk_96 (dk_at dksX0_chance_1 22 rfl rfl)
theorem dX0_chance_45 : decode cX0_chance 45 = .ok (.bipush 10, 2) := dk_16 10 (dk_at dksX0_chance_2 0 rfl rfl)
theorem dX0_chance_47 : decode cX0_chance 47 = .ok (.invokevirtual 476, 3) := dk_182 1 220 (dk_at dksX0_chance_2 2 rfl rfl)
theorem dX0_chance_50 : decode cX0_chance 50 = .ok (.ifCond .le 7, 3) := dk_158 0 7 (dk_at dksX0_chance_2 5 rfl rfl)
theorem dX0_chance_53 : decode cX0_chance 53 = .ok (.lconst 1, 1) := dk_10 (dk_at dksX0_chance_2 8 rfl rfl)
theorem dX0_chance_54 : decode cX0_chance 54 = .ok (.goto 4, 3) := dk_167 0 4 (dk_at dksX0_chance_2 9 rfl rfl)
theorem dX0_chance_57 : decode cX0_chance 57 = .ok (.lconst 0, 1) := dk_9 (dk_at dksX0_chance_2 12 rfl rfl)
theorem dX0_chance_58 : decode cX0_chance 58 = .ok (.ladd, 1) := dk_97 (dk_at dksX0_chance_2 13 rfl rfl)
theorem dX0_chance_59 : decode cX0_chance 59 = .ok (.lstore 4, 2) := dk_55 4 (dk_at dksX0_chance_2 14 rfl rfl)
theorem dX0_chance_61 : decode cX0_chance 61 = .ok (.iinc 6 1, 3) := dk_132 6 1 (dk_at dksX0_chance_2 16 rfl rfl)
theorem dX0_chance_64 : decode cX0_chance 64 = .ok (.goto (-32), 3) := dk_167 255 224 (dk_at dksX0_chance_2 19 rfl rfl)
theorem dX0_chance_67 : decode cX0_chance 67 = .ok (.lload 4, 2) := dk_22 4 (dk_at dksX0_chance_2 22 rfl rfl)
theorem dX0_chance_69 : decode cX0_chance 69 = .ok (.iload_n 2, 1) := dk_28 (dk_at dksX0_chance_3 0 rfl rfl)
theorem dX0_chance_70 : decode cX0_chance 70 = .ok (.i2l, 1) := dk_133 (dk_at dksX0_chance_3 1 rfl rfl)
theorem dX0_chance_71 : decode cX0_chance 71 = .ok (.iload_n 3, 1) := dk_29 (dk_at dksX0_chance_3 2 rfl rfl)
theorem dX0_chance_72 : decode cX0_chance 72 = .ok (.invokestatic 400, 3) := dk_184 1 144 (dk_at dksX0_chance_3 3 rfl rfl)
theorem dX0_chance_75 : decode cX0_chance 75 = .ok (.lreturn, 1) := dk_173 (dk_at dksX0_chance_3 6 rfl rfl)
def dkwX0_image_5 : List UInt8 := [181, 1, 231, 42, 180, 0, 18, 172]
abbrev dktX0_image_5 : List UInt8 := dkwX0_image_5 ++ []
def dkwX0_image_4 : List UInt8 := [42, 180, 1, 60, 6, 42, 180, 1, 98, 79, 42, 180, 1, 60, 7, 42, 180, 1, 79, 79, 42, 4]
abbrev dktX0_image_4 : List UInt8 := dkwX0_image_4 ++ dktX0_image_5
def dkwX0_image_3 : List UInt8 := [180, 0, 18, 79, 42, 180, 1, 60, 4, 42, 180, 0, 66, 79, 42, 180, 1, 60, 5, 42, 180, 0, 69, 79]
abbrev dktX0_image_3 : List UInt8 := dkwX0_image_3 ++ dktX0_image_4
def dkwX0_image_2 : List UInt8 := [182, 0, 116, 79, 132, 2, 1, 167, 255, 232, 132, 1, 1, 167, 255, 216, 42, 180, 1, 60, 3, 42]
abbrev dktX0_image_2 : List UInt8 := dkwX0_image_2 ++ dktX0_image_3
def dkwX0_image_1 : List UInt8 := [162, 0, 38, 3, 61, 28, 6, 162, 0, 25, 42, 180, 1, 57, 28, 50, 27, 42, 27, 6, 28, 96]
abbrev dktX0_image_1 : List UInt8 := dkwX0_image_1 ++ dktX0_image_2
def dkwX0_image_0 : List UInt8 := [42, 180, 0, 72, 3, 42, 180, 1, 54, 3, 16, 8, 184, 1, 225, 3, 60, 27, 42, 180, 0, 18]
abbrev dktX0_image_0 : List UInt8 := dkwX0_image_0 ++ dktX0_image_1
theorem dksX0_image_0 : cX0_image.data.toList.drop 0 = dktX0_image_0 := by decide +kernel
theorem dksX0_image_1 : cX0_image.data.toList.drop 22 = dktX0_image_1 := dk_seg dksX0_image_0 22 rfl rfl
theorem dksX0_image_2 : cX0_image.data.toList.drop 44 = dktX0_image_2 := dk_seg dksX0_image_1 22 rfl rfl
theorem dksX0_image_3 : cX0_image.data.toList.drop 66 = dktX0_image_3 := dk_seg dksX0_image_2 22 rfl rfl
theorem dksX0_image_4 : cX0_image.data.toList.drop 90 = dktX0_image_4 := dk_seg dksX0_image_3 24 rfl rfl
theorem dksX0_image_5 : cX0_image.data.toList.drop 112 = dktX0_image_5 := dk_seg dksX0_image_4 22 rfl rfl
theorem dX0_image_0 : decode cX0_image 0 = .ok (.aload_n 0, 1) := dk_42 (dk_at dksX0_image_0 0 rfl rfl)
theorem dX0_image_1 : decode cX0_image 1 = .ok (.getfield 72, 3) := dk_180 0 72 (dk_at dksX0_image_0 1 rfl rfl)
theorem dX0_image_4 : decode cX0_image 4 = .ok (.iconst 0, 1) := dk_3 (dk_at dksX0_image_0 4 rfl rfl)
theorem dX0_image_5 : decode cX0_image 5 = .ok (.aload_n 0, 1) := dk_42 (dk_at dksX0_image_0 5 rfl rfl)
theorem dX0_image_6 : decode cX0_image 6 = .ok (.getfield 310, 3) := dk_180 1 54 (dk_at dksX0_image_0 6 rfl rfl)
theorem dX0_image_9 : decode cX0_image 9 = .ok (.iconst 0, 1) := dk_3 (dk_at dksX0_image_0 9 rfl rfl)
theorem dX0_image_10 : decode cX0_image 10 = .ok (.bipush 8, 2) := dk_16 8 (dk_at dksX0_image_0 10 rfl rfl)
theorem dX0_image_12 : decode cX0_image 12 = .ok (.invokestatic 481, 3) := dk_184 1 225 (dk_at dksX0_image_0 12 rfl rfl)
theorem dX0_image_15 : decode cX0_image 15 = .ok (.iconst 0, 1) := dk_3 (dk_at dksX0_image_0 15 rfl rfl)
theorem dX0_image_16 : decode cX0_image 16 = .ok (.istore_n 1, 1) := dk_60 (dk_at dksX0_image_0 16 rfl rfl)
theorem dX0_image_17 : decode cX0_image 17 = .ok (.iload_n 1, 1) := dk_27 (dk_at dksX0_image_0 17 rfl rfl)
theorem dX0_image_18 : decode cX0_image 18 = .ok (.aload_n 0, 1) := dk_42 (dk_at dksX0_image_0 18 rfl rfl)
theorem dX0_image_19 : decode cX0_image 19 = .ok (.getfield 18, 3) := dk_180 0 18 (dk_at dksX0_image_0 19 rfl rfl)
theorem dX0_image_22 : decode cX0_image 22 = .ok (.if_icmp .ge 38, 3) := dk_162 0 38 (dk_at dksX0_image_1 0 rfl rfl)
theorem dX0_image_25 : decode cX0_image 25 = .ok (.iconst 0, 1) := dk_3 (dk_at dksX0_image_1 3 rfl rfl)
theorem dX0_image_26 : decode cX0_image 26 = .ok (.istore_n 2, 1) := dk_61 (dk_at dksX0_image_1 4 rfl rfl)
theorem dX0_image_27 : decode cX0_image 27 = .ok (.iload_n 2, 1) := dk_28 (dk_at dksX0_image_1 5 rfl rfl)
theorem dX0_image_28 : decode cX0_image 28 = .ok (.iconst 3, 1) := dk_6 (dk_at dksX0_image_1 6 rfl rfl)
theorem dX0_image_29 : decode cX0_image 29 = .ok (.if_icmp .ge 25, 3) := dk_162 0 25 (dk_at dksX0_image_1 7 rfl rfl)
theorem dX0_image_32 : decode cX0_image 32 = .ok (.aload_n 0, 1) := dk_42 (dk_at dksX0_image_1 10 rfl rfl)
theorem dX0_image_33 : decode cX0_image 33 = .ok (.getfield 313, 3) := dk_180 1 57 (dk_at dksX0_image_1 11 rfl rfl)
theorem dX0_image_36 : decode cX0_image 36 = .ok (.iload_n 2, 1) := dk_28 (dk_at dksX0_image_1 14 rfl rfl)
theorem dX0_image_37 : decode cX0_image 37 = .ok (.aaload, 1) := dk_50 (dk_at dksX0_image_1 15 rfl rfl)
theorem dX0_image_38 : decode cX0_image 38 = .ok (.iload_n 1, 1) := dk_27 (dk_at dksX0_image_1 16 rfl rfl)
theorem dX0_image_39 : decode cX0_image 39 = .ok (.aload_n 0, 1) := dk_42 (dk_at dksX0_image_1 17 rfl rfl)
theorem dX0_image_40 : decode cX0_image 40 = .ok (.iload_n 1, 1) := dk_27 (dk_at dksX0_image_1 18 rfl rfl)
theorem dX0_image_41 : decode cX0_image 41 = .ok (.iconst 3, 1) := dk_6 (dk_at dksX0_image_1 19 rfl rfl)
theorem dX0_image_42 : decode cX0_image 42 = .ok (.iload_n 2, 1) := dk_28 (dk_at dksX0_image_1 20 rfl rfl)
theorem dX0_image_43 : decode cX0_image 43 = .ok (.iadd, 1) := dk_96 (dk_at dksX0_image_1 21 rfl rfl)
theorem dX0_image_44 : decode cX0_image 44 = .ok (.invokevirtual 116, 3) := dk_182 0 116 (dk_at dksX0_image_2 0 rfl rfl)
theorem dX0_image_47 : decode cX0_image 47 = .ok (.iastore, 1) := dk_79 (dk_at dksX0_image_2 3 rfl rfl)
theorem dX0_image_48 : decode cX0_image 48 = .ok (.iinc 2 1, 3) := dk_132 2 1 (dk_at dksX0_image_2 4 rfl rfl)
theorem dX0_image_51 : decode cX0_image 51 = .ok (.goto (-24), 3) := dk_167 255 232 (dk_at dksX0_image_2 7 rfl rfl)
theorem dX0_image_54 : decode cX0_image 54 = .ok (.iinc 1 1, 3) := dk_132 1 1 (dk_at dksX0_image_2 10 rfl rfl)
theorem dX0_image_57 : decode cX0_image 57 = .ok (.goto (-40), 3) := dk_167 255 216 (dk_at dksX0_image_2 13 rfl rfl)
theorem dX0_image_60 : decode cX0_image 60 = .ok (.aload_n 0, 1) := dk_42 (dk_at dksX0_image_2 16 rfl rfl)
theorem dX0_image_61 : decode cX0_image 61 = .ok (.getfield 316, 3) := dk_180 1 60 (dk_at dksX0_image_2 17 rfl rfl)
theorem dX0_image_64 : decode cX0_image 64 = .ok (.iconst 0, 1) := dk_3 (dk_at dksX0_image_2 20 rfl rfl)
theorem dX0_image_65 : decode cX0_image 65 = .ok (.aload_n 0, 1) := dk_42 (dk_at dksX0_image_2 21 rfl rfl)
theorem dX0_image_66 : decode cX0_image 66 = .ok (.getfield 18, 3) := dk_180 0 18 (dk_at dksX0_image_3 0 rfl rfl)
theorem dX0_image_69 : decode cX0_image 69 = .ok (.iastore, 1) := dk_79 (dk_at dksX0_image_3 3 rfl rfl)
theorem dX0_image_70 : decode cX0_image 70 = .ok (.aload_n 0, 1) := dk_42 (dk_at dksX0_image_3 4 rfl rfl)
theorem dX0_image_71 : decode cX0_image 71 = .ok (.getfield 316, 3) := dk_180 1 60 (dk_at dksX0_image_3 5 rfl rfl)
theorem dX0_image_74 : decode cX0_image 74 = .ok (.iconst 1, 1) := dk_4 (dk_at dksX0_image_3 8 rfl rfl)
theorem dX0_image_75 : decode cX0_image 75 = .ok (.aload_n 0, 1) := dk_42 (dk_at dksX0_image_3 9 rfl rfl)
theorem dX0_image_76 : decode cX0_image 76 = .ok (.getfield 66, 3) := dk_180 0 66 (dk_at dksX0_image_3 10 rfl rfl)
theorem dX0_image_79 : decode cX0_image 79 = .ok (.iastore, 1) := dk_79 (dk_at dksX0_image_3 13 rfl rfl)
theorem dX0_image_80 : decode cX0_image 80 = .ok (.aload_n 0, 1) := dk_42 (dk_at dksX0_image_3 14 rfl rfl)
theorem dX0_image_81 : decode cX0_image 81 = .ok (.getfield 316, 3) := dk_180 1 60 (dk_at dksX0_image_3 15 rfl rfl)
theorem dX0_image_84 : decode cX0_image 84 = .ok (.iconst 2, 1) := dk_5 (dk_at dksX0_image_3 18 rfl rfl)
theorem dX0_image_85 : decode cX0_image 85 = .ok (.aload_n 0, 1) := dk_42 (dk_at dksX0_image_3 19 rfl rfl)
theorem dX0_image_86 : decode cX0_image 86 = .ok (.getfield 69, 3) := dk_180 0 69 (dk_at dksX0_image_3 20 rfl rfl)
theorem dX0_image_89 : decode cX0_image 89 = .ok (.iastore, 1) := dk_79 (dk_at dksX0_image_3 23 rfl rfl)
theorem dX0_image_90 : decode cX0_image 90 = .ok (.aload_n 0, 1) := dk_42 (dk_at dksX0_image_4 0 rfl rfl)
theorem dX0_image_91 : decode cX0_image 91 = .ok (.getfield 316, 3) := dk_180 1 60 (dk_at dksX0_image_4 1 rfl rfl)
theorem dX0_image_94 : decode cX0_image 94 = .ok (.iconst 3, 1) := dk_6 (dk_at dksX0_image_4 4 rfl rfl)
theorem dX0_image_95 : decode cX0_image 95 = .ok (.aload_n 0, 1) := dk_42 (dk_at dksX0_image_4 5 rfl rfl)
theorem dX0_image_96 : decode cX0_image 96 = .ok (.getfield 354, 3) := dk_180 1 98 (dk_at dksX0_image_4 6 rfl rfl)
theorem dX0_image_99 : decode cX0_image 99 = .ok (.iastore, 1) := dk_79 (dk_at dksX0_image_4 9 rfl rfl)
theorem dX0_image_100 : decode cX0_image 100 = .ok (.aload_n 0, 1) := dk_42 (dk_at dksX0_image_4 10 rfl rfl)
theorem dX0_image_101 : decode cX0_image 101 = .ok (.getfield 316, 3) := dk_180 1 60 (dk_at dksX0_image_4 11 rfl rfl)
theorem dX0_image_104 : decode cX0_image 104 = .ok (.iconst 4, 1) := dk_7 (dk_at dksX0_image_4 14 rfl rfl)
theorem dX0_image_105 : decode cX0_image 105 = .ok (.aload_n 0, 1) := dk_42 (dk_at dksX0_image_4 15 rfl rfl)
theorem dX0_image_106 : decode cX0_image 106 = .ok (.getfield 335, 3) := dk_180 1 79 (dk_at dksX0_image_4 16 rfl rfl)
theorem dX0_image_109 : decode cX0_image 109 = .ok (.iastore, 1) := dk_79 (dk_at dksX0_image_4 19 rfl rfl)
theorem dX0_image_110 : decode cX0_image 110 = .ok (.aload_n 0, 1) := dk_42 (dk_at dksX0_image_4 20 rfl rfl)
theorem dX0_image_111 : decode cX0_image 111 = .ok (.iconst 1, 1) := dk_4 (dk_at dksX0_image_4 21 rfl rfl)
theorem dX0_image_112 : decode cX0_image 112 = .ok (.putfield 487, 3) := dk_181 1 231 (dk_at dksX0_image_5 0 rfl rfl)
theorem dX0_image_115 : decode cX0_image 115 = .ok (.aload_n 0, 1) := dk_42 (dk_at dksX0_image_5 3 rfl rfl)
theorem dX0_image_116 : decode cX0_image 116 = .ok (.getfield 18, 3) := dk_180 0 18 (dk_at dksX0_image_5 4 rfl rfl)
theorem dX0_image_119 : decode cX0_image 119 = .ok (.ireturn, 1) := dk_172 (dk_at dksX0_image_5 7 rfl rfl)
def dkwX0_back_5 : List UInt8 := [167, 255, 216, 42, 180, 0, 18, 172]
abbrev dktX0_back_5 : List UInt8 := dkwX0_back_5 ++ []
def dkwX0_back_4 : List UInt8 := [28, 96, 27, 42, 180, 1, 57, 28, 50, 27, 46, 182, 0, 90, 132, 2, 1, 167, 255, 232, 132, 1, 1]
abbrev dktX0_back_4 : List UInt8 := dkwX0_back_4 ++ dktX0_back_5
def dkwX0_back_3 : List UInt8 := [7, 46, 181, 1, 79, 3, 60, 27, 42, 180, 0, 18, 162, 0, 38, 3, 61, 28, 6, 162, 0, 25, 42, 6]
abbrev dktX0_back_3 : List UInt8 := dkwX0_back_3 ++ dktX0_back_4
def dkwX0_back_2 : List UInt8 := [42, 180, 1, 60, 5, 46, 181, 0, 69, 42, 42, 180, 1, 60, 6, 46, 181, 1, 98, 42, 42, 180, 1, 60]
abbrev dktX0_back_2 : List UInt8 := dkwX0_back_2 ++ dktX0_back_3
def dkwX0_back_1 : List UInt8 := [184, 1, 225, 42, 42, 180, 1, 60, 3, 46, 181, 0, 18, 42, 42, 180, 1, 60, 4, 46, 181, 0, 66, 42]
abbrev dktX0_back_1 : List UInt8 := dkwX0_back_1 ++ dktX0_back_2
def dkwX0_back_0 : List UInt8 := [42, 180, 1, 231, 154, 0, 6, 16, 253, 172, 42, 180, 1, 54, 3, 42, 180, 0, 72, 3, 16, 8]
abbrev dktX0_back_0 : List UInt8 := dkwX0_back_0 ++ dktX0_back_1
theorem dksX0_back_0 : cX0_back.data.toList.drop 0 = dktX0_back_0 := by decide +kernel
theorem dksX0_back_1 : cX0_back.data.toList.drop 22 = dktX0_back_1 := dk_seg dksX0_back_0 22 rfl rfl
theorem dksX0_back_2 : cX0_back.data.toList.drop 46 = dktX0_back_2 := dk_seg dksX0_back_1 24 rfl rfl
theorem dksX0_back_3 : cX0_back.data.toList.drop 70 = dktX0_back_3 := dk_seg dksX0_back_2 24 rfl rfl
theorem dksX0_back_4 : cX0_back.data.toList.drop 94 = dktX0_back_4 := dk_seg dksX0_back_3 24 rfl rfl
theorem dksX0_back_5 : cX0_back.data.toList.drop 117 = dktX0_back_5 := dk_seg dksX0_back_4 23 rfl rfl
theorem dX0_back_0 : decode cX0_back 0 = .ok (.aload_n 0, 1) := dk_42 (dk_at dksX0_back_0 0 rfl rfl)
theorem dX0_back_1 : decode cX0_back 1 = .ok (.getfield 487, 3) := dk_180 1 231 (dk_at dksX0_back_0 1 rfl rfl)
theorem dX0_back_4 : decode cX0_back 4 = .ok (.ifCond .ne 6, 3) := dk_154 0 6 (dk_at dksX0_back_0 4 rfl rfl)
theorem dX0_back_7 : decode cX0_back 7 = .ok (.bipush (-3), 2) := dk_16 253 (dk_at dksX0_back_0 7 rfl rfl)
theorem dX0_back_9 : decode cX0_back 9 = .ok (.ireturn, 1) := dk_172 (dk_at dksX0_back_0 9 rfl rfl)
theorem dX0_back_10 : decode cX0_back 10 = .ok (.aload_n 0, 1) := dk_42 (dk_at dksX0_back_0 10 rfl rfl)
theorem dX0_back_11 : decode cX0_back 11 = .ok (.getfield 310, 3) := dk_180 1 54 (dk_at dksX0_back_0 11 rfl rfl)
theorem dX0_back_14 : decode cX0_back 14 = .ok (.iconst 0, 1) := dk_3 (dk_at dksX0_back_0 14 rfl rfl)
theorem dX0_back_15 : decode cX0_back 15 = .ok (.aload_n 0, 1) := dk_42 (dk_at dksX0_back_0 15 rfl rfl)
theorem dX0_back_16 : decode cX0_back 16 = .ok (.getfield 72, 3) := dk_180 0 72 (dk_at dksX0_back_0 16 rfl rfl)
theorem dX0_back_19 : decode cX0_back 19 = .ok (.iconst 0, 1) := dk_3 (dk_at dksX0_back_0 19 rfl rfl)
theorem dX0_back_20 : decode cX0_back 20 = .ok (.bipush 8, 2) := dk_16 8 (dk_at dksX0_back_0 20 rfl rfl)
theorem dX0_back_22 : decode cX0_back 22 = .ok (.invokestatic 481, 3) := dk_184 1 225 (dk_at dksX0_back_1 0 rfl rfl)
theorem dX0_back_25 : decode cX0_back 25 = .ok (.aload_n 0, 1) := dk_42 (dk_at dksX0_back_1 3 rfl rfl)
theorem dX0_back_26 : decode cX0_back 26 = .ok (.aload_n 0, 1) := dk_42 (dk_at dksX0_back_1 4 rfl rfl)
theorem dX0_back_27 : decode cX0_back 27 = .ok (.getfield 316, 3) := dk_180 1 60 (dk_at dksX0_back_1 5 rfl rfl)
theorem dX0_back_30 : decode cX0_back 30 = .ok (.iconst 0, 1) := dk_3 (dk_at dksX0_back_1 8 rfl rfl)
theorem dX0_back_31 : decode cX0_back 31 = .ok (.iaload, 1) := dk_46 (dk_at dksX0_back_1 9 rfl rfl)
theorem dX0_back_32 : decode cX0_back 32 = .ok (.putfield 18, 3) := dk_181 0 18 (dk_at dksX0_back_1 10 rfl rfl)
theorem dX0_back_35 : decode cX0_back 35 = .ok (.aload_n 0, 1) := dk_42 (dk_at dksX0_back_1 13 rfl rfl)
theorem dX0_back_36 : decode cX0_back 36 = .ok (.aload_n 0, 1) := dk_42 (dk_at dksX0_back_1 14 rfl rfl)
theorem dX0_back_37 : decode cX0_back 37 = .ok (.getfield 316, 3) := dk_180 1 60 (dk_at dksX0_back_1 15 rfl rfl)
theorem dX0_back_40 : decode cX0_back 40 = .ok (.iconst 1, 1) := dk_4 (dk_at dksX0_back_1 18 rfl rfl)
theorem dX0_back_41 : decode cX0_back 41 = .ok (.iaload, 1) := dk_46 (dk_at dksX0_back_1 19 rfl rfl)
theorem dX0_back_42 : decode cX0_back 42 = .ok (.putfield 66, 3) := dk_181 0 66 (dk_at dksX0_back_1 20 rfl rfl)
theorem dX0_back_45 : decode cX0_back 45 = .ok (.aload_n 0, 1) := dk_42 (dk_at dksX0_back_1 23 rfl rfl)
theorem dX0_back_46 : decode cX0_back 46 = .ok (.aload_n 0, 1) := dk_42 (dk_at dksX0_back_2 0 rfl rfl)
theorem dX0_back_47 : decode cX0_back 47 = .ok (.getfield 316, 3) := dk_180 1 60 (dk_at dksX0_back_2 1 rfl rfl)
theorem dX0_back_50 : decode cX0_back 50 = .ok (.iconst 2, 1) := dk_5 (dk_at dksX0_back_2 4 rfl rfl)
theorem dX0_back_51 : decode cX0_back 51 = .ok (.iaload, 1) := dk_46 (dk_at dksX0_back_2 5 rfl rfl)
theorem dX0_back_52 : decode cX0_back 52 = .ok (.putfield 69, 3) := dk_181 0 69 (dk_at dksX0_back_2 6 rfl rfl)
theorem dX0_back_55 : decode cX0_back 55 = .ok (.aload_n 0, 1) := dk_42 (dk_at dksX0_back_2 9 rfl rfl)
theorem dX0_back_56 : decode cX0_back 56 = .ok (.aload_n 0, 1) := dk_42 (dk_at dksX0_back_2 10 rfl rfl)
theorem dX0_back_57 : decode cX0_back 57 = .ok (.getfield 316, 3) := dk_180 1 60 (dk_at dksX0_back_2 11 rfl rfl)
theorem dX0_back_60 : decode cX0_back 60 = .ok (.iconst 3, 1) := dk_6 (dk_at dksX0_back_2 14 rfl rfl)
theorem dX0_back_61 : decode cX0_back 61 = .ok (.iaload, 1) := dk_46 (dk_at dksX0_back_2 15 rfl rfl)
theorem dX0_back_62 : decode cX0_back 62 = .ok (.putfield 354, 3) := dk_181 1 98 (dk_at dksX0_back_2 16 rfl rfl)
theorem dX0_back_65 : decode cX0_back 65 = .ok (.aload_n 0, 1) := dk_42 (dk_at dksX0_back_2 19 rfl rfl)
theorem dX0_back_66 : decode cX0_back 66 = .ok (.aload_n 0, 1) := dk_42 (dk_at dksX0_back_2 20 rfl rfl)
theorem dX0_back_67 : decode cX0_back 67 = .ok (.getfield 316, 3) := dk_180 1 60 (dk_at dksX0_back_2 21 rfl rfl)
theorem dX0_back_70 : decode cX0_back 70 = .ok (.iconst 4, 1) := dk_7 (dk_at dksX0_back_3 0 rfl rfl)
theorem dX0_back_71 : decode cX0_back 71 = .ok (.iaload, 1) := dk_46 (dk_at dksX0_back_3 1 rfl rfl)
theorem dX0_back_72 : decode cX0_back 72 = .ok (.putfield 335, 3) := dk_181 1 79 (dk_at dksX0_back_3 2 rfl rfl)
theorem dX0_back_75 : decode cX0_back 75 = .ok (.iconst 0, 1) := dk_3 (dk_at dksX0_back_3 5 rfl rfl)
theorem dX0_back_76 : decode cX0_back 76 = .ok (.istore_n 1, 1) := dk_60 (dk_at dksX0_back_3 6 rfl rfl)
theorem dX0_back_77 : decode cX0_back 77 = .ok (.iload_n 1, 1) := dk_27 (dk_at dksX0_back_3 7 rfl rfl)
theorem dX0_back_78 : decode cX0_back 78 = .ok (.aload_n 0, 1) := dk_42 (dk_at dksX0_back_3 8 rfl rfl)
theorem dX0_back_79 : decode cX0_back 79 = .ok (.getfield 18, 3) := dk_180 0 18 (dk_at dksX0_back_3 9 rfl rfl)
theorem dX0_back_82 : decode cX0_back 82 = .ok (.if_icmp .ge 38, 3) := dk_162 0 38 (dk_at dksX0_back_3 12 rfl rfl)
theorem dX0_back_85 : decode cX0_back 85 = .ok (.iconst 0, 1) := dk_3 (dk_at dksX0_back_3 15 rfl rfl)
theorem dX0_back_86 : decode cX0_back 86 = .ok (.istore_n 2, 1) := dk_61 (dk_at dksX0_back_3 16 rfl rfl)
theorem dX0_back_87 : decode cX0_back 87 = .ok (.iload_n 2, 1) := dk_28 (dk_at dksX0_back_3 17 rfl rfl)
theorem dX0_back_88 : decode cX0_back 88 = .ok (.iconst 3, 1) := dk_6 (dk_at dksX0_back_3 18 rfl rfl)
theorem dX0_back_89 : decode cX0_back 89 = .ok (.if_icmp .ge 25, 3) := dk_162 0 25 (dk_at dksX0_back_3 19 rfl rfl)
theorem dX0_back_92 : decode cX0_back 92 = .ok (.aload_n 0, 1) := dk_42 (dk_at dksX0_back_3 22 rfl rfl)
theorem dX0_back_93 : decode cX0_back 93 = .ok (.iconst 3, 1) := dk_6 (dk_at dksX0_back_3 23 rfl rfl)
theorem dX0_back_94 : decode cX0_back 94 = .ok (.iload_n 2, 1) := dk_28 (dk_at dksX0_back_4 0 rfl rfl)
theorem dX0_back_95 : decode cX0_back 95 = .ok (.iadd, 1) := dk_96 (dk_at dksX0_back_4 1 rfl rfl)
theorem dX0_back_96 : decode cX0_back 96 = .ok (.iload_n 1, 1) := dk_27 (dk_at dksX0_back_4 2 rfl rfl)
theorem dX0_back_97 : decode cX0_back 97 = .ok (.aload_n 0, 1) := dk_42 (dk_at dksX0_back_4 3 rfl rfl)
theorem dX0_back_98 : decode cX0_back 98 = .ok (.getfield 313, 3) := dk_180 1 57 (dk_at dksX0_back_4 4 rfl rfl)
theorem dX0_back_101 : decode cX0_back 101 = .ok (.iload_n 2, 1) := dk_28 (dk_at dksX0_back_4 7 rfl rfl)
theorem dX0_back_102 : decode cX0_back 102 = .ok (.aaload, 1) := dk_50 (dk_at dksX0_back_4 8 rfl rfl)
theorem dX0_back_103 : decode cX0_back 103 = .ok (.iload_n 1, 1) := dk_27 (dk_at dksX0_back_4 9 rfl rfl)
theorem dX0_back_104 : decode cX0_back 104 = .ok (.iaload, 1) := dk_46 (dk_at dksX0_back_4 10 rfl rfl)
theorem dX0_back_105 : decode cX0_back 105 = .ok (.invokevirtual 90, 3) := dk_182 0 90 (dk_at dksX0_back_4 11 rfl rfl)
theorem dX0_back_108 : decode cX0_back 108 = .ok (.iinc 2 1, 3) := dk_132 2 1 (dk_at dksX0_back_4 14 rfl rfl)
theorem dX0_back_111 : decode cX0_back 111 = .ok (.goto (-24), 3) := dk_167 255 232 (dk_at dksX0_back_4 17 rfl rfl)
theorem dX0_back_114 : decode cX0_back 114 = .ok (.iinc 1 1, 3) := dk_132 1 1 (dk_at dksX0_back_4 20 rfl rfl)
theorem dX0_back_117 : decode cX0_back 117 = .ok (.goto (-40), 3) := dk_167 255 216 (dk_at dksX0_back_5 0 rfl rfl)
theorem dX0_back_120 : decode cX0_back 120 = .ok (.aload_n 0, 1) := dk_42 (dk_at dksX0_back_5 3 rfl rfl)
theorem dX0_back_121 : decode cX0_back 121 = .ok (.getfield 18, 3) := dk_180 0 18 (dk_at dksX0_back_5 4 rfl rfl)
theorem dX0_back_124 : decode cX0_back 124 = .ok (.ireturn, 1) := dk_172 (dk_at dksX0_back_5 7 rfl rfl)
def dkwX0_count_3 : List UInt8 := [172, 42, 180, 0, 248, 172, 42, 180, 1, 79, 172, 16, 254, 172]
abbrev dktX0_count_3 : List UInt8 := dkwX0_count_3 ++ []
def dkwX0_count_2 : List UInt8 := [42, 180, 0, 18, 172, 42, 182, 1, 104, 172, 42, 182, 1, 107, 172, 42, 180, 1, 98, 172, 42, 180, 1, 3]
abbrev dktX0_count_2 : List UInt8 := dkwX0_count_2 ++ dktX0_count_3
def dkwX0_count_1 : List UInt8 := [170, 0, 0, 0, 0, 0, 78, 0, 0, 0, 0, 0, 0, 0, 6, 0, 0, 0, 43, 0, 0, 0, 48, 0, 0, 0, 53, 0, 0, 0, 58, 0, 0, 0, 63, 0, 0, 0, 68, 0, 0, 0, 73]
abbrev dktX0_count_1 : List UInt8 := dkwX0_count_1 ++ dktX0_count_2
def dkwX0_count_0 : List UInt8 := [27]
abbrev dktX0_count_0 : List UInt8 := dkwX0_count_0 ++ dktX0_count_1
theorem dksX0_count_0 : cX0_count.data.toList.drop 0 = dktX0_count_0 := by decide +kernel
theorem dksX0_count_1 : cX0_count.data.toList.drop 1 = dktX0_count_1 := dk_seg dksX0_count_0 1 rfl rfl
theorem dksX0_count_2 : cX0_count.data.toList.drop 44 = dktX0_count_2 := dk_seg dksX0_count_1 43 rfl rfl
theorem dksX0_count_3 : cX0_count.data.toList.drop 68 = dktX0_count_3 := dk_seg dksX0_count_2 24 rfl rfl
theorem dX0_count_0 : decode cX0_count 0 = .ok (.iload_n 1, 1) := dk_27 (dk_at dksX0_count_0 0 rfl rfl)
theorem dX0_count_1 : decode cX0_count 1 = .ok (.tableswitch 78 0 6 #[43, 48, 53, 58, 63, 68, 73], 43) := by decide +kernel
theorem dX0_count_44 : decode cX0_count 44 = .ok (.aload_n 0, 1) := dk_42 (dk_at dksX0_count_2 0 rfl rfl)
theorem dX0_count_45 : decode cX0_count 45 = .ok (.getfield 18, 3) := dk_180 0 18 (dk_at dksX0_count_2 1 rfl rfl)
theorem dX0_count_48 : decode cX0_count 48 = .ok (.ireturn, 1) := dk_172 (dk_at dksX0_count_2 4 rfl rfl)
theorem dX0_count_49 : decode cX0_count 49 = .ok (.aload_n 0, 1) := dk_42 (dk_at dksX0_count_2 5 rfl rfl)
theorem dX0_count_50 : decode cX0_count 50 = .ok (.invokevirtual 360, 3) := dk_182 1 104 (dk_at dksX0_count_2 6 rfl rfl)
theorem dX0_count_53 : decode cX0_count 53 = .ok (.ireturn, 1) := dk_172 (dk_at dksX0_count_2 9 rfl rfl)
theorem dX0_count_54 : decode cX0_count 54 = .ok (.aload_n 0, 1) := dk_42 (dk_at dksX0_count_2 10 rfl rfl)
theorem dX0_count_55 : decode cX0_count 55 = .ok (.invokevirtual 363, 3) := dk_182 1 107 (dk_at dksX0_count_2 11 rfl rfl)
theorem dX0_count_58 : decode cX0_count 58 = .ok (.ireturn, 1) := dk_172 (dk_at dksX0_count_2 14 rfl rfl)
theorem dX0_count_59 : decode cX0_count 59 = .ok (.aload_n 0, 1) := dk_42 (dk_at dksX0_count_2 15 rfl rfl)
theorem dX0_count_60 : decode cX0_count 60 = .ok (.getfield 354, 3) := dk_180 1 98 (dk_at dksX0_count_2 16 rfl rfl)
theorem dX0_count_63 : decode cX0_count 63 = .ok (.ireturn, 1) := dk_172 (dk_at dksX0_count_2 19 rfl rfl)
theorem dX0_count_64 : decode cX0_count 64 = .ok (.aload_n 0, 1) := dk_42 (dk_at dksX0_count_2 20 rfl rfl)
theorem dX0_count_65 : decode cX0_count 65 = .ok (.getfield 259, 3) := dk_180 1 3 (dk_at dksX0_count_2 21 rfl rfl)
theorem dX0_count_68 : decode cX0_count 68 = .ok (.ireturn, 1) := dk_172 (dk_at dksX0_count_3 0 rfl rfl)
theorem dX0_count_69 : decode cX0_count 69 = .ok (.aload_n 0, 1) := dk_42 (dk_at dksX0_count_3 1 rfl rfl)
theorem dX0_count_70 : decode cX0_count 70 = .ok (.getfield 248, 3) := dk_180 0 248 (dk_at dksX0_count_3 2 rfl rfl)
theorem dX0_count_73 : decode cX0_count 73 = .ok (.ireturn, 1) := dk_172 (dk_at dksX0_count_3 5 rfl rfl)
theorem dX0_count_74 : decode cX0_count 74 = .ok (.aload_n 0, 1) := dk_42 (dk_at dksX0_count_3 6 rfl rfl)
theorem dX0_count_75 : decode cX0_count 75 = .ok (.getfield 335, 3) := dk_180 1 79 (dk_at dksX0_count_3 7 rfl rfl)
theorem dX0_count_78 : decode cX0_count 78 = .ok (.ireturn, 1) := dk_172 (dk_at dksX0_count_3 10 rfl rfl)
theorem dX0_count_79 : decode cX0_count 79 = .ok (.bipush (-2), 2) := dk_16 254 (dk_at dksX0_count_3 11 rfl rfl)
theorem dX0_count_81 : decode cX0_count 81 = .ok (.ireturn, 1) := dk_172 (dk_at dksX0_count_3 13 rfl rfl)
def dkwX0_copy_6 : List UInt8 := [172, 25, 6, 28, 25, 7, 21, 4, 21, 5, 184, 1, 225, 21, 5, 172]
abbrev dktX0_copy_6 : List UInt8 := dkwX0_copy_6 ++ []
def dkwX0_copy_5 : List UInt8 := [163, 0, 22, 21, 5, 21, 8, 28, 100, 163, 0, 13, 21, 5, 21, 9, 21, 4, 100, 164, 0, 6, 16, 244]
abbrev dktX0_copy_5 : List UInt8 := dkwX0_copy_5 ++ dktX0_copy_6
def dkwX0_copy_4 : List UInt8 := [155, 0, 44, 28, 155, 0, 40, 21, 4, 155, 0, 35, 28, 21, 8, 163, 0, 29, 21, 4, 21, 9]
abbrev dktX0_copy_4 : List UInt8 := dkwX0_copy_4 ++ dktX0_copy_5
def dkwX0_copy_3 : List UInt8 := [25, 6, 184, 1, 163, 184, 1, 167, 54, 8, 25, 7, 25, 7, 184, 1, 163, 184, 1, 167, 54, 9, 21, 5]
abbrev dktX0_copy_3 : List UInt8 := dkwX0_copy_3 ++ dktX0_copy_4
def dkwX0_copy_2 : List UInt8 := [199, 0, 6, 16, 245, 172, 25, 6, 184, 1, 163, 25, 7, 184, 1, 163, 159, 0, 6, 16, 243, 172, 25, 6]
abbrev dktX0_copy_2 : List UInt8 := dkwX0_copy_2 ++ dktX0_copy_3
def dkwX0_copy_1 : List UInt8 := [180, 1, 195, 58, 6, 42, 180, 1, 66, 29, 50, 180, 1, 195, 58, 7, 25, 6, 198, 0, 8, 25, 7]
abbrev dktX0_copy_1 : List UInt8 := dkwX0_copy_1 ++ dktX0_copy_2
def dkwX0_copy_0 : List UInt8 := [27, 184, 1, 190, 153, 0, 10, 29, 184, 1, 190, 154, 0, 6, 16, 254, 172, 42, 180, 1, 66, 27, 50]
abbrev dktX0_copy_0 : List UInt8 := dkwX0_copy_0 ++ dktX0_copy_1
theorem dksX0_copy_0 : cX0_copy.data.toList.drop 0 = dktX0_copy_0 := by decide +kernel
theorem dksX0_copy_1 : cX0_copy.data.toList.drop 23 = dktX0_copy_1 := dk_seg dksX0_copy_0 23 rfl rfl
theorem dksX0_copy_2 : cX0_copy.data.toList.drop 46 = dktX0_copy_2 := dk_seg dksX0_copy_1 23 rfl rfl
theorem dksX0_copy_3 : cX0_copy.data.toList.drop 70 = dktX0_copy_3 := dk_seg dksX0_copy_2 24 rfl rfl
theorem dksX0_copy_4 : cX0_copy.data.toList.drop 94 = dktX0_copy_4 := dk_seg dksX0_copy_3 24 rfl rfl
theorem dksX0_copy_5 : cX0_copy.data.toList.drop 116 = dktX0_copy_5 := dk_seg dksX0_copy_4 22 rfl rfl
theorem dksX0_copy_6 : cX0_copy.data.toList.drop 140 = dktX0_copy_6 := dk_seg dksX0_copy_5 24 rfl rfl
theorem dX0_copy_0 : decode cX0_copy 0 = .ok (.iload_n 1, 1) := dk_27 (dk_at dksX0_copy_0 0 rfl rfl)
theorem dX0_copy_1 : decode cX0_copy 1 = .ok (.invokestatic 446, 3) := dk_184 1 190 (dk_at dksX0_copy_0 1 rfl rfl)
theorem dX0_copy_4 : decode cX0_copy 4 = .ok (.ifCond .eq 10, 3) := dk_153 0 10 (dk_at dksX0_copy_0 4 rfl rfl)
theorem dX0_copy_7 : decode cX0_copy 7 = .ok (.iload_n 3, 1) := dk_29 (dk_at dksX0_copy_0 7 rfl rfl)
theorem dX0_copy_8 : decode cX0_copy 8 = .ok (.invokestatic 446, 3) := dk_184 1 190 (dk_at dksX0_copy_0 8 rfl rfl)
theorem dX0_copy_11 : decode cX0_copy 11 = .ok (.ifCond .ne 6, 3) := dk_154 0 6 (dk_at dksX0_copy_0 11 rfl rfl)
theorem dX0_copy_14 : decode cX0_copy 14 = .ok (.bipush (-2), 2) := dk_16 254 (dk_at dksX0_copy_0 14 rfl rfl)
theorem dX0_copy_16 : decode cX0_copy 16 = .ok (.ireturn, 1) := dk_172 (dk_at dksX0_copy_0 16 rfl rfl)
theorem dX0_copy_17 : decode cX0_copy 17 = .ok (.aload_n 0, 1) := dk_42 (dk_at dksX0_copy_0 17 rfl rfl)
theorem dX0_copy_18 : decode cX0_copy 18 = .ok (.getfield 322, 3) := dk_180 1 66 (dk_at dksX0_copy_0 18 rfl rfl)
theorem dX0_copy_21 : decode cX0_copy 21 = .ok (.iload_n 1, 1) := dk_27 (dk_at dksX0_copy_0 21 rfl rfl)
theorem dX0_copy_22 : decode cX0_copy 22 = .ok (.aaload, 1) := dk_50 (dk_at dksX0_copy_0 22 rfl rfl)
theorem dX0_copy_23 : decode cX0_copy 23 = .ok (.getfield 451, 3) := dk_180 1 195 (dk_at dksX0_copy_1 0 rfl rfl)
theorem dX0_copy_26 : decode cX0_copy 26 = .ok (.astore 6, 2) := dk_58 6 (dk_at dksX0_copy_1 3 rfl rfl)
theorem dX0_copy_28 : decode cX0_copy 28 = .ok (.aload_n 0, 1) := dk_42 (dk_at dksX0_copy_1 5 rfl rfl)
theorem dX0_copy_29 : decode cX0_copy 29 = .ok (.getfield 322, 3) := dk_180 1 66 (dk_at dksX0_copy_1 6 rfl rfl)
theorem dX0_copy_32 : decode cX0_copy 32 = .ok (.iload_n 3, 1) := dk_29 (dk_at dksX0_copy_1 9 rfl rfl)
theorem dX0_copy_33 : decode cX0_copy 33 = .ok (.aaload, 1) := dk_50 (dk_at dksX0_copy_1 10 rfl rfl)
theorem dX0_copy_34 : decode cX0_copy 34 = .ok (.getfield 451, 3) := dk_180 1 195 (dk_at dksX0_copy_1 11 rfl rfl)
theorem dX0_copy_37 : decode cX0_copy 37 = .ok (.astore 7, 2) := dk_58 7 (dk_at dksX0_copy_1 14 rfl rfl)
theorem dX0_copy_39 : decode cX0_copy 39 = .ok (.aload 6, 2) := dk_25 6 (dk_at dksX0_copy_1 16 rfl rfl)
theorem dX0_copy_41 : decode cX0_copy 41 = .ok (.ifnull 8, 3) := dk_198 0 8 (dk_at dksX0_copy_1 18 rfl rfl)
theorem dX0_copy_44 : decode cX0_copy 44 = .ok (.aload 7, 2) := dk_25 7 (dk_at dksX0_copy_1 21 rfl rfl)
theorem dX0_copy_46 : decode cX0_copy 46 = .ok (.ifnonnull 6, 3) := dk_199 0 6 (dk_at dksX0_copy_2 0 rfl rfl)
theorem dX0_copy_49 : decode cX0_copy 49 = .ok (.bipush (-11), 2) := dk_16 245 (dk_at dksX0_copy_2 3 rfl rfl)
theorem dX0_copy_51 : decode cX0_copy 51 = .ok (.ireturn, 1) := dk_172 (dk_at dksX0_copy_2 5 rfl rfl)
theorem dX0_copy_52 : decode cX0_copy 52 = .ok (.aload 6, 2) := dk_25 6 (dk_at dksX0_copy_2 6 rfl rfl)
theorem dX0_copy_54 : decode cX0_copy 54 = .ok (.invokestatic 419, 3) := dk_184 1 163 (dk_at dksX0_copy_2 8 rfl rfl)
theorem dX0_copy_57 : decode cX0_copy 57 = .ok (.aload 7, 2) := dk_25 7 (dk_at dksX0_copy_2 11 rfl rfl)
theorem dX0_copy_59 : decode cX0_copy 59 = .ok (.invokestatic 419, 3) := dk_184 1 163 (dk_at dksX0_copy_2 13 rfl rfl)
theorem dX0_copy_62 : decode cX0_copy 62 = .ok (.if_icmp .eq 6, 3) := dk_159 0 6 (dk_at dksX0_copy_2 16 rfl rfl)
theorem dX0_copy_65 : decode cX0_copy 65 = .ok (.bipush (-13), 2) := dk_16 243 (dk_at dksX0_copy_2 19 rfl rfl)
theorem dX0_copy_67 : decode cX0_copy 67 = .ok (.ireturn, 1) := dk_172 (dk_at dksX0_copy_2 21 rfl rfl)
theorem dX0_copy_68 : decode cX0_copy 68 = .ok (.aload 6, 2) := dk_25 6 (dk_at dksX0_copy_2 22 rfl rfl)
theorem dX0_copy_70 : decode cX0_copy 70 = .ok (.aload 6, 2) := dk_25 6 (dk_at dksX0_copy_3 0 rfl rfl)
theorem dX0_copy_72 : decode cX0_copy 72 = .ok (.invokestatic 419, 3) := dk_184 1 163 (dk_at dksX0_copy_3 2 rfl rfl)
theorem dX0_copy_75 : decode cX0_copy 75 = .ok (.invokestatic 423, 3) := dk_184 1 167 (dk_at dksX0_copy_3 5 rfl rfl)
theorem dX0_copy_78 : decode cX0_copy 78 = .ok (.istore 8, 2) := dk_54 8 (dk_at dksX0_copy_3 8 rfl rfl)
theorem dX0_copy_80 : decode cX0_copy 80 = .ok (.aload 7, 2) := dk_25 7 (dk_at dksX0_copy_3 10 rfl rfl)
theorem dX0_copy_82 : decode cX0_copy 82 = .ok (.aload 7, 2) := dk_25 7 (dk_at dksX0_copy_3 12 rfl rfl)
theorem dX0_copy_84 : decode cX0_copy 84 = .ok (.invokestatic 419, 3) := dk_184 1 163 (dk_at dksX0_copy_3 14 rfl rfl)
theorem dX0_copy_87 : decode cX0_copy 87 = .ok (.invokestatic 423, 3) := dk_184 1 167 (dk_at dksX0_copy_3 17 rfl rfl)
theorem dX0_copy_90 : decode cX0_copy 90 = .ok (.istore 9, 2) := dk_54 9 (dk_at dksX0_copy_3 20 rfl rfl)
theorem dX0_copy_92 : decode cX0_copy 92 = .ok (.iload 5, 2) := dk_21 5 (dk_at dksX0_copy_3 22 rfl rfl)
theorem dX0_copy_94 : decode cX0_copy 94 = .ok (.ifCond .lt 44, 3) := dk_155 0 44 (dk_at dksX0_copy_4 0 rfl rfl)
theorem dX0_copy_97 : decode cX0_copy 97 = .ok (.iload_n 2, 1) := dk_28 (dk_at dksX0_copy_4 3 rfl rfl)
theorem dX0_copy_98 : decode cX0_copy 98 = .ok (.ifCond .lt 40, 3) := dk_155 0 40 (dk_at dksX0_copy_4 4 rfl rfl)
theorem dX0_copy_101 : decode cX0_copy 101 = .ok (.iload 4, 2) := dk_21 4 (dk_at dksX0_copy_4 7 rfl rfl)
theorem dX0_copy_103 : decode cX0_copy 103 = .ok (.ifCond .lt 35, 3) := dk_155 0 35 (dk_at dksX0_copy_4 9 rfl rfl)
theorem dX0_copy_106 : decode cX0_copy 106 = .ok (.iload_n 2, 1) := dk_28 (dk_at dksX0_copy_4 12 rfl rfl)
theorem dX0_copy_107 : decode cX0_copy 107 = .ok (.iload 8, 2) := dk_21 8 (dk_at dksX0_copy_4 13 rfl rfl)
theorem dX0_copy_109 : decode cX0_copy 109 = .ok (.if_icmp .gt 29, 3) := dk_163 0 29 (dk_at dksX0_copy_4 15 rfl rfl)
theorem dX0_copy_112 : decode cX0_copy 112 = .ok (.iload 4, 2) := dk_21 4 (dk_at dksX0_copy_4 18 rfl rfl)
theorem dX0_copy_114 : decode cX0_copy 114 = .ok (.iload 9, 2) := dk_21 9 (dk_at dksX0_copy_4 20 rfl rfl)
theorem dX0_copy_116 : decode cX0_copy 116 = .ok (.if_icmp .gt 22, 3) := dk_163 0 22 (dk_at dksX0_copy_5 0 rfl rfl)
theorem dX0_copy_119 : decode cX0_copy 119 = .ok (.iload 5, 2) := dk_21 5 (dk_at dksX0_copy_5 3 rfl rfl)
theorem dX0_copy_121 : decode cX0_copy 121 = .ok (.iload 8, 2) := dk_21 8 (dk_at dksX0_copy_5 5 rfl rfl)
theorem dX0_copy_123 : decode cX0_copy 123 = .ok (.iload_n 2, 1) := dk_28 (dk_at dksX0_copy_5 7 rfl rfl)
theorem dX0_copy_124 : decode cX0_copy 124 = .ok (.isub, 1) := dk_100 (dk_at dksX0_copy_5 8 rfl rfl)
theorem dX0_copy_125 : decode cX0_copy 125 = .ok (.if_icmp .gt 13, 3) := dk_163 0 13 (dk_at dksX0_copy_5 9 rfl rfl)
theorem dX0_copy_128 : decode cX0_copy 128 = .ok (.iload 5, 2) := dk_21 5 (dk_at dksX0_copy_5 12 rfl rfl)
theorem dX0_copy_130 : decode cX0_copy 130 = .ok (.iload 9, 2) := dk_21 9 (dk_at dksX0_copy_5 14 rfl rfl)
theorem dX0_copy_132 : decode cX0_copy 132 = .ok (.iload 4, 2) := dk_21 4 (dk_at dksX0_copy_5 16 rfl rfl)
theorem dX0_copy_134 : decode cX0_copy 134 = .ok (.isub, 1) := dk_100 (dk_at dksX0_copy_5 18 rfl rfl)
theorem dX0_copy_135 : decode cX0_copy 135 = .ok (.if_icmp .le 6, 3) := dk_164 0 6 (dk_at dksX0_copy_5 19 rfl rfl)
theorem dX0_copy_138 : decode cX0_copy 138 = .ok (.bipush (-12), 2) := dk_16 244 (dk_at dksX0_copy_5 22 rfl rfl)
theorem dX0_copy_140 : decode cX0_copy 140 = .ok (.ireturn, 1) := dk_172 (dk_at dksX0_copy_6 0 rfl rfl)
theorem dX0_copy_141 : decode cX0_copy 141 = .ok (.aload 6, 2) := dk_25 6 (dk_at dksX0_copy_6 1 rfl rfl)
theorem dX0_copy_143 : decode cX0_copy 143 = .ok (.iload_n 2, 1) := dk_28 (dk_at dksX0_copy_6 3 rfl rfl)
theorem dX0_copy_144 : decode cX0_copy 144 = .ok (.aload 7, 2) := dk_25 7 (dk_at dksX0_copy_6 4 rfl rfl)
theorem dX0_copy_146 : decode cX0_copy 146 = .ok (.iload 4, 2) := dk_21 4 (dk_at dksX0_copy_6 6 rfl rfl)
theorem dX0_copy_148 : decode cX0_copy 148 = .ok (.iload 5, 2) := dk_21 5 (dk_at dksX0_copy_6 8 rfl rfl)
theorem dX0_copy_150 : decode cX0_copy 150 = .ok (.invokestatic 481, 3) := dk_184 1 225 (dk_at dksX0_copy_6 10 rfl rfl)
theorem dX0_copy_153 : decode cX0_copy 153 = .ok (.iload 5, 2) := dk_21 5 (dk_at dksX0_copy_6 13 rfl rfl)
theorem dX0_copy_155 : decode cX0_copy 155 = .ok (.ireturn, 1) := dk_172 (dk_at dksX0_copy_6 15 rfl rfl)
def dkwX0_plants_2 : List UInt8 := [21, 4, 182, 2, 5, 172, 58, 5, 16, 243, 172, 58, 5, 16, 245, 172, 58, 5, 16, 244, 172]
abbrev dktX0_plants_2 : List UInt8 := dkwX0_plants_2 ++ []
def dkwX0_plants_1 : List UInt8 := [20, 1, 134, 184, 0, 14, 154, 0, 6, 16, 254, 172, 42, 42, 180, 1, 66, 27, 50, 180, 1, 195, 28, 29]
abbrev dktX0_plants_1 : List UInt8 := dkwX0_plants_1 ++ dktX0_plants_2
def dkwX0_plants_0 : List UInt8 := [27, 184, 1, 190, 153, 0, 28, 28, 133, 9, 20, 1, 235, 184, 0, 14, 153, 0, 16, 21, 4, 133, 9]
abbrev dktX0_plants_0 : List UInt8 := dkwX0_plants_0 ++ dktX0_plants_1
theorem dksX0_plants_0 : cX0_plants.data.toList.drop 0 = dktX0_plants_0 := by decide +kernel
theorem dksX0_plants_1 : cX0_plants.data.toList.drop 23 = dktX0_plants_1 := dk_seg dksX0_plants_0 23 rfl rfl
theorem dksX0_plants_2 : cX0_plants.data.toList.drop 47 = dktX0_plants_2 := dk_seg dksX0_plants_1 24 rfl rfl
theorem dX0_plants_0 : decode cX0_plants 0 = .ok (.iload_n 1, 1) := dk_27 (dk_at dksX0_plants_0 0 rfl rfl)
theorem dX0_plants_1 : decode cX0_plants 1 = .ok (.invokestatic 446, 3) := dk_184 1 190 (dk_at dksX0_plants_0 1 rfl rfl)
theorem dX0_plants_4 : decode cX0_plants 4 = .ok (.ifCond .eq 28, 3) := dk_153 0 28 (dk_at dksX0_plants_0 4 rfl rfl)
theorem dX0_plants_7 : decode cX0_plants 7 = .ok (.iload_n 2, 1) := dk_28 (dk_at dksX0_plants_0 7 rfl rfl)
theorem dX0_plants_8 : decode cX0_plants 8 = .ok (.i2l, 1) := dk_133 (dk_at dksX0_plants_0 8 rfl rfl)
theorem dX0_plants_9 : decode cX0_plants 9 = .ok (.lconst 0, 1) := dk_9 (dk_at dksX0_plants_0 9 rfl rfl)
theorem dX0_plants_10 : decode cX0_plants 10 = .ok (.ldc2_w 491, 3) := dk_20 1 235 (dk_at dksX0_plants_0 10 rfl rfl)
theorem dX0_plants_13 : decode cX0_plants 13 = .ok (.invokestatic 14, 3) := dk_184 0 14 (dk_at dksX0_plants_0 13 rfl rfl)
theorem dX0_plants_16 : decode cX0_plants 16 = .ok (.ifCond .eq 16, 3) := dk_153 0 16 (dk_at dksX0_plants_0 16 rfl rfl)
theorem dX0_plants_19 : decode cX0_plants 19 = .ok (.iload 4, 2) := dk_21 4 (dk_at dksX0_plants_0 19 rfl rfl)
theorem dX0_plants_21 : decode cX0_plants 21 = .ok (.i2l, 1) := dk_133 (dk_at dksX0_plants_0 21 rfl rfl)
theorem dX0_plants_22 : decode cX0_plants 22 = .ok (.lconst 0, 1) := dk_9 (dk_at dksX0_plants_0 22 rfl rfl)
theorem dX0_plants_23 : decode cX0_plants 23 = .ok (.ldc2_w 390, 3) := dk_20 1 134 (dk_at dksX0_plants_1 0 rfl rfl)
theorem dX0_plants_26 : decode cX0_plants 26 = .ok (.invokestatic 14, 3) := dk_184 0 14 (dk_at dksX0_plants_1 3 rfl rfl)
theorem dX0_plants_29 : decode cX0_plants 29 = .ok (.ifCond .ne 6, 3) := dk_154 0 6 (dk_at dksX0_plants_1 6 rfl rfl)
theorem dX0_plants_32 : decode cX0_plants 32 = .ok (.bipush (-2), 2) := dk_16 254 (dk_at dksX0_plants_1 9 rfl rfl)
theorem dX0_plants_34 : decode cX0_plants 34 = .ok (.ireturn, 1) := dk_172 (dk_at dksX0_plants_1 11 rfl rfl)
theorem dX0_plants_35 : decode cX0_plants 35 = .ok (.aload_n 0, 1) := dk_42 (dk_at dksX0_plants_1 12 rfl rfl)
theorem dX0_plants_36 : decode cX0_plants 36 = .ok (.aload_n 0, 1) := dk_42 (dk_at dksX0_plants_1 13 rfl rfl)
theorem dX0_plants_37 : decode cX0_plants 37 = .ok (.getfield 322, 3) := dk_180 1 66 (dk_at dksX0_plants_1 14 rfl rfl)
theorem dX0_plants_40 : decode cX0_plants 40 = .ok (.iload_n 1, 1) := dk_27 (dk_at dksX0_plants_1 17 rfl rfl)
theorem dX0_plants_41 : decode cX0_plants 41 = .ok (.aaload, 1) := dk_50 (dk_at dksX0_plants_1 18 rfl rfl)
theorem dX0_plants_42 : decode cX0_plants 42 = .ok (.getfield 451, 3) := dk_180 1 195 (dk_at dksX0_plants_1 19 rfl rfl)
theorem dX0_plants_45 : decode cX0_plants 45 = .ok (.iload_n 2, 1) := dk_28 (dk_at dksX0_plants_1 22 rfl rfl)
theorem dX0_plants_46 : decode cX0_plants 46 = .ok (.iload_n 3, 1) := dk_29 (dk_at dksX0_plants_1 23 rfl rfl)
theorem dX0_plants_47 : decode cX0_plants 47 = .ok (.iload 4, 2) := dk_21 4 (dk_at dksX0_plants_2 0 rfl rfl)
theorem dX0_plants_49 : decode cX0_plants 49 = .ok (.invokevirtual 517, 3) := dk_182 2 5 (dk_at dksX0_plants_2 2 rfl rfl)
theorem dX0_plants_52 : decode cX0_plants 52 = .ok (.ireturn, 1) := dk_172 (dk_at dksX0_plants_2 5 rfl rfl)
theorem dX0_plants_53 : decode cX0_plants 53 = .ok (.astore 5, 2) := dk_58 5 (dk_at dksX0_plants_2 6 rfl rfl)
theorem dX0_plants_55 : decode cX0_plants 55 = .ok (.bipush (-13), 2) := dk_16 243 (dk_at dksX0_plants_2 8 rfl rfl)
theorem dX0_plants_57 : decode cX0_plants 57 = .ok (.ireturn, 1) := dk_172 (dk_at dksX0_plants_2 10 rfl rfl)
theorem dX0_plants_58 : decode cX0_plants 58 = .ok (.astore 5, 2) := dk_58 5 (dk_at dksX0_plants_2 11 rfl rfl)
theorem dX0_plants_60 : decode cX0_plants 60 = .ok (.bipush (-11), 2) := dk_16 245 (dk_at dksX0_plants_2 13 rfl rfl)
theorem dX0_plants_62 : decode cX0_plants 62 = .ok (.ireturn, 1) := dk_172 (dk_at dksX0_plants_2 15 rfl rfl)
theorem dX0_plants_63 : decode cX0_plants 63 = .ok (.astore 5, 2) := dk_58 5 (dk_at dksX0_plants_2 16 rfl rfl)
theorem dX0_plants_65 : decode cX0_plants 65 = .ok (.bipush (-12), 2) := dk_16 244 (dk_at dksX0_plants_2 18 rfl rfl)
theorem dX0_plants_67 : decode cX0_plants 67 = .ok (.ireturn, 1) := dk_172 (dk_at dksX0_plants_2 20 rfl rfl)
def dkwX0_came_3 : List UInt8 := [155, 0, 7, 4, 167, 0, 4, 3, 96, 54, 6, 132, 7, 1, 167, 255, 184, 21, 6, 172]
abbrev dktX0_came_3 : List UInt8 := dkwX0_came_3 ++ []
def dkwX0_came_2 : List UInt8 := [21, 6, 42, 21, 8, 21, 9, 43, 28, 29, 6, 21, 7, 104, 96, 5, 96, 184, 1, 171, 182, 2, 2]
abbrev dktX0_came_2 : List UInt8 := dkwX0_came_2 ++ dktX0_came_3
def dkwX0_came_1 : List UInt8 := [21, 7, 104, 96, 184, 1, 171, 54, 8, 43, 28, 29, 6, 21, 7, 104, 96, 4, 96, 184, 1, 171, 54, 9]
abbrev dktX0_came_1 : List UInt8 := dkwX0_came_1 ++ dktX0_came_2
def dkwX0_came_0 : List UInt8 := [43, 28, 184, 1, 167, 54, 5, 3, 54, 6, 3, 54, 7, 21, 7, 21, 4, 162, 0, 71, 43, 28, 29, 6]
abbrev dktX0_came_0 : List UInt8 := dkwX0_came_0 ++ dktX0_came_1
theorem dksX0_came_0 : cX0_came.data.toList.drop 0 = dktX0_came_0 := by decide +kernel
theorem dksX0_came_1 : cX0_came.data.toList.drop 24 = dktX0_came_1 := dk_seg dksX0_came_0 24 rfl rfl
theorem dksX0_came_2 : cX0_came.data.toList.drop 48 = dktX0_came_2 := dk_seg dksX0_came_1 24 rfl rfl
theorem dksX0_came_3 : cX0_came.data.toList.drop 71 = dktX0_came_3 := dk_seg dksX0_came_2 23 rfl rfl
theorem dX0_came_0 : decode cX0_came 0 = .ok (.aload_n 1, 1) := dk_43 (dk_at dksX0_came_0 0 rfl rfl)
theorem dX0_came_1 : decode cX0_came 1 = .ok (.iload_n 2, 1) := dk_28 (dk_at dksX0_came_0 1 rfl rfl)
theorem dX0_came_2 : decode cX0_came 2 = .ok (.invokestatic 423, 3) := dk_184 1 167 (dk_at dksX0_came_0 2 rfl rfl)
theorem dX0_came_5 : decode cX0_came 5 = .ok (.istore 5, 2) := dk_54 5 (dk_at dksX0_came_0 5 rfl rfl)
theorem dX0_came_7 : decode cX0_came 7 = .ok (.iconst 0, 1) := dk_3 (dk_at dksX0_came_0 7 rfl rfl)
theorem dX0_came_8 : decode cX0_came 8 = .ok (.istore 6, 2) := dk_54 6 (dk_at dksX0_came_0 8 rfl rfl)
theorem dX0_came_10 : decode cX0_came 10 = .ok (.iconst 0, 1) := dk_3 (dk_at dksX0_came_0 10 rfl rfl)
theorem dX0_came_11 : decode cX0_came 11 = .ok (.istore 7, 2) := dk_54 7 (dk_at dksX0_came_0 11 rfl rfl)
theorem dX0_came_13 : decode cX0_came 13 = .ok (.iload 7, 2) := dk_21 7 (dk_at dksX0_came_0 13 rfl rfl)
theorem dX0_came_15 : decode cX0_came 15 = .ok (.iload 4, 2) := dk_21 4 (dk_at dksX0_came_0 15 rfl rfl)
theorem dX0_came_17 : decode cX0_came 17 = .ok (.if_icmp .ge 71, 3) := dk_162 0 71 (dk_at dksX0_came_0 17 rfl rfl)
theorem dX0_came_20 : decode cX0_came 20 = .ok (.aload_n 1, 1) := dk_43 (dk_at dksX0_came_0 20 rfl rfl)
theorem dX0_came_21 : decode cX0_came 21 = .ok (.iload_n 2, 1) := dk_28 (dk_at dksX0_came_0 21 rfl rfl)
theorem dX0_came_22 : decode cX0_came 22 = .ok (.iload_n 3, 1) := dk_29 (dk_at dksX0_came_0 22 rfl rfl)
theorem dX0_came_23 : decode cX0_came 23 = .ok (.iconst 3, 1) := dk_6 (dk_at dksX0_came_0 23 rfl rfl)
theorem dX0_came_24 : decode cX0_came 24 = .ok (.iload 7, 2) := dk_21 7 (dk_at dksX0_came_1 0 rfl rfl)
theorem dX0_came_26 : decode cX0_came 26 = .ok (.imul, 1) := dk_104 (dk_at dksX0_came_1 2 rfl rfl)
theorem dX0_came_27 : decode cX0_came 27 = .ok (.iadd, 1) := dk_96 (dk_at dksX0_came_1 3 rfl rfl)
theorem dX0_came_28 : decode cX0_came 28 = .ok (.invokestatic 427, 3) := dk_184 1 171 (dk_at dksX0_came_1 4 rfl rfl)
theorem dX0_came_31 : decode cX0_came 31 = .ok (.istore 8, 2) := dk_54 8 (dk_at dksX0_came_1 7 rfl rfl)
theorem dX0_came_33 : decode cX0_came 33 = .ok (.aload_n 1, 1) := dk_43 (dk_at dksX0_came_1 9 rfl rfl)
theorem dX0_came_34 : decode cX0_came 34 = .ok (.iload_n 2, 1) := dk_28 (dk_at dksX0_came_1 10 rfl rfl)
theorem dX0_came_35 : decode cX0_came 35 = .ok (.iload_n 3, 1) := dk_29 (dk_at dksX0_came_1 11 rfl rfl)
theorem dX0_came_36 : decode cX0_came 36 = .ok (.iconst 3, 1) := dk_6 (dk_at dksX0_came_1 12 rfl rfl)
theorem dX0_came_37 : decode cX0_came 37 = .ok (.iload 7, 2) := dk_21 7 (dk_at dksX0_came_1 13 rfl rfl)
theorem dX0_came_39 : decode cX0_came 39 = .ok (.imul, 1) := dk_104 (dk_at dksX0_came_1 15 rfl rfl)
theorem dX0_came_40 : decode cX0_came 40 = .ok (.iadd, 1) := dk_96 (dk_at dksX0_came_1 16 rfl rfl)
theorem dX0_came_41 : decode cX0_came 41 = .ok (.iconst 1, 1) := dk_4 (dk_at dksX0_came_1 17 rfl rfl)
theorem dX0_came_42 : decode cX0_came 42 = .ok (.iadd, 1) := dk_96 (dk_at dksX0_came_1 18 rfl rfl)
theorem dX0_came_43 : decode cX0_came 43 = .ok (.invokestatic 427, 3) := dk_184 1 171 (dk_at dksX0_came_1 19 rfl rfl)
theorem dX0_came_46 : decode cX0_came 46 = .ok (.istore 9, 2) := dk_54 9 (dk_at dksX0_came_1 22 rfl rfl)
theorem dX0_came_48 : decode cX0_came 48 = .ok (.iload 6, 2) := dk_21 6 (dk_at dksX0_came_2 0 rfl rfl)
theorem dX0_came_50 : decode cX0_came 50 = .ok (.aload_n 0, 1) := dk_42 (dk_at dksX0_came_2 2 rfl rfl)
theorem dX0_came_51 : decode cX0_came 51 = .ok (.iload 8, 2) := dk_21 8 (dk_at dksX0_came_2 3 rfl rfl)
theorem dX0_came_53 : decode cX0_came 53 = .ok (.iload 9, 2) := dk_21 9 (dk_at dksX0_came_2 5 rfl rfl)
theorem dX0_came_55 : decode cX0_came 55 = .ok (.aload_n 1, 1) := dk_43 (dk_at dksX0_came_2 7 rfl rfl)
theorem dX0_came_56 : decode cX0_came 56 = .ok (.iload_n 2, 1) := dk_28 (dk_at dksX0_came_2 8 rfl rfl)
theorem dX0_came_57 : decode cX0_came 57 = .ok (.iload_n 3, 1) := dk_29 (dk_at dksX0_came_2 9 rfl rfl)
theorem dX0_came_58 : decode cX0_came 58 = .ok (.iconst 3, 1) := dk_6 (dk_at dksX0_came_2 10 rfl rfl)
theorem dX0_came_59 : decode cX0_came 59 = .ok (.iload 7, 2) := dk_21 7 (dk_at dksX0_came_2 11 rfl rfl)
theorem dX0_came_61 : decode cX0_came 61 = .ok (.imul, 1) := dk_104 (dk_at dksX0_came_2 13 rfl rfl)
theorem dX0_came_62 : decode cX0_came 62 = .ok (.iadd, 1) := dk_96 (dk_at dksX0_came_2 14 rfl rfl)
theorem dX0_came_63 : decode cX0_came 63 = .ok (.iconst 2, 1) := dk_5 (dk_at dksX0_came_2 15 rfl rfl)
theorem dX0_came_64 : decode cX0_came 64 = .ok (.iadd, 1) := dk_96 (dk_at dksX0_came_2 16 rfl rfl)
theorem dX0_came_65 : decode cX0_came 65 = .ok (.invokestatic 427, 3) := dk_184 1 171 (dk_at dksX0_came_2 17 rfl rfl)
theorem dX0_came_68 : decode cX0_came 68 = .ok (.invokevirtual 514, 3) := dk_182 2 2 (dk_at dksX0_came_2 20 rfl rfl)
theorem dX0_came_71 : decode cX0_came 71 = .ok (.ifCond .lt 7, 3) := dk_155 0 7 (dk_at dksX0_came_3 0 rfl rfl)
theorem dX0_came_74 : decode cX0_came 74 = .ok (.iconst 1, 1) := dk_4 (dk_at dksX0_came_3 3 rfl rfl)
theorem dX0_came_75 : decode cX0_came 75 = .ok (.goto 4, 3) := dk_167 0 4 (dk_at dksX0_came_3 4 rfl rfl)
theorem dX0_came_78 : decode cX0_came 78 = .ok (.iconst 0, 1) := dk_3 (dk_at dksX0_came_3 7 rfl rfl)
theorem dX0_came_79 : decode cX0_came 79 = .ok (.iadd, 1) := dk_96 (dk_at dksX0_came_3 8 rfl rfl)
theorem dX0_came_80 : decode cX0_came 80 = .ok (.istore 6, 2) := dk_54 6 (dk_at dksX0_came_3 9 rfl rfl)
theorem dX0_came_82 : decode cX0_came 82 = .ok (.iinc 7 1, 3) := dk_132 7 1 (dk_at dksX0_came_3 11 rfl rfl)
theorem dX0_came_85 : decode cX0_came 85 = .ok (.goto (-72), 3) := dk_167 255 184 (dk_at dksX0_came_3 14 rfl rfl)
theorem dX0_came_88 : decode cX0_came 88 = .ok (.iload 6, 2) := dk_21 6 (dk_at dksX0_came_3 17 rfl rfl)
theorem dX0_came_90 : decode cX0_came 90 = .ok (.ireturn, 1) := dk_172 (dk_at dksX0_came_3 19 rfl rfl)
def dkwX0_taken_2 : List UInt8 := [172]
abbrev dktX0_taken_2 : List UInt8 := dkwX0_taken_2 ++ []
def dkwX0_taken_1 : List UInt8 := [180, 0, 51, 27, 50, 167, 0, 4, 1, 28, 184, 2, 10, 180, 0, 76, 172, 78, 16, 245, 172, 78, 16, 243]
abbrev dktX0_taken_1 : List UInt8 := dkwX0_taken_1 ++ dktX0_taken_2
def dkwX0_taken_0 : List UInt8 := [28, 133, 9, 20, 0, 43, 184, 0, 14, 154, 0, 6, 16, 254, 172, 42, 27, 182, 0, 61, 153, 0, 12, 42]
abbrev dktX0_taken_0 : List UInt8 := dkwX0_taken_0 ++ dktX0_taken_1
theorem dksX0_taken_0 : cX0_taken.data.toList.drop 0 = dktX0_taken_0 := by decide +kernel
theorem dksX0_taken_1 : cX0_taken.data.toList.drop 24 = dktX0_taken_1 := dk_seg dksX0_taken_0 24 rfl rfl
theorem dksX0_taken_2 : cX0_taken.data.toList.drop 48 = dktX0_taken_2 := dk_seg dksX0_taken_1 24 rfl rfl
theorem dX0_taken_0 : decode cX0_taken 0 = .ok (.iload_n 2, 1) := dk_28 (dk_at dksX0_taken_0 0 rfl rfl)
theorem dX0_taken_1 : decode cX0_taken 1 = .ok (.i2l, 1) := dk_133 (dk_at dksX0_taken_0 1 rfl rfl)
theorem dX0_taken_2 : decode cX0_taken 2 = .ok (.lconst 0, 1) := dk_9 (dk_at dksX0_taken_0 2 rfl rfl)
theorem dX0_taken_3 : decode cX0_taken 3 = .ok (.ldc2_w 43, 3) := dk_20 0 43 (dk_at dksX0_taken_0 3 rfl rfl)
theorem dX0_taken_6 : decode cX0_taken 6 = .ok (.invokestatic 14, 3) := dk_184 0 14 (dk_at dksX0_taken_0 6 rfl rfl)
theorem dX0_taken_9 : decode cX0_taken 9 = .ok (.ifCond .ne 6, 3) := dk_154 0 6 (dk_at dksX0_taken_0 9 rfl rfl)
theorem dX0_taken_12 : decode cX0_taken 12 = .ok (.bipush (-2), 2) := dk_16 254 (dk_at dksX0_taken_0 12 rfl rfl)
theorem dX0_taken_14 : decode cX0_taken 14 = .ok (.ireturn, 1) := dk_172 (dk_at dksX0_taken_0 14 rfl rfl)
theorem dX0_taken_15 : decode cX0_taken 15 = .ok (.aload_n 0, 1) := dk_42 (dk_at dksX0_taken_0 15 rfl rfl)
theorem dX0_taken_16 : decode cX0_taken 16 = .ok (.iload_n 1, 1) := dk_27 (dk_at dksX0_taken_0 16 rfl rfl)
theorem dX0_taken_17 : decode cX0_taken 17 = .ok (.invokevirtual 61, 3) := dk_182 0 61 (dk_at dksX0_taken_0 17 rfl rfl)
theorem dX0_taken_20 : decode cX0_taken 20 = .ok (.ifCond .eq 12, 3) := dk_153 0 12 (dk_at dksX0_taken_0 20 rfl rfl)
theorem dX0_taken_23 : decode cX0_taken 23 = .ok (.aload_n 0, 1) := dk_42 (dk_at dksX0_taken_0 23 rfl rfl)
theorem dX0_taken_24 : decode cX0_taken 24 = .ok (.getfield 51, 3) := dk_180 0 51 (dk_at dksX0_taken_1 0 rfl rfl)
theorem dX0_taken_27 : decode cX0_taken 27 = .ok (.iload_n 1, 1) := dk_27 (dk_at dksX0_taken_1 3 rfl rfl)
theorem dX0_taken_28 : decode cX0_taken 28 = .ok (.aaload, 1) := dk_50 (dk_at dksX0_taken_1 4 rfl rfl)
theorem dX0_taken_29 : decode cX0_taken 29 = .ok (.goto 4, 3) := dk_167 0 4 (dk_at dksX0_taken_1 5 rfl rfl)
theorem dX0_taken_32 : decode cX0_taken 32 = .ok (.aconst_null, 1) := dk_1 (dk_at dksX0_taken_1 8 rfl rfl)
theorem dX0_taken_33 : decode cX0_taken 33 = .ok (.iload_n 2, 1) := dk_28 (dk_at dksX0_taken_1 9 rfl rfl)
theorem dX0_taken_34 : decode cX0_taken 34 = .ok (.invokestatic 522, 3) := dk_184 2 10 (dk_at dksX0_taken_1 10 rfl rfl)
theorem dX0_taken_37 : decode cX0_taken 37 = .ok (.getfield 76, 3) := dk_180 0 76 (dk_at dksX0_taken_1 13 rfl rfl)
theorem dX0_taken_40 : decode cX0_taken 40 = .ok (.ireturn, 1) := dk_172 (dk_at dksX0_taken_1 16 rfl rfl)
theorem dX0_taken_41 : decode cX0_taken 41 = .ok (.astore_n 3, 1) := dk_78 (dk_at dksX0_taken_1 17 rfl rfl)
theorem dX0_taken_42 : decode cX0_taken 42 = .ok (.bipush (-11), 2) := dk_16 245 (dk_at dksX0_taken_1 18 rfl rfl)
theorem dX0_taken_44 : decode cX0_taken 44 = .ok (.ireturn, 1) := dk_172 (dk_at dksX0_taken_1 20 rfl rfl)
theorem dX0_taken_45 : decode cX0_taken 45 = .ok (.astore_n 3, 1) := dk_78 (dk_at dksX0_taken_1 21 rfl rfl)
theorem dX0_taken_46 : decode cX0_taken 46 = .ok (.bipush (-13), 2) := dk_16 243 (dk_at dksX0_taken_1 22 rfl rfl)
theorem dX0_taken_48 : decode cX0_taken 48 = .ok (.ireturn, 1) := dk_172 (dk_at dksX0_taken_2 0 rfl rfl)
def dkwX0_as_3 : List UInt8 := [176, 42, 176]
abbrev dktX0_as_3 : List UInt8 := dkwX0_as_3 ++ []
def dkwX0_as_2 : List UInt8 := [42, 192, 0, 22, 176, 42, 192, 0, 28, 176, 42, 192, 0, 31, 176, 42, 192, 0, 34, 176, 42, 192, 0, 37]
abbrev dktX0_as_2 : List UInt8 := dkwX0_as_2 ++ dktX0_as_3
def dkwX0_as_1 : List UInt8 := [170, 0, 0, 0, 0, 0, 60, 0, 0, 0, 1, 0, 0, 0, 5, 0, 0, 0, 35, 0, 0, 0, 40, 0, 0, 0, 45, 0, 0, 0, 50, 0, 0, 0, 55]
abbrev dktX0_as_1 : List UInt8 := dkwX0_as_1 ++ dktX0_as_2
def dkwX0_as_0 : List UInt8 := [27]
abbrev dktX0_as_0 : List UInt8 := dkwX0_as_0 ++ dktX0_as_1
theorem dksX0_as_0 : cX0_as.data.toList.drop 0 = dktX0_as_0 := by decide +kernel
theorem dksX0_as_1 : cX0_as.data.toList.drop 1 = dktX0_as_1 := dk_seg dksX0_as_0 1 rfl rfl
theorem dksX0_as_2 : cX0_as.data.toList.drop 36 = dktX0_as_2 := dk_seg dksX0_as_1 35 rfl rfl
theorem dksX0_as_3 : cX0_as.data.toList.drop 60 = dktX0_as_3 := dk_seg dksX0_as_2 24 rfl rfl
theorem dX0_as_0 : decode cX0_as 0 = .ok (.iload_n 1, 1) := dk_27 (dk_at dksX0_as_0 0 rfl rfl)
theorem dX0_as_1 : decode cX0_as 1 = .ok (.tableswitch 60 1 5 #[35, 40, 45, 50, 55], 35) := by decide +kernel
theorem dX0_as_36 : decode cX0_as 36 = .ok (.aload_n 0, 1) := dk_42 (dk_at dksX0_as_2 0 rfl rfl)
theorem dX0_as_37 : decode cX0_as 37 = .ok (.checkcast 22, 3) := dk_192 0 22 (dk_at dksX0_as_2 1 rfl rfl)
theorem dX0_as_40 : decode cX0_as 40 = .ok (.areturn, 1) := dk_176 (dk_at dksX0_as_2 4 rfl rfl)
theorem dX0_as_41 : decode cX0_as 41 = .ok (.aload_n 0, 1) := dk_42 (dk_at dksX0_as_2 5 rfl rfl)
theorem dX0_as_42 : decode cX0_as 42 = .ok (.checkcast 28, 3) := dk_192 0 28 (dk_at dksX0_as_2 6 rfl rfl)
theorem dX0_as_45 : decode cX0_as 45 = .ok (.areturn, 1) := dk_176 (dk_at dksX0_as_2 9 rfl rfl)
theorem dX0_as_46 : decode cX0_as 46 = .ok (.aload_n 0, 1) := dk_42 (dk_at dksX0_as_2 10 rfl rfl)
theorem dX0_as_47 : decode cX0_as 47 = .ok (.checkcast 31, 3) := dk_192 0 31 (dk_at dksX0_as_2 11 rfl rfl)
theorem dX0_as_50 : decode cX0_as 50 = .ok (.areturn, 1) := dk_176 (dk_at dksX0_as_2 14 rfl rfl)
theorem dX0_as_51 : decode cX0_as 51 = .ok (.aload_n 0, 1) := dk_42 (dk_at dksX0_as_2 15 rfl rfl)
theorem dX0_as_52 : decode cX0_as 52 = .ok (.checkcast 34, 3) := dk_192 0 34 (dk_at dksX0_as_2 16 rfl rfl)
theorem dX0_as_55 : decode cX0_as 55 = .ok (.areturn, 1) := dk_176 (dk_at dksX0_as_2 19 rfl rfl)
theorem dX0_as_56 : decode cX0_as 56 = .ok (.aload_n 0, 1) := dk_42 (dk_at dksX0_as_2 20 rfl rfl)
theorem dX0_as_57 : decode cX0_as 57 = .ok (.checkcast 37, 3) := dk_192 0 37 (dk_at dksX0_as_2 21 rfl rfl)
theorem dX0_as_60 : decode cX0_as 60 = .ok (.areturn, 1) := dk_176 (dk_at dksX0_as_3 0 rfl rfl)
theorem dX0_as_61 : decode cX0_as 61 = .ok (.aload_n 0, 1) := dk_42 (dk_at dksX0_as_3 1 rfl rfl)
theorem dX0_as_62 : decode cX0_as 62 = .ok (.areturn, 1) := dk_176 (dk_at dksX0_as_3 2 rfl rfl)
def dkwX1_init_0 : List UInt8 := [42, 1, 1, 3, 3, 183, 0, 1, 177]
abbrev dktX1_init_0 : List UInt8 := dkwX1_init_0 ++ []
theorem dksX1_init_0 : cX1_init.data.toList.drop 0 = dktX1_init_0 := by decide +kernel
theorem dX1_init_0 : decode cX1_init 0 = .ok (.aload_n 0, 1) := dk_42 (dk_at dksX1_init_0 0 rfl rfl)
theorem dX1_init_1 : decode cX1_init 1 = .ok (.aconst_null, 1) := dk_1 (dk_at dksX1_init_0 1 rfl rfl)
theorem dX1_init_2 : decode cX1_init 2 = .ok (.aconst_null, 1) := dk_1 (dk_at dksX1_init_0 2 rfl rfl)
theorem dX1_init_3 : decode cX1_init 3 = .ok (.iconst 0, 1) := dk_3 (dk_at dksX1_init_0 3 rfl rfl)
theorem dX1_init_4 : decode cX1_init 4 = .ok (.iconst 0, 1) := dk_3 (dk_at dksX1_init_0 4 rfl rfl)
theorem dX1_init_5 : decode cX1_init 5 = .ok (.invokespecial 1, 3) := dk_183 0 1 (dk_at dksX1_init_0 5 rfl rfl)
theorem dX1_init_8 : decode cX1_init 8 = .ok (.return_, 1) := dk_177 (dk_at dksX1_init_0 8 rfl rfl)
theorem dX2_init_0 : decode cX2_init 0 = .ok (.aload_n 0, 1) := by decide +kernel
theorem dX2_init_1 : decode cX2_init 1 = .ok (.invokespecial 1, 3) := by decide +kernel
theorem dX2_init_4 : decode cX2_init 4 = .ok (.return_, 1) := by decide +kernel
theorem dX3_init_0 : decode cX3_init 0 = .ok (.aload_n 0, 1) := by decide +kernel
theorem dX3_init_1 : decode cX3_init 1 = .ok (.invokespecial 1, 3) := by decide +kernel
theorem dX3_init_4 : decode cX3_init 4 = .ok (.return_, 1) := by decide +kernel
def dkwX4_worth_1 : List UInt8 := [4, 167, 0, 4, 3, 172]
abbrev dktX4_worth_1 : List UInt8 := dkwX4_worth_1 ++ []
def dkwX4_worth_0 : List UInt8 := [42, 180, 0, 7, 182, 0, 17, 60, 42, 180, 0, 13, 153, 0, 8, 27, 116, 167, 0, 12, 27, 154, 0, 7]
abbrev dktX4_worth_0 : List UInt8 := dkwX4_worth_0 ++ dktX4_worth_1
theorem dksX4_worth_0 : cX4_worth.data.toList.drop 0 = dktX4_worth_0 := by decide +kernel
theorem dksX4_worth_1 : cX4_worth.data.toList.drop 24 = dktX4_worth_1 := dk_seg dksX4_worth_0 24 rfl rfl
theorem dX4_worth_0 : decode cX4_worth 0 = .ok (.aload_n 0, 1) := dk_42 (dk_at dksX4_worth_0 0 rfl rfl)
theorem dX4_worth_1 : decode cX4_worth 1 = .ok (.getfield 7, 3) := dk_180 0 7 (dk_at dksX4_worth_0 1 rfl rfl)
theorem dX4_worth_4 : decode cX4_worth 4 = .ok (.invokevirtual 17, 3) := dk_182 0 17 (dk_at dksX4_worth_0 4 rfl rfl)
theorem dX4_worth_7 : decode cX4_worth 7 = .ok (.istore_n 1, 1) := dk_60 (dk_at dksX4_worth_0 7 rfl rfl)
theorem dX4_worth_8 : decode cX4_worth 8 = .ok (.aload_n 0, 1) := dk_42 (dk_at dksX4_worth_0 8 rfl rfl)
theorem dX4_worth_9 : decode cX4_worth 9 = .ok (.getfield 13, 3) := dk_180 0 13 (dk_at dksX4_worth_0 9 rfl rfl)
theorem dX4_worth_12 : decode cX4_worth 12 = .ok (.ifCond .eq 8, 3) := dk_153 0 8 (dk_at dksX4_worth_0 12 rfl rfl)
theorem dX4_worth_15 : decode cX4_worth 15 = .ok (.iload_n 1, 1) := dk_27 (dk_at dksX4_worth_0 15 rfl rfl)
theorem dX4_worth_16 : decode cX4_worth 16 = .ok (.ineg, 1) := dk_116 (dk_at dksX4_worth_0 16 rfl rfl)
theorem dX4_worth_17 : decode cX4_worth 17 = .ok (.goto 12, 3) := dk_167 0 12 (dk_at dksX4_worth_0 17 rfl rfl)
theorem dX4_worth_20 : decode cX4_worth 20 = .ok (.iload_n 1, 1) := dk_27 (dk_at dksX4_worth_0 20 rfl rfl)
theorem dX4_worth_21 : decode cX4_worth 21 = .ok (.ifCond .ne 7, 3) := dk_154 0 7 (dk_at dksX4_worth_0 21 rfl rfl)
theorem dX4_worth_24 : decode cX4_worth 24 = .ok (.iconst 1, 1) := dk_4 (dk_at dksX4_worth_1 0 rfl rfl)
theorem dX4_worth_25 : decode cX4_worth 25 = .ok (.goto 4, 3) := dk_167 0 4 (dk_at dksX4_worth_1 1 rfl rfl)
theorem dX4_worth_28 : decode cX4_worth 28 = .ok (.iconst 0, 1) := dk_3 (dk_at dksX4_worth_1 4 rfl rfl)
theorem dX4_worth_29 : decode cX4_worth 29 = .ok (.ireturn, 1) := dk_172 (dk_at dksX4_worth_1 5 rfl rfl)
def dkwX4_init_0 : List UInt8 := [42, 183, 0, 1, 42, 43, 181, 0, 7, 42, 28, 181, 0, 13, 177]
abbrev dktX4_init_0 : List UInt8 := dkwX4_init_0 ++ []
theorem dksX4_init_0 : cX4_init.data.toList.drop 0 = dktX4_init_0 := by decide +kernel
theorem dX4_init_0 : decode cX4_init 0 = .ok (.aload_n 0, 1) := dk_42 (dk_at dksX4_init_0 0 rfl rfl)
theorem dX4_init_1 : decode cX4_init 1 = .ok (.invokespecial 1, 3) := dk_183 0 1 (dk_at dksX4_init_0 1 rfl rfl)
theorem dX4_init_4 : decode cX4_init 4 = .ok (.aload_n 0, 1) := dk_42 (dk_at dksX4_init_0 4 rfl rfl)
theorem dX4_init_5 : decode cX4_init 5 = .ok (.aload_n 1, 1) := dk_43 (dk_at dksX4_init_0 5 rfl rfl)
theorem dX4_init_6 : decode cX4_init 6 = .ok (.putfield 7, 3) := dk_181 0 7 (dk_at dksX4_init_0 6 rfl rfl)
theorem dX4_init_9 : decode cX4_init 9 = .ok (.aload_n 0, 1) := dk_42 (dk_at dksX4_init_0 9 rfl rfl)
theorem dX4_init_10 : decode cX4_init 10 = .ok (.iload_n 2, 1) := dk_28 (dk_at dksX4_init_0 10 rfl rfl)
theorem dX4_init_11 : decode cX4_init 11 = .ok (.putfield 13, 3) := dk_181 0 13 (dk_at dksX4_init_0 11 rfl rfl)
theorem dX4_init_14 : decode cX4_init 14 = .ok (.return_, 1) := dk_177 (dk_at dksX4_init_0 14 rfl rfl)
theorem dX5_worth_0 : decode cX5_worth 0 = .ok (.aload_n 0, 1) := by decide +kernel
theorem dX5_worth_1 : decode cX5_worth 1 = .ok (.getfield 7, 3) := by decide +kernel
theorem dX5_worth_4 : decode cX5_worth 4 = .ok (.ireturn, 1) := by decide +kernel
def dkwX5_init_0 : List UInt8 := [42, 183, 0, 1, 42, 27, 181, 0, 7, 177]
abbrev dktX5_init_0 : List UInt8 := dkwX5_init_0 ++ []
theorem dksX5_init_0 : cX5_init.data.toList.drop 0 = dktX5_init_0 := by decide +kernel
theorem dX5_init_0 : decode cX5_init 0 = .ok (.aload_n 0, 1) := dk_42 (dk_at dksX5_init_0 0 rfl rfl)
theorem dX5_init_1 : decode cX5_init 1 = .ok (.invokespecial 1, 3) := dk_183 0 1 (dk_at dksX5_init_0 1 rfl rfl)
theorem dX5_init_4 : decode cX5_init 4 = .ok (.aload_n 0, 1) := dk_42 (dk_at dksX5_init_0 4 rfl rfl)
theorem dX5_init_5 : decode cX5_init 5 = .ok (.iload_n 1, 1) := dk_27 (dk_at dksX5_init_0 5 rfl rfl)
theorem dX5_init_6 : decode cX5_init 6 = .ok (.putfield 7, 3) := dk_181 0 7 (dk_at dksX5_init_0 6 rfl rfl)
theorem dX5_init_9 : decode cX5_init 9 = .ok (.return_, 1) := dk_177 (dk_at dksX5_init_0 9 rfl rfl)
def dkwX6_worth_6 : List UInt8 := [180, 0, 1, 180, 0, 44, 172]
abbrev dktX6_worth_6 : List UInt8 := dkwX6_worth_6 ++ []
def dkwX6_worth_5 : List UInt8 := [180, 0, 41, 172, 42, 180, 0, 1, 180, 0, 23, 42, 180, 0, 1, 180, 0, 27, 50, 180, 0, 30, 172, 42]
abbrev dktX6_worth_5 : List UInt8 := dkwX6_worth_5 ++ dktX6_worth_6
def dkwX6_worth_4 : List UInt8 := [180, 0, 27, 50, 180, 0, 38, 172, 42, 180, 0, 1, 180, 0, 23, 42, 180, 0, 1, 180, 0, 27, 50]
abbrev dktX6_worth_4 : List UInt8 := dkwX6_worth_4 ++ dktX6_worth_5
def dkwX6_worth_3 : List UInt8 := [180, 0, 30, 46, 172, 42, 180, 0, 1, 180, 0, 35, 172, 42, 180, 0, 1, 180, 0, 23, 42, 180, 0, 1]
abbrev dktX6_worth_3 : List UInt8 := dkwX6_worth_3 ++ dktX6_worth_4
def dkwX6_worth_2 : List UInt8 := [42, 180, 0, 1, 180, 0, 17, 42, 180, 0, 1, 180, 0, 23, 42, 180, 0, 1, 180, 0, 27, 50]
abbrev dktX6_worth_2 : List UInt8 := dkwX6_worth_2 ++ dktX6_worth_3
def dkwX6_worth_1 : List UInt8 := [170, 0, 0, 0, 0, 0, 0, 128, 0, 0, 0, 0, 0, 0, 0, 4, 0, 0, 0, 36, 0, 0, 0, 63, 0, 0, 0, 71, 0, 0, 0, 90, 0, 0, 0, 109]
abbrev dktX6_worth_1 : List UInt8 := dkwX6_worth_1 ++ dktX6_worth_2
def dkwX6_worth_0 : List UInt8 := [42, 180, 0, 13]
abbrev dktX6_worth_0 : List UInt8 := dkwX6_worth_0 ++ dktX6_worth_1
theorem dksX6_worth_0 : cX6_worth.data.toList.drop 0 = dktX6_worth_0 := by decide +kernel
theorem dksX6_worth_1 : cX6_worth.data.toList.drop 4 = dktX6_worth_1 := dk_seg dksX6_worth_0 4 rfl rfl
theorem dksX6_worth_2 : cX6_worth.data.toList.drop 40 = dktX6_worth_2 := dk_seg dksX6_worth_1 36 rfl rfl
theorem dksX6_worth_3 : cX6_worth.data.toList.drop 62 = dktX6_worth_3 := dk_seg dksX6_worth_2 22 rfl rfl
theorem dksX6_worth_4 : cX6_worth.data.toList.drop 86 = dktX6_worth_4 := dk_seg dksX6_worth_3 24 rfl rfl
theorem dksX6_worth_5 : cX6_worth.data.toList.drop 109 = dktX6_worth_5 := dk_seg dksX6_worth_4 23 rfl rfl
theorem dksX6_worth_6 : cX6_worth.data.toList.drop 133 = dktX6_worth_6 := dk_seg dksX6_worth_5 24 rfl rfl
theorem dX6_worth_0 : decode cX6_worth 0 = .ok (.aload_n 0, 1) := dk_42 (dk_at dksX6_worth_0 0 rfl rfl)
theorem dX6_worth_1 : decode cX6_worth 1 = .ok (.getfield 13, 3) := dk_180 0 13 (dk_at dksX6_worth_0 1 rfl rfl)
theorem dX6_worth_4 : decode cX6_worth 4 = .ok (.tableswitch 128 0 4 #[36, 63, 71, 90, 109], 36) := by decide +kernel
theorem dX6_worth_40 : decode cX6_worth 40 = .ok (.aload_n 0, 1) := dk_42 (dk_at dksX6_worth_2 0 rfl rfl)
theorem dX6_worth_41 : decode cX6_worth 41 = .ok (.getfield 1, 3) := dk_180 0 1 (dk_at dksX6_worth_2 1 rfl rfl)
theorem dX6_worth_44 : decode cX6_worth 44 = .ok (.getfield 17, 3) := dk_180 0 17 (dk_at dksX6_worth_2 4 rfl rfl)
theorem dX6_worth_47 : decode cX6_worth 47 = .ok (.aload_n 0, 1) := dk_42 (dk_at dksX6_worth_2 7 rfl rfl)
theorem dX6_worth_48 : decode cX6_worth 48 = .ok (.getfield 1, 3) := dk_180 0 1 (dk_at dksX6_worth_2 8 rfl rfl)
theorem dX6_worth_51 : decode cX6_worth 51 = .ok (.getfield 23, 3) := dk_180 0 23 (dk_at dksX6_worth_2 11 rfl rfl)
theorem dX6_worth_54 : decode cX6_worth 54 = .ok (.aload_n 0, 1) := dk_42 (dk_at dksX6_worth_2 14 rfl rfl)
theorem dX6_worth_55 : decode cX6_worth 55 = .ok (.getfield 1, 3) := dk_180 0 1 (dk_at dksX6_worth_2 15 rfl rfl)
theorem dX6_worth_58 : decode cX6_worth 58 = .ok (.getfield 27, 3) := dk_180 0 27 (dk_at dksX6_worth_2 18 rfl rfl)
theorem dX6_worth_61 : decode cX6_worth 61 = .ok (.aaload, 1) := dk_50 (dk_at dksX6_worth_2 21 rfl rfl)
theorem dX6_worth_62 : decode cX6_worth 62 = .ok (.getfield 30, 3) := dk_180 0 30 (dk_at dksX6_worth_3 0 rfl rfl)
theorem dX6_worth_65 : decode cX6_worth 65 = .ok (.iaload, 1) := dk_46 (dk_at dksX6_worth_3 3 rfl rfl)
theorem dX6_worth_66 : decode cX6_worth 66 = .ok (.ireturn, 1) := dk_172 (dk_at dksX6_worth_3 4 rfl rfl)
theorem dX6_worth_67 : decode cX6_worth 67 = .ok (.aload_n 0, 1) := dk_42 (dk_at dksX6_worth_3 5 rfl rfl)
theorem dX6_worth_68 : decode cX6_worth 68 = .ok (.getfield 1, 3) := dk_180 0 1 (dk_at dksX6_worth_3 6 rfl rfl)
theorem dX6_worth_71 : decode cX6_worth 71 = .ok (.getfield 35, 3) := dk_180 0 35 (dk_at dksX6_worth_3 9 rfl rfl)
theorem dX6_worth_74 : decode cX6_worth 74 = .ok (.ireturn, 1) := dk_172 (dk_at dksX6_worth_3 12 rfl rfl)
theorem dX6_worth_75 : decode cX6_worth 75 = .ok (.aload_n 0, 1) := dk_42 (dk_at dksX6_worth_3 13 rfl rfl)
theorem dX6_worth_76 : decode cX6_worth 76 = .ok (.getfield 1, 3) := dk_180 0 1 (dk_at dksX6_worth_3 14 rfl rfl)
theorem dX6_worth_79 : decode cX6_worth 79 = .ok (.getfield 23, 3) := dk_180 0 23 (dk_at dksX6_worth_3 17 rfl rfl)
theorem dX6_worth_82 : decode cX6_worth 82 = .ok (.aload_n 0, 1) := dk_42 (dk_at dksX6_worth_3 20 rfl rfl)
theorem dX6_worth_83 : decode cX6_worth 83 = .ok (.getfield 1, 3) := dk_180 0 1 (dk_at dksX6_worth_3 21 rfl rfl)
theorem dX6_worth_86 : decode cX6_worth 86 = .ok (.getfield 27, 3) := dk_180 0 27 (dk_at dksX6_worth_4 0 rfl rfl)
theorem dX6_worth_89 : decode cX6_worth 89 = .ok (.aaload, 1) := dk_50 (dk_at dksX6_worth_4 3 rfl rfl)
theorem dX6_worth_90 : decode cX6_worth 90 = .ok (.getfield 38, 3) := dk_180 0 38 (dk_at dksX6_worth_4 4 rfl rfl)
theorem dX6_worth_93 : decode cX6_worth 93 = .ok (.ireturn, 1) := dk_172 (dk_at dksX6_worth_4 7 rfl rfl)
theorem dX6_worth_94 : decode cX6_worth 94 = .ok (.aload_n 0, 1) := dk_42 (dk_at dksX6_worth_4 8 rfl rfl)
theorem dX6_worth_95 : decode cX6_worth 95 = .ok (.getfield 1, 3) := dk_180 0 1 (dk_at dksX6_worth_4 9 rfl rfl)
theorem dX6_worth_98 : decode cX6_worth 98 = .ok (.getfield 23, 3) := dk_180 0 23 (dk_at dksX6_worth_4 12 rfl rfl)
theorem dX6_worth_101 : decode cX6_worth 101 = .ok (.aload_n 0, 1) := dk_42 (dk_at dksX6_worth_4 15 rfl rfl)
theorem dX6_worth_102 : decode cX6_worth 102 = .ok (.getfield 1, 3) := dk_180 0 1 (dk_at dksX6_worth_4 16 rfl rfl)
theorem dX6_worth_105 : decode cX6_worth 105 = .ok (.getfield 27, 3) := dk_180 0 27 (dk_at dksX6_worth_4 19 rfl rfl)
theorem dX6_worth_108 : decode cX6_worth 108 = .ok (.aaload, 1) := dk_50 (dk_at dksX6_worth_4 22 rfl rfl)
theorem dX6_worth_109 : decode cX6_worth 109 = .ok (.getfield 41, 3) := dk_180 0 41 (dk_at dksX6_worth_5 0 rfl rfl)
theorem dX6_worth_112 : decode cX6_worth 112 = .ok (.ireturn, 1) := dk_172 (dk_at dksX6_worth_5 3 rfl rfl)
theorem dX6_worth_113 : decode cX6_worth 113 = .ok (.aload_n 0, 1) := dk_42 (dk_at dksX6_worth_5 4 rfl rfl)
theorem dX6_worth_114 : decode cX6_worth 114 = .ok (.getfield 1, 3) := dk_180 0 1 (dk_at dksX6_worth_5 5 rfl rfl)
theorem dX6_worth_117 : decode cX6_worth 117 = .ok (.getfield 23, 3) := dk_180 0 23 (dk_at dksX6_worth_5 8 rfl rfl)
theorem dX6_worth_120 : decode cX6_worth 120 = .ok (.aload_n 0, 1) := dk_42 (dk_at dksX6_worth_5 11 rfl rfl)
theorem dX6_worth_121 : decode cX6_worth 121 = .ok (.getfield 1, 3) := dk_180 0 1 (dk_at dksX6_worth_5 12 rfl rfl)
theorem dX6_worth_124 : decode cX6_worth 124 = .ok (.getfield 27, 3) := dk_180 0 27 (dk_at dksX6_worth_5 15 rfl rfl)
theorem dX6_worth_127 : decode cX6_worth 127 = .ok (.aaload, 1) := dk_50 (dk_at dksX6_worth_5 18 rfl rfl)
theorem dX6_worth_128 : decode cX6_worth 128 = .ok (.getfield 30, 3) := dk_180 0 30 (dk_at dksX6_worth_5 19 rfl rfl)
theorem dX6_worth_131 : decode cX6_worth 131 = .ok (.ireturn, 1) := dk_172 (dk_at dksX6_worth_5 22 rfl rfl)
theorem dX6_worth_132 : decode cX6_worth 132 = .ok (.aload_n 0, 1) := dk_42 (dk_at dksX6_worth_5 23 rfl rfl)
theorem dX6_worth_133 : decode cX6_worth 133 = .ok (.getfield 1, 3) := dk_180 0 1 (dk_at dksX6_worth_6 0 rfl rfl)
theorem dX6_worth_136 : decode cX6_worth 136 = .ok (.getfield 44, 3) := dk_180 0 44 (dk_at dksX6_worth_6 3 rfl rfl)
theorem dX6_worth_139 : decode cX6_worth 139 = .ok (.ireturn, 1) := dk_172 (dk_at dksX6_worth_6 6 rfl rfl)
def dkwX6_init_0 : List UInt8 := [42, 43, 181, 0, 1, 42, 183, 0, 7, 42, 28, 181, 0, 13, 177]
abbrev dktX6_init_0 : List UInt8 := dkwX6_init_0 ++ []
theorem dksX6_init_0 : cX6_init.data.toList.drop 0 = dktX6_init_0 := by decide +kernel
theorem dX6_init_0 : decode cX6_init 0 = .ok (.aload_n 0, 1) := dk_42 (dk_at dksX6_init_0 0 rfl rfl)
theorem dX6_init_1 : decode cX6_init 1 = .ok (.aload_n 1, 1) := dk_43 (dk_at dksX6_init_0 1 rfl rfl)
theorem dX6_init_2 : decode cX6_init 2 = .ok (.putfield 1, 3) := dk_181 0 1 (dk_at dksX6_init_0 2 rfl rfl)
theorem dX6_init_5 : decode cX6_init 5 = .ok (.aload_n 0, 1) := dk_42 (dk_at dksX6_init_0 5 rfl rfl)
theorem dX6_init_6 : decode cX6_init 6 = .ok (.invokespecial 7, 3) := dk_183 0 7 (dk_at dksX6_init_0 6 rfl rfl)
theorem dX6_init_9 : decode cX6_init 9 = .ok (.aload_n 0, 1) := dk_42 (dk_at dksX6_init_0 9 rfl rfl)
theorem dX6_init_10 : decode cX6_init 10 = .ok (.iload_n 2, 1) := dk_28 (dk_at dksX6_init_0 10 rfl rfl)
theorem dX6_init_11 : decode cX6_init 11 = .ok (.putfield 13, 3) := dk_181 0 13 (dk_at dksX6_init_0 11 rfl rfl)
theorem dX6_init_14 : decode cX6_init 14 = .ok (.return_, 1) := dk_177 (dk_at dksX6_init_0 14 rfl rfl)
def dkwX7_worth_4 : List UInt8 := [27, 154, 0, 7, 28, 153, 0, 7, 4, 167, 0, 4, 3, 172]
abbrev dktX7_worth_4 : List UInt8 := dkwX7_worth_4 ++ []
def dkwX7_worth_3 : List UInt8 := [28, 160, 0, 7, 4, 167, 0, 4, 3, 172, 27, 153, 0, 11, 28, 153, 0, 7, 4, 167, 0, 4, 3, 172]
abbrev dktX7_worth_3 : List UInt8 := dkwX7_worth_3 ++ dktX7_worth_4
def dkwX7_worth_2 : List UInt8 := [27, 28, 96, 172, 27, 28, 100, 172, 27, 28, 104, 172, 27, 28, 162, 0, 7, 4, 167, 0, 4, 3, 172, 27]
abbrev dktX7_worth_2 : List UInt8 := dkwX7_worth_2 ++ dktX7_worth_3
def dkwX7_worth_1 : List UInt8 := [171, 0, 0, 0, 0, 0, 0, 108, 0, 0, 0, 6, 0, 0, 0, 38, 0, 0, 0, 94, 0, 0, 0, 42, 0, 0, 0, 68, 0, 0, 0, 43, 0, 0, 0, 60, 0, 0, 0, 45, 0, 0, 0, 64, 0, 0, 0, 60, 0, 0, 0, 72, 0, 0, 0, 61, 0, 0, 0, 83]
abbrev dktX7_worth_1 : List UInt8 := dkwX7_worth_1 ++ dktX7_worth_2
def dkwX7_worth_0 : List UInt8 := [42, 180, 0, 13, 182, 0, 20, 60, 42, 180, 0, 17, 182, 0, 20, 61, 42, 180, 0, 7]
abbrev dktX7_worth_0 : List UInt8 := dkwX7_worth_0 ++ dktX7_worth_1
theorem dksX7_worth_0 : cX7_worth.data.toList.drop 0 = dktX7_worth_0 := by decide +kernel
theorem dksX7_worth_1 : cX7_worth.data.toList.drop 20 = dktX7_worth_1 := dk_seg dksX7_worth_0 20 rfl rfl
theorem dksX7_worth_2 : cX7_worth.data.toList.drop 80 = dktX7_worth_2 := dk_seg dksX7_worth_1 60 rfl rfl
theorem dksX7_worth_3 : cX7_worth.data.toList.drop 104 = dktX7_worth_3 := dk_seg dksX7_worth_2 24 rfl rfl
theorem dksX7_worth_4 : cX7_worth.data.toList.drop 128 = dktX7_worth_4 := dk_seg dksX7_worth_3 24 rfl rfl
theorem dX7_worth_0 : decode cX7_worth 0 = .ok (.aload_n 0, 1) := dk_42 (dk_at dksX7_worth_0 0 rfl rfl)
theorem dX7_worth_1 : decode cX7_worth 1 = .ok (.getfield 13, 3) := dk_180 0 13 (dk_at dksX7_worth_0 1 rfl rfl)
theorem dX7_worth_4 : decode cX7_worth 4 = .ok (.invokevirtual 20, 3) := dk_182 0 20 (dk_at dksX7_worth_0 4 rfl rfl)
theorem dX7_worth_7 : decode cX7_worth 7 = .ok (.istore_n 1, 1) := dk_60 (dk_at dksX7_worth_0 7 rfl rfl)
theorem dX7_worth_8 : decode cX7_worth 8 = .ok (.aload_n 0, 1) := dk_42 (dk_at dksX7_worth_0 8 rfl rfl)
theorem dX7_worth_9 : decode cX7_worth 9 = .ok (.getfield 17, 3) := dk_180 0 17 (dk_at dksX7_worth_0 9 rfl rfl)
theorem dX7_worth_12 : decode cX7_worth 12 = .ok (.invokevirtual 20, 3) := dk_182 0 20 (dk_at dksX7_worth_0 12 rfl rfl)
theorem dX7_worth_15 : decode cX7_worth 15 = .ok (.istore_n 2, 1) := dk_61 (dk_at dksX7_worth_0 15 rfl rfl)
theorem dX7_worth_16 : decode cX7_worth 16 = .ok (.aload_n 0, 1) := dk_42 (dk_at dksX7_worth_0 16 rfl rfl)
theorem dX7_worth_17 : decode cX7_worth 17 = .ok (.getfield 7, 3) := dk_180 0 7 (dk_at dksX7_worth_0 17 rfl rfl)
theorem dX7_worth_20 : decode cX7_worth 20 = .ok (.lookupswitch 108 #[(38, 94), (42, 68), (43, 60), (45, 64), (60, 72), (61, 83)], 60) := by decide +kernel
theorem dX7_worth_80 : decode cX7_worth 80 = .ok (.iload_n 1, 1) := dk_27 (dk_at dksX7_worth_2 0 rfl rfl)
theorem dX7_worth_81 : decode cX7_worth 81 = .ok (.iload_n 2, 1) := dk_28 (dk_at dksX7_worth_2 1 rfl rfl)
theorem dX7_worth_82 : decode cX7_worth 82 = .ok (.iadd, 1) := dk_96 (dk_at dksX7_worth_2 2 rfl rfl)
theorem dX7_worth_83 : decode cX7_worth 83 = .ok (.ireturn, 1) := dk_172 (dk_at dksX7_worth_2 3 rfl rfl)
theorem dX7_worth_84 : decode cX7_worth 84 = .ok (.iload_n 1, 1) := dk_27 (dk_at dksX7_worth_2 4 rfl rfl)
theorem dX7_worth_85 : decode cX7_worth 85 = .ok (.iload_n 2, 1) := dk_28 (dk_at dksX7_worth_2 5 rfl rfl)
theorem dX7_worth_86 : decode cX7_worth 86 = .ok (.isub, 1) := dk_100 (dk_at dksX7_worth_2 6 rfl rfl)
theorem dX7_worth_87 : decode cX7_worth 87 = .ok (.ireturn, 1) := dk_172 (dk_at dksX7_worth_2 7 rfl rfl)
theorem dX7_worth_88 : decode cX7_worth 88 = .ok (.iload_n 1, 1) := dk_27 (dk_at dksX7_worth_2 8 rfl rfl)
theorem dX7_worth_89 : decode cX7_worth 89 = .ok (.iload_n 2, 1) := dk_28 (dk_at dksX7_worth_2 9 rfl rfl)
theorem dX7_worth_90 : decode cX7_worth 90 = .ok (.imul, 1) := dk_104 (dk_at dksX7_worth_2 10 rfl rfl)
theorem dX7_worth_91 : decode cX7_worth 91 = .ok (.ireturn, 1) := dk_172 (dk_at dksX7_worth_2 11 rfl rfl)
theorem dX7_worth_92 : decode cX7_worth 92 = .ok (.iload_n 1, 1) := dk_27 (dk_at dksX7_worth_2 12 rfl rfl)
theorem dX7_worth_93 : decode cX7_worth 93 = .ok (.iload_n 2, 1) := dk_28 (dk_at dksX7_worth_2 13 rfl rfl)
theorem dX7_worth_94 : decode cX7_worth 94 = .ok (.if_icmp .ge 7, 3) := dk_162 0 7 (dk_at dksX7_worth_2 14 rfl rfl)
theorem dX7_worth_97 : decode cX7_worth 97 = .ok (.iconst 1, 1) := dk_4 (dk_at dksX7_worth_2 17 rfl rfl)
theorem dX7_worth_98 : decode cX7_worth 98 = .ok (.goto 4, 3) := dk_167 0 4 (dk_at dksX7_worth_2 18 rfl rfl)
theorem dX7_worth_101 : decode cX7_worth 101 = .ok (.iconst 0, 1) := dk_3 (dk_at dksX7_worth_2 21 rfl rfl)
theorem dX7_worth_102 : decode cX7_worth 102 = .ok (.ireturn, 1) := dk_172 (dk_at dksX7_worth_2 22 rfl rfl)
theorem dX7_worth_103 : decode cX7_worth 103 = .ok (.iload_n 1, 1) := dk_27 (dk_at dksX7_worth_2 23 rfl rfl)
theorem dX7_worth_104 : decode cX7_worth 104 = .ok (.iload_n 2, 1) := dk_28 (dk_at dksX7_worth_3 0 rfl rfl)
theorem dX7_worth_105 : decode cX7_worth 105 = .ok (.if_icmp .ne 7, 3) := dk_160 0 7 (dk_at dksX7_worth_3 1 rfl rfl)
theorem dX7_worth_108 : decode cX7_worth 108 = .ok (.iconst 1, 1) := dk_4 (dk_at dksX7_worth_3 4 rfl rfl)
theorem dX7_worth_109 : decode cX7_worth 109 = .ok (.goto 4, 3) := dk_167 0 4 (dk_at dksX7_worth_3 5 rfl rfl)
theorem dX7_worth_112 : decode cX7_worth 112 = .ok (.iconst 0, 1) := dk_3 (dk_at dksX7_worth_3 8 rfl rfl)
theorem dX7_worth_113 : decode cX7_worth 113 = .ok (.ireturn, 1) := dk_172 (dk_at dksX7_worth_3 9 rfl rfl)
theorem dX7_worth_114 : decode cX7_worth 114 = .ok (.iload_n 1, 1) := dk_27 (dk_at dksX7_worth_3 10 rfl rfl)
theorem dX7_worth_115 : decode cX7_worth 115 = .ok (.ifCond .eq 11, 3) := dk_153 0 11 (dk_at dksX7_worth_3 11 rfl rfl)
theorem dX7_worth_118 : decode cX7_worth 118 = .ok (.iload_n 2, 1) := dk_28 (dk_at dksX7_worth_3 14 rfl rfl)
theorem dX7_worth_119 : decode cX7_worth 119 = .ok (.ifCond .eq 7, 3) := dk_153 0 7 (dk_at dksX7_worth_3 15 rfl rfl)
theorem dX7_worth_122 : decode cX7_worth 122 = .ok (.iconst 1, 1) := dk_4 (dk_at dksX7_worth_3 18 rfl rfl)
theorem dX7_worth_123 : decode cX7_worth 123 = .ok (.goto 4, 3) := dk_167 0 4 (dk_at dksX7_worth_3 19 rfl rfl)
theorem dX7_worth_126 : decode cX7_worth 126 = .ok (.iconst 0, 1) := dk_3 (dk_at dksX7_worth_3 22 rfl rfl)
theorem dX7_worth_127 : decode cX7_worth 127 = .ok (.ireturn, 1) := dk_172 (dk_at dksX7_worth_3 23 rfl rfl)
theorem dX7_worth_128 : decode cX7_worth 128 = .ok (.iload_n 1, 1) := dk_27 (dk_at dksX7_worth_4 0 rfl rfl)
theorem dX7_worth_129 : decode cX7_worth 129 = .ok (.ifCond .ne 7, 3) := dk_154 0 7 (dk_at dksX7_worth_4 1 rfl rfl)
theorem dX7_worth_132 : decode cX7_worth 132 = .ok (.iload_n 2, 1) := dk_28 (dk_at dksX7_worth_4 4 rfl rfl)
theorem dX7_worth_133 : decode cX7_worth 133 = .ok (.ifCond .eq 7, 3) := dk_153 0 7 (dk_at dksX7_worth_4 5 rfl rfl)
theorem dX7_worth_136 : decode cX7_worth 136 = .ok (.iconst 1, 1) := dk_4 (dk_at dksX7_worth_4 8 rfl rfl)
theorem dX7_worth_137 : decode cX7_worth 137 = .ok (.goto 4, 3) := dk_167 0 4 (dk_at dksX7_worth_4 9 rfl rfl)
theorem dX7_worth_140 : decode cX7_worth 140 = .ok (.iconst 0, 1) := dk_3 (dk_at dksX7_worth_4 12 rfl rfl)
theorem dX7_worth_141 : decode cX7_worth 141 = .ok (.ireturn, 1) := dk_172 (dk_at dksX7_worth_4 13 rfl rfl)
def dkwX7_init_0 : List UInt8 := [42, 183, 0, 1, 42, 27, 181, 0, 7, 42, 44, 181, 0, 13, 42, 45, 181, 0, 17, 177]
abbrev dktX7_init_0 : List UInt8 := dkwX7_init_0 ++ []
theorem dksX7_init_0 : cX7_init.data.toList.drop 0 = dktX7_init_0 := by decide +kernel
theorem dX7_init_0 : decode cX7_init 0 = .ok (.aload_n 0, 1) := dk_42 (dk_at dksX7_init_0 0 rfl rfl)
theorem dX7_init_1 : decode cX7_init 1 = .ok (.invokespecial 1, 3) := dk_183 0 1 (dk_at dksX7_init_0 1 rfl rfl)
theorem dX7_init_4 : decode cX7_init 4 = .ok (.aload_n 0, 1) := dk_42 (dk_at dksX7_init_0 4 rfl rfl)
theorem dX7_init_5 : decode cX7_init 5 = .ok (.iload_n 1, 1) := dk_27 (dk_at dksX7_init_0 5 rfl rfl)
theorem dX7_init_6 : decode cX7_init 6 = .ok (.putfield 7, 3) := dk_181 0 7 (dk_at dksX7_init_0 6 rfl rfl)
theorem dX7_init_9 : decode cX7_init 9 = .ok (.aload_n 0, 1) := dk_42 (dk_at dksX7_init_0 9 rfl rfl)
theorem dX7_init_10 : decode cX7_init 10 = .ok (.aload_n 2, 1) := dk_44 (dk_at dksX7_init_0 10 rfl rfl)
theorem dX7_init_11 : decode cX7_init 11 = .ok (.putfield 13, 3) := dk_181 0 13 (dk_at dksX7_init_0 11 rfl rfl)
theorem dX7_init_14 : decode cX7_init 14 = .ok (.aload_n 0, 1) := dk_42 (dk_at dksX7_init_0 14 rfl rfl)
theorem dX7_init_15 : decode cX7_init 15 = .ok (.aload_n 3, 1) := dk_45 (dk_at dksX7_init_0 15 rfl rfl)
theorem dX7_init_16 : decode cX7_init 16 = .ok (.putfield 17, 3) := dk_181 0 17 (dk_at dksX7_init_0 16 rfl rfl)
theorem dX7_init_19 : decode cX7_init 19 = .ok (.return_, 1) := dk_177 (dk_at dksX7_init_0 19 rfl rfl)
def dkwX9_init_0 : List UInt8 := [42, 183, 0, 3, 42, 4, 181, 0, 9, 42, 27, 181, 0, 15, 42, 28, 181, 0, 18, 177]
abbrev dktX9_init_0 : List UInt8 := dkwX9_init_0 ++ []
theorem dksX9_init_0 : cX9_init.data.toList.drop 0 = dktX9_init_0 := by decide +kernel
theorem dX9_init_0 : decode cX9_init 0 = .ok (.aload_n 0, 1) := dk_42 (dk_at dksX9_init_0 0 rfl rfl)
theorem dX9_init_1 : decode cX9_init 1 = .ok (.invokespecial 3, 3) := dk_183 0 3 (dk_at dksX9_init_0 1 rfl rfl)
theorem dX9_init_4 : decode cX9_init 4 = .ok (.aload_n 0, 1) := dk_42 (dk_at dksX9_init_0 4 rfl rfl)
theorem dX9_init_5 : decode cX9_init 5 = .ok (.iconst 1, 1) := dk_4 (dk_at dksX9_init_0 5 rfl rfl)
theorem dX9_init_6 : decode cX9_init 6 = .ok (.putfield 9, 3) := dk_181 0 9 (dk_at dksX9_init_0 6 rfl rfl)
theorem dX9_init_9 : decode cX9_init 9 = .ok (.aload_n 0, 1) := dk_42 (dk_at dksX9_init_0 9 rfl rfl)
theorem dX9_init_10 : decode cX9_init 10 = .ok (.iload_n 1, 1) := dk_27 (dk_at dksX9_init_0 10 rfl rfl)
theorem dX9_init_11 : decode cX9_init 11 = .ok (.putfield 15, 3) := dk_181 0 15 (dk_at dksX9_init_0 11 rfl rfl)
theorem dX9_init_14 : decode cX9_init 14 = .ok (.aload_n 0, 1) := dk_42 (dk_at dksX9_init_0 14 rfl rfl)
theorem dX9_init_15 : decode cX9_init 15 = .ok (.iload_n 2, 1) := dk_28 (dk_at dksX9_init_0 15 rfl rfl)
theorem dX9_init_16 : decode cX9_init 16 = .ok (.putfield 18, 3) := dk_181 0 18 (dk_at dksX9_init_0 16 rfl rfl)
theorem dX9_init_19 : decode cX9_init 19 = .ok (.return_, 1) := dk_177 (dk_at dksX9_init_0 19 rfl rfl)
theorem dX9_kind_0 : decode cX9_kind 0 = .ok (.iconst 0, 1) := by decide +kernel
theorem dX9_kind_1 : decode cX9_kind 1 = .ok (.ireturn, 1) := by decide +kernel
def dkwX9_heldRots_0 : List UInt8 := [42, 27, 28, 182, 0, 28, 3, 16, 100, 184, 0, 25, 172]
abbrev dktX9_heldRots_0 : List UInt8 := dkwX9_heldRots_0 ++ []
theorem dksX9_heldRots_0 : cX9_heldRots.data.toList.drop 0 = dktX9_heldRots_0 := by decide +kernel
theorem dX9_heldRots_0 : decode cX9_heldRots 0 = .ok (.aload_n 0, 1) := dk_42 (dk_at dksX9_heldRots_0 0 rfl rfl)
theorem dX9_heldRots_1 : decode cX9_heldRots 1 = .ok (.iload_n 1, 1) := dk_27 (dk_at dksX9_heldRots_0 1 rfl rfl)
theorem dX9_heldRots_2 : decode cX9_heldRots 2 = .ok (.iload_n 2, 1) := dk_28 (dk_at dksX9_heldRots_0 2 rfl rfl)
theorem dX9_heldRots_3 : decode cX9_heldRots 3 = .ok (.invokevirtual 28, 3) := dk_182 0 28 (dk_at dksX9_heldRots_0 3 rfl rfl)
theorem dX9_heldRots_6 : decode cX9_heldRots 6 = .ok (.iconst 0, 1) := dk_3 (dk_at dksX9_heldRots_0 6 rfl rfl)
theorem dX9_heldRots_7 : decode cX9_heldRots 7 = .ok (.bipush 100, 2) := dk_16 100 (dk_at dksX9_heldRots_0 7 rfl rfl)
theorem dX9_heldRots_9 : decode cX9_heldRots 9 = .ok (.invokestatic 25, 3) := dk_184 0 25 (dk_at dksX9_heldRots_0 9 rfl rfl)
theorem dX9_heldRots_12 : decode cX9_heldRots 12 = .ok (.ireturn, 1) := dk_172 (dk_at dksX9_heldRots_0 12 rfl rfl)
theorem dX9_rots_0 : decode cX9_rots 0 = .ok (.iload_n 1, 1) := by decide +kernel
theorem dX9_rots_1 : decode cX9_rots 1 = .ok (.ireturn, 1) := by decide +kernel
def dkwX9_heldGrows_0 : List UInt8 := [42, 27, 28, 29, 182, 0, 21, 3, 17, 39, 15, 184, 0, 25, 172]
abbrev dktX9_heldGrows_0 : List UInt8 := dkwX9_heldGrows_0 ++ []
theorem dksX9_heldGrows_0 : cX9_heldGrows.data.toList.drop 0 = dktX9_heldGrows_0 := by decide +kernel
theorem dX9_heldGrows_0 : decode cX9_heldGrows 0 = .ok (.aload_n 0, 1) := dk_42 (dk_at dksX9_heldGrows_0 0 rfl rfl)
theorem dX9_heldGrows_1 : decode cX9_heldGrows 1 = .ok (.iload_n 1, 1) := dk_27 (dk_at dksX9_heldGrows_0 1 rfl rfl)
theorem dX9_heldGrows_2 : decode cX9_heldGrows 2 = .ok (.iload_n 2, 1) := dk_28 (dk_at dksX9_heldGrows_0 2 rfl rfl)
theorem dX9_heldGrows_3 : decode cX9_heldGrows 3 = .ok (.iload_n 3, 1) := dk_29 (dk_at dksX9_heldGrows_0 3 rfl rfl)
theorem dX9_heldGrows_4 : decode cX9_heldGrows 4 = .ok (.invokevirtual 21, 3) := dk_182 0 21 (dk_at dksX9_heldGrows_0 4 rfl rfl)
theorem dX9_heldGrows_7 : decode cX9_heldGrows 7 = .ok (.iconst 0, 1) := dk_3 (dk_at dksX9_heldGrows_0 7 rfl rfl)
theorem dX9_heldGrows_8 : decode cX9_heldGrows 8 = .ok (.sipush 9999, 3) := dk_17 39 15 (dk_at dksX9_heldGrows_0 8 rfl rfl)
theorem dX9_heldGrows_11 : decode cX9_heldGrows 11 = .ok (.invokestatic 25, 3) := dk_184 0 25 (dk_at dksX9_heldGrows_0 11 rfl rfl)
theorem dX9_heldGrows_14 : decode cX9_heldGrows 14 = .ok (.ireturn, 1) := dk_172 (dk_at dksX9_heldGrows_0 14 rfl rfl)
def dkwX9_grows_0 : List UInt8 := [28, 6, 164, 0, 9, 5, 27, 104, 167, 0, 4, 27, 172]
abbrev dktX9_grows_0 : List UInt8 := dkwX9_grows_0 ++ []
theorem dksX9_grows_0 : cX9_grows.data.toList.drop 0 = dktX9_grows_0 := by decide +kernel
theorem dX9_grows_0 : decode cX9_grows 0 = .ok (.iload_n 2, 1) := dk_28 (dk_at dksX9_grows_0 0 rfl rfl)
theorem dX9_grows_1 : decode cX9_grows 1 = .ok (.iconst 3, 1) := dk_6 (dk_at dksX9_grows_0 1 rfl rfl)
theorem dX9_grows_2 : decode cX9_grows 2 = .ok (.if_icmp .le 9, 3) := dk_164 0 9 (dk_at dksX9_grows_0 2 rfl rfl)
theorem dX9_grows_5 : decode cX9_grows 5 = .ok (.iconst 2, 1) := dk_5 (dk_at dksX9_grows_0 5 rfl rfl)
theorem dX9_grows_6 : decode cX9_grows 6 = .ok (.iload_n 1, 1) := dk_27 (dk_at dksX9_grows_0 6 rfl rfl)
theorem dX9_grows_7 : decode cX9_grows 7 = .ok (.imul, 1) := dk_104 (dk_at dksX9_grows_0 7 rfl rfl)
theorem dX9_grows_8 : decode cX9_grows 8 = .ok (.goto 4, 3) := dk_167 0 4 (dk_at dksX9_grows_0 8 rfl rfl)
theorem dX9_grows_11 : decode cX9_grows 11 = .ok (.iload_n 1, 1) := dk_27 (dk_at dksX9_grows_0 11 rfl rfl)
theorem dX9_grows_12 : decode cX9_grows 12 = .ok (.ireturn, 1) := dk_172 (dk_at dksX9_grows_0 12 rfl rfl)
def dkwX9_heldFlowers_0 : List UInt8 := [42, 42, 180, 0, 9, 182, 0, 32, 3, 18, 36, 184, 0, 25, 172]
abbrev dktX9_heldFlowers_0 : List UInt8 := dkwX9_heldFlowers_0 ++ []
theorem dksX9_heldFlowers_0 : cX9_heldFlowers.data.toList.drop 0 = dktX9_heldFlowers_0 := by decide +kernel
theorem dX9_heldFlowers_0 : decode cX9_heldFlowers 0 = .ok (.aload_n 0, 1) := dk_42 (dk_at dksX9_heldFlowers_0 0 rfl rfl)
theorem dX9_heldFlowers_1 : decode cX9_heldFlowers 1 = .ok (.aload_n 0, 1) := dk_42 (dk_at dksX9_heldFlowers_0 1 rfl rfl)
theorem dX9_heldFlowers_2 : decode cX9_heldFlowers 2 = .ok (.getfield 9, 3) := dk_180 0 9 (dk_at dksX9_heldFlowers_0 2 rfl rfl)
theorem dX9_heldFlowers_5 : decode cX9_heldFlowers 5 = .ok (.invokevirtual 32, 3) := dk_182 0 32 (dk_at dksX9_heldFlowers_0 5 rfl rfl)
theorem dX9_heldFlowers_8 : decode cX9_heldFlowers 8 = .ok (.iconst 0, 1) := dk_3 (dk_at dksX9_heldFlowers_0 8 rfl rfl)
theorem dX9_heldFlowers_9 : decode cX9_heldFlowers 9 = .ok (.ldc 36, 2) := dk_18 36 (dk_at dksX9_heldFlowers_0 9 rfl rfl)
theorem dX9_heldFlowers_11 : decode cX9_heldFlowers 11 = .ok (.invokestatic 25, 3) := dk_184 0 25 (dk_at dksX9_heldFlowers_0 11 rfl rfl)
theorem dX9_heldFlowers_14 : decode cX9_heldFlowers 14 = .ok (.ireturn, 1) := dk_172 (dk_at dksX9_heldFlowers_0 14 rfl rfl)
theorem dX9_flowers_0 : decode cX9_flowers 0 = .ok (.iload_n 1, 1) := by decide +kernel
theorem dX9_flowers_1 : decode cX9_flowers 1 = .ok (.ireturn, 1) := by decide +kernel
def dkwX9_like_0 : List UInt8 := [42, 43, 180, 0, 9, 181, 0, 9, 42, 176]
abbrev dktX9_like_0 : List UInt8 := dkwX9_like_0 ++ []
theorem dksX9_like_0 : cX9_like.data.toList.drop 0 = dktX9_like_0 := by decide +kernel
theorem dX9_like_0 : decode cX9_like 0 = .ok (.aload_n 0, 1) := dk_42 (dk_at dksX9_like_0 0 rfl rfl)
theorem dX9_like_1 : decode cX9_like 1 = .ok (.aload_n 1, 1) := dk_43 (dk_at dksX9_like_0 1 rfl rfl)
theorem dX9_like_2 : decode cX9_like 2 = .ok (.getfield 9, 3) := dk_180 0 9 (dk_at dksX9_like_0 2 rfl rfl)
theorem dX9_like_5 : decode cX9_like 5 = .ok (.putfield 9, 3) := dk_181 0 9 (dk_at dksX9_like_0 5 rfl rfl)
theorem dX9_like_8 : decode cX9_like 8 = .ok (.aload_n 0, 1) := dk_42 (dk_at dksX9_like_0 8 rfl rfl)
theorem dX9_like_9 : decode cX9_like 9 = .ok (.areturn, 1) := dk_176 (dk_at dksX9_like_0 9 rfl rfl)
def dkwX10_init_0 : List UInt8 := [42, 27, 28, 183, 0, 1, 177]
abbrev dktX10_init_0 : List UInt8 := dkwX10_init_0 ++ []
theorem dksX10_init_0 : cX10_init.data.toList.drop 0 = dktX10_init_0 := by decide +kernel
theorem dX10_init_0 : decode cX10_init 0 = .ok (.aload_n 0, 1) := dk_42 (dk_at dksX10_init_0 0 rfl rfl)
theorem dX10_init_1 : decode cX10_init 1 = .ok (.iload_n 1, 1) := dk_27 (dk_at dksX10_init_0 1 rfl rfl)
theorem dX10_init_2 : decode cX10_init 2 = .ok (.iload_n 2, 1) := dk_28 (dk_at dksX10_init_0 2 rfl rfl)
theorem dX10_init_3 : decode cX10_init 3 = .ok (.invokespecial 1, 3) := dk_183 0 1 (dk_at dksX10_init_0 3 rfl rfl)
theorem dX10_init_6 : decode cX10_init 6 = .ok (.return_, 1) := dk_177 (dk_at dksX10_init_0 6 rfl rfl)
def dkwX10_kind_0 : List UInt8 := [42, 183, 0, 7, 4, 96, 172]
abbrev dktX10_kind_0 : List UInt8 := dkwX10_kind_0 ++ []
theorem dksX10_kind_0 : cX10_kind.data.toList.drop 0 = dktX10_kind_0 := by decide +kernel
theorem dX10_kind_0 : decode cX10_kind 0 = .ok (.aload_n 0, 1) := dk_42 (dk_at dksX10_kind_0 0 rfl rfl)
theorem dX10_kind_1 : decode cX10_kind 1 = .ok (.invokespecial 7, 3) := dk_183 0 7 (dk_at dksX10_kind_0 1 rfl rfl)
theorem dX10_kind_4 : decode cX10_kind 4 = .ok (.iconst 1, 1) := dk_4 (dk_at dksX10_kind_0 4 rfl rfl)
theorem dX10_kind_5 : decode cX10_kind 5 = .ok (.iadd, 1) := dk_96 (dk_at dksX10_kind_0 5 rfl rfl)
theorem dX10_kind_6 : decode cX10_kind 6 = .ok (.ireturn, 1) := dk_172 (dk_at dksX10_kind_0 6 rfl rfl)
def dkwX10_rots_0 : List UInt8 := [42, 27, 28, 183, 0, 21, 16, 10, 96, 172]
abbrev dktX10_rots_0 : List UInt8 := dkwX10_rots_0 ++ []
theorem dksX10_rots_0 : cX10_rots.data.toList.drop 0 = dktX10_rots_0 := by decide +kernel
theorem dX10_rots_0 : decode cX10_rots 0 = .ok (.aload_n 0, 1) := dk_42 (dk_at dksX10_rots_0 0 rfl rfl)
theorem dX10_rots_1 : decode cX10_rots 1 = .ok (.iload_n 1, 1) := dk_27 (dk_at dksX10_rots_0 1 rfl rfl)
theorem dX10_rots_2 : decode cX10_rots 2 = .ok (.iload_n 2, 1) := dk_28 (dk_at dksX10_rots_0 2 rfl rfl)
theorem dX10_rots_3 : decode cX10_rots 3 = .ok (.invokespecial 21, 3) := dk_183 0 21 (dk_at dksX10_rots_0 3 rfl rfl)
theorem dX10_rots_6 : decode cX10_rots 6 = .ok (.bipush 10, 2) := dk_16 10 (dk_at dksX10_rots_0 6 rfl rfl)
theorem dX10_rots_8 : decode cX10_rots 8 = .ok (.iadd, 1) := dk_96 (dk_at dksX10_rots_0 8 rfl rfl)
theorem dX10_rots_9 : decode cX10_rots 9 = .ok (.ireturn, 1) := dk_172 (dk_at dksX10_rots_0 9 rfl rfl)
def dkwX10_grows_0 : List UInt8 := [42, 27, 28, 29, 183, 0, 11, 27, 158, 0, 10, 42, 180, 0, 15, 167, 0, 4, 3, 96, 172]
abbrev dktX10_grows_0 : List UInt8 := dkwX10_grows_0 ++ []
theorem dksX10_grows_0 : cX10_grows.data.toList.drop 0 = dktX10_grows_0 := by decide +kernel
theorem dX10_grows_0 : decode cX10_grows 0 = .ok (.aload_n 0, 1) := dk_42 (dk_at dksX10_grows_0 0 rfl rfl)
theorem dX10_grows_1 : decode cX10_grows 1 = .ok (.iload_n 1, 1) := dk_27 (dk_at dksX10_grows_0 1 rfl rfl)
theorem dX10_grows_2 : decode cX10_grows 2 = .ok (.iload_n 2, 1) := dk_28 (dk_at dksX10_grows_0 2 rfl rfl)
theorem dX10_grows_3 : decode cX10_grows 3 = .ok (.iload_n 3, 1) := dk_29 (dk_at dksX10_grows_0 3 rfl rfl)
theorem dX10_grows_4 : decode cX10_grows 4 = .ok (.invokespecial 11, 3) := dk_183 0 11 (dk_at dksX10_grows_0 4 rfl rfl)
theorem dX10_grows_7 : decode cX10_grows 7 = .ok (.iload_n 1, 1) := dk_27 (dk_at dksX10_grows_0 7 rfl rfl)
theorem dX10_grows_8 : decode cX10_grows 8 = .ok (.ifCond .le 10, 3) := dk_158 0 10 (dk_at dksX10_grows_0 8 rfl rfl)
theorem dX10_grows_11 : decode cX10_grows 11 = .ok (.aload_n 0, 1) := dk_42 (dk_at dksX10_grows_0 11 rfl rfl)
theorem dX10_grows_12 : decode cX10_grows 12 = .ok (.getfield 15, 3) := dk_180 0 15 (dk_at dksX10_grows_0 12 rfl rfl)
theorem dX10_grows_15 : decode cX10_grows 15 = .ok (.goto 4, 3) := dk_167 0 4 (dk_at dksX10_grows_0 15 rfl rfl)
theorem dX10_grows_18 : decode cX10_grows 18 = .ok (.iconst 0, 1) := dk_3 (dk_at dksX10_grows_0 18 rfl rfl)
theorem dX10_grows_19 : decode cX10_grows 19 = .ok (.iadd, 1) := dk_96 (dk_at dksX10_grows_0 19 rfl rfl)
theorem dX10_grows_20 : decode cX10_grows 20 = .ok (.ireturn, 1) := dk_172 (dk_at dksX10_grows_0 20 rfl rfl)
def dkwX10_flowers_0 : List UInt8 := [5, 42, 27, 183, 0, 25, 104, 172]
abbrev dktX10_flowers_0 : List UInt8 := dkwX10_flowers_0 ++ []
theorem dksX10_flowers_0 : cX10_flowers.data.toList.drop 0 = dktX10_flowers_0 := by decide +kernel
theorem dX10_flowers_0 : decode cX10_flowers 0 = .ok (.iconst 2, 1) := dk_5 (dk_at dksX10_flowers_0 0 rfl rfl)
theorem dX10_flowers_1 : decode cX10_flowers 1 = .ok (.aload_n 0, 1) := dk_42 (dk_at dksX10_flowers_0 1 rfl rfl)
theorem dX10_flowers_2 : decode cX10_flowers 2 = .ok (.iload_n 1, 1) := dk_27 (dk_at dksX10_flowers_0 2 rfl rfl)
theorem dX10_flowers_3 : decode cX10_flowers 3 = .ok (.invokespecial 25, 3) := dk_183 0 25 (dk_at dksX10_flowers_0 3 rfl rfl)
theorem dX10_flowers_6 : decode cX10_flowers 6 = .ok (.imul, 1) := dk_104 (dk_at dksX10_flowers_0 6 rfl rfl)
theorem dX10_flowers_7 : decode cX10_flowers 7 = .ok (.ireturn, 1) := dk_172 (dk_at dksX10_flowers_0 7 rfl rfl)
def dkwX11_init_0 : List UInt8 := [42, 27, 28, 183, 0, 1, 177]
abbrev dktX11_init_0 : List UInt8 := dkwX11_init_0 ++ []
theorem dksX11_init_0 : cX11_init.data.toList.drop 0 = dktX11_init_0 := by decide +kernel
theorem dX11_init_0 : decode cX11_init 0 = .ok (.aload_n 0, 1) := dk_42 (dk_at dksX11_init_0 0 rfl rfl)
theorem dX11_init_1 : decode cX11_init 1 = .ok (.iload_n 1, 1) := dk_27 (dk_at dksX11_init_0 1 rfl rfl)
theorem dX11_init_2 : decode cX11_init 2 = .ok (.iload_n 2, 1) := dk_28 (dk_at dksX11_init_0 2 rfl rfl)
theorem dX11_init_3 : decode cX11_init 3 = .ok (.invokespecial 1, 3) := dk_183 0 1 (dk_at dksX11_init_0 3 rfl rfl)
theorem dX11_init_6 : decode cX11_init 6 = .ok (.return_, 1) := dk_177 (dk_at dksX11_init_0 6 rfl rfl)
def dkwX11_kind_0 : List UInt8 := [42, 183, 0, 7, 5, 96, 172]
abbrev dktX11_kind_0 : List UInt8 := dkwX11_kind_0 ++ []
theorem dksX11_kind_0 : cX11_kind.data.toList.drop 0 = dktX11_kind_0 := by decide +kernel
theorem dX11_kind_0 : decode cX11_kind 0 = .ok (.aload_n 0, 1) := dk_42 (dk_at dksX11_kind_0 0 rfl rfl)
theorem dX11_kind_1 : decode cX11_kind 1 = .ok (.invokespecial 7, 3) := dk_183 0 7 (dk_at dksX11_kind_0 1 rfl rfl)
theorem dX11_kind_4 : decode cX11_kind 4 = .ok (.iconst 2, 1) := dk_5 (dk_at dksX11_kind_0 4 rfl rfl)
theorem dX11_kind_5 : decode cX11_kind 5 = .ok (.iadd, 1) := dk_96 (dk_at dksX11_kind_0 5 rfl rfl)
theorem dX11_kind_6 : decode cX11_kind 6 = .ok (.ireturn, 1) := dk_172 (dk_at dksX11_kind_0 6 rfl rfl)
def dkwX11_rots_0 : List UInt8 := [42, 27, 28, 183, 0, 11, 5, 108, 172]
abbrev dktX11_rots_0 : List UInt8 := dkwX11_rots_0 ++ []
theorem dksX11_rots_0 : cX11_rots.data.toList.drop 0 = dktX11_rots_0 := by decide +kernel
theorem dX11_rots_0 : decode cX11_rots 0 = .ok (.aload_n 0, 1) := dk_42 (dk_at dksX11_rots_0 0 rfl rfl)
theorem dX11_rots_1 : decode cX11_rots 1 = .ok (.iload_n 1, 1) := dk_27 (dk_at dksX11_rots_0 1 rfl rfl)
theorem dX11_rots_2 : decode cX11_rots 2 = .ok (.iload_n 2, 1) := dk_28 (dk_at dksX11_rots_0 2 rfl rfl)
theorem dX11_rots_3 : decode cX11_rots 3 = .ok (.invokespecial 11, 3) := dk_183 0 11 (dk_at dksX11_rots_0 3 rfl rfl)
theorem dX11_rots_6 : decode cX11_rots 6 = .ok (.iconst 2, 1) := dk_5 (dk_at dksX11_rots_0 6 rfl rfl)
theorem dX11_rots_7 : decode cX11_rots 7 = .ok (.idiv, 1) := dk_108 (dk_at dksX11_rots_0 7 rfl rfl)
theorem dX11_rots_8 : decode cX11_rots 8 = .ok (.ireturn, 1) := dk_172 (dk_at dksX11_rots_0 8 rfl rfl)
def dkwX11_grows_0 : List UInt8 := [27, 27, 5, 108, 96, 172]
abbrev dktX11_grows_0 : List UInt8 := dkwX11_grows_0 ++ []
theorem dksX11_grows_0 : cX11_grows.data.toList.drop 0 = dktX11_grows_0 := by decide +kernel
theorem dX11_grows_0 : decode cX11_grows 0 = .ok (.iload_n 1, 1) := dk_27 (dk_at dksX11_grows_0 0 rfl rfl)
theorem dX11_grows_1 : decode cX11_grows 1 = .ok (.iload_n 1, 1) := dk_27 (dk_at dksX11_grows_0 1 rfl rfl)
theorem dX11_grows_2 : decode cX11_grows 2 = .ok (.iconst 2, 1) := dk_5 (dk_at dksX11_grows_0 2 rfl rfl)
theorem dX11_grows_3 : decode cX11_grows 3 = .ok (.idiv, 1) := dk_108 (dk_at dksX11_grows_0 3 rfl rfl)
theorem dX11_grows_4 : decode cX11_grows 4 = .ok (.iadd, 1) := dk_96 (dk_at dksX11_grows_0 4 rfl rfl)
theorem dX11_grows_5 : decode cX11_grows 5 = .ok (.ireturn, 1) := dk_172 (dk_at dksX11_grows_0 5 rfl rfl)
def dkwX11_flowers_0 : List UInt8 := [42, 27, 183, 0, 15, 6, 108, 172]
abbrev dktX11_flowers_0 : List UInt8 := dkwX11_flowers_0 ++ []
theorem dksX11_flowers_0 : cX11_flowers.data.toList.drop 0 = dktX11_flowers_0 := by decide +kernel
theorem dX11_flowers_0 : decode cX11_flowers 0 = .ok (.aload_n 0, 1) := dk_42 (dk_at dksX11_flowers_0 0 rfl rfl)
theorem dX11_flowers_1 : decode cX11_flowers 1 = .ok (.iload_n 1, 1) := dk_27 (dk_at dksX11_flowers_0 1 rfl rfl)
theorem dX11_flowers_2 : decode cX11_flowers 2 = .ok (.invokespecial 15, 3) := dk_183 0 15 (dk_at dksX11_flowers_0 2 rfl rfl)
theorem dX11_flowers_5 : decode cX11_flowers 5 = .ok (.iconst 3, 1) := dk_6 (dk_at dksX11_flowers_0 5 rfl rfl)
theorem dX11_flowers_6 : decode cX11_flowers 6 = .ok (.idiv, 1) := dk_108 (dk_at dksX11_flowers_0 6 rfl rfl)
theorem dX11_flowers_7 : decode cX11_flowers 7 = .ok (.ireturn, 1) := dk_172 (dk_at dksX11_flowers_0 7 rfl rfl)
def dkwX12_init_0 : List UInt8 := [42, 27, 28, 183, 0, 1, 177]
abbrev dktX12_init_0 : List UInt8 := dkwX12_init_0 ++ []
theorem dksX12_init_0 : cX12_init.data.toList.drop 0 = dktX12_init_0 := by decide +kernel
theorem dX12_init_0 : decode cX12_init 0 = .ok (.aload_n 0, 1) := dk_42 (dk_at dksX12_init_0 0 rfl rfl)
theorem dX12_init_1 : decode cX12_init 1 = .ok (.iload_n 1, 1) := dk_27 (dk_at dksX12_init_0 1 rfl rfl)
theorem dX12_init_2 : decode cX12_init 2 = .ok (.iload_n 2, 1) := dk_28 (dk_at dksX12_init_0 2 rfl rfl)
theorem dX12_init_3 : decode cX12_init 3 = .ok (.invokespecial 1, 3) := dk_183 0 1 (dk_at dksX12_init_0 3 rfl rfl)
theorem dX12_init_6 : decode cX12_init 6 = .ok (.return_, 1) := dk_177 (dk_at dksX12_init_0 6 rfl rfl)
def dkwX12_kind_0 : List UInt8 := [42, 183, 0, 7, 5, 96, 172]
abbrev dktX12_kind_0 : List UInt8 := dkwX12_kind_0 ++ []
theorem dksX12_kind_0 : cX12_kind.data.toList.drop 0 = dktX12_kind_0 := by decide +kernel
theorem dX12_kind_0 : decode cX12_kind 0 = .ok (.aload_n 0, 1) := dk_42 (dk_at dksX12_kind_0 0 rfl rfl)
theorem dX12_kind_1 : decode cX12_kind 1 = .ok (.invokespecial 7, 3) := dk_183 0 7 (dk_at dksX12_kind_0 1 rfl rfl)
theorem dX12_kind_4 : decode cX12_kind 4 = .ok (.iconst 2, 1) := dk_5 (dk_at dksX12_kind_0 4 rfl rfl)
theorem dX12_kind_5 : decode cX12_kind 5 = .ok (.iadd, 1) := dk_96 (dk_at dksX12_kind_0 5 rfl rfl)
theorem dX12_kind_6 : decode cX12_kind 6 = .ok (.ireturn, 1) := dk_172 (dk_at dksX12_kind_0 6 rfl rfl)
def dkwX12_grows_0 : List UInt8 := [42, 27, 28, 29, 183, 0, 11, 27, 96, 172]
abbrev dktX12_grows_0 : List UInt8 := dkwX12_grows_0 ++ []
theorem dksX12_grows_0 : cX12_grows.data.toList.drop 0 = dktX12_grows_0 := by decide +kernel
theorem dX12_grows_0 : decode cX12_grows 0 = .ok (.aload_n 0, 1) := dk_42 (dk_at dksX12_grows_0 0 rfl rfl)
theorem dX12_grows_1 : decode cX12_grows 1 = .ok (.iload_n 1, 1) := dk_27 (dk_at dksX12_grows_0 1 rfl rfl)
theorem dX12_grows_2 : decode cX12_grows 2 = .ok (.iload_n 2, 1) := dk_28 (dk_at dksX12_grows_0 2 rfl rfl)
theorem dX12_grows_3 : decode cX12_grows 3 = .ok (.iload_n 3, 1) := dk_29 (dk_at dksX12_grows_0 3 rfl rfl)
theorem dX12_grows_4 : decode cX12_grows 4 = .ok (.invokespecial 11, 3) := dk_183 0 11 (dk_at dksX12_grows_0 4 rfl rfl)
theorem dX12_grows_7 : decode cX12_grows 7 = .ok (.iload_n 1, 1) := dk_27 (dk_at dksX12_grows_0 7 rfl rfl)
theorem dX12_grows_8 : decode cX12_grows 8 = .ok (.iadd, 1) := dk_96 (dk_at dksX12_grows_0 8 rfl rfl)
theorem dX12_grows_9 : decode cX12_grows 9 = .ok (.ireturn, 1) := dk_172 (dk_at dksX12_grows_0 9 rfl rfl)
def dkwX12_flowers_0 : List UInt8 := [42, 27, 183, 0, 15, 27, 158, 0, 10, 42, 180, 0, 19, 167, 0, 4, 3, 96, 172]
abbrev dktX12_flowers_0 : List UInt8 := dkwX12_flowers_0 ++ []
theorem dksX12_flowers_0 : cX12_flowers.data.toList.drop 0 = dktX12_flowers_0 := by decide +kernel
theorem dX12_flowers_0 : decode cX12_flowers 0 = .ok (.aload_n 0, 1) := dk_42 (dk_at dksX12_flowers_0 0 rfl rfl)
theorem dX12_flowers_1 : decode cX12_flowers 1 = .ok (.iload_n 1, 1) := dk_27 (dk_at dksX12_flowers_0 1 rfl rfl)
theorem dX12_flowers_2 : decode cX12_flowers 2 = .ok (.invokespecial 15, 3) := dk_183 0 15 (dk_at dksX12_flowers_0 2 rfl rfl)
theorem dX12_flowers_5 : decode cX12_flowers 5 = .ok (.iload_n 1, 1) := dk_27 (dk_at dksX12_flowers_0 5 rfl rfl)
theorem dX12_flowers_6 : decode cX12_flowers 6 = .ok (.ifCond .le 10, 3) := dk_158 0 10 (dk_at dksX12_flowers_0 6 rfl rfl)
theorem dX12_flowers_9 : decode cX12_flowers 9 = .ok (.aload_n 0, 1) := dk_42 (dk_at dksX12_flowers_0 9 rfl rfl)
theorem dX12_flowers_10 : decode cX12_flowers 10 = .ok (.getfield 19, 3) := dk_180 0 19 (dk_at dksX12_flowers_0 10 rfl rfl)
theorem dX12_flowers_13 : decode cX12_flowers 13 = .ok (.goto 4, 3) := dk_167 0 4 (dk_at dksX12_flowers_0 13 rfl rfl)
theorem dX12_flowers_16 : decode cX12_flowers 16 = .ok (.iconst 0, 1) := dk_3 (dk_at dksX12_flowers_0 16 rfl rfl)
theorem dX12_flowers_17 : decode cX12_flowers 17 = .ok (.iadd, 1) := dk_96 (dk_at dksX12_flowers_0 17 rfl rfl)
theorem dX12_flowers_18 : decode cX12_flowers 18 = .ok (.ireturn, 1) := dk_172 (dk_at dksX12_flowers_0 18 rfl rfl)
def dkwX13_init_0 : List UInt8 := [42, 27, 28, 183, 0, 1, 177]
abbrev dktX13_init_0 : List UInt8 := dkwX13_init_0 ++ []
theorem dksX13_init_0 : cX13_init.data.toList.drop 0 = dktX13_init_0 := by decide +kernel
theorem dX13_init_0 : decode cX13_init 0 = .ok (.aload_n 0, 1) := dk_42 (dk_at dksX13_init_0 0 rfl rfl)
theorem dX13_init_1 : decode cX13_init 1 = .ok (.iload_n 1, 1) := dk_27 (dk_at dksX13_init_0 1 rfl rfl)
theorem dX13_init_2 : decode cX13_init 2 = .ok (.iload_n 2, 1) := dk_28 (dk_at dksX13_init_0 2 rfl rfl)
theorem dX13_init_3 : decode cX13_init 3 = .ok (.invokespecial 1, 3) := dk_183 0 1 (dk_at dksX13_init_0 3 rfl rfl)
theorem dX13_init_6 : decode cX13_init 6 = .ok (.return_, 1) := dk_177 (dk_at dksX13_init_0 6 rfl rfl)
def dkwX13_kind_0 : List UInt8 := [42, 183, 0, 7, 5, 96, 172]
abbrev dktX13_kind_0 : List UInt8 := dkwX13_kind_0 ++ []
theorem dksX13_kind_0 : cX13_kind.data.toList.drop 0 = dktX13_kind_0 := by decide +kernel
theorem dX13_kind_0 : decode cX13_kind 0 = .ok (.aload_n 0, 1) := dk_42 (dk_at dksX13_kind_0 0 rfl rfl)
theorem dX13_kind_1 : decode cX13_kind 1 = .ok (.invokespecial 7, 3) := dk_183 0 7 (dk_at dksX13_kind_0 1 rfl rfl)
theorem dX13_kind_4 : decode cX13_kind 4 = .ok (.iconst 2, 1) := dk_5 (dk_at dksX13_kind_0 4 rfl rfl)
theorem dX13_kind_5 : decode cX13_kind 5 = .ok (.iadd, 1) := dk_96 (dk_at dksX13_kind_0 5 rfl rfl)
theorem dX13_kind_6 : decode cX13_kind 6 = .ok (.ireturn, 1) := dk_172 (dk_at dksX13_kind_0 6 rfl rfl)
def dkwX13_rots_0 : List UInt8 := [42, 27, 28, 183, 0, 15, 28, 96, 172]
abbrev dktX13_rots_0 : List UInt8 := dkwX13_rots_0 ++ []
theorem dksX13_rots_0 : cX13_rots.data.toList.drop 0 = dktX13_rots_0 := by decide +kernel
theorem dX13_rots_0 : decode cX13_rots 0 = .ok (.aload_n 0, 1) := dk_42 (dk_at dksX13_rots_0 0 rfl rfl)
theorem dX13_rots_1 : decode cX13_rots 1 = .ok (.iload_n 1, 1) := dk_27 (dk_at dksX13_rots_0 1 rfl rfl)
theorem dX13_rots_2 : decode cX13_rots 2 = .ok (.iload_n 2, 1) := dk_28 (dk_at dksX13_rots_0 2 rfl rfl)
theorem dX13_rots_3 : decode cX13_rots 3 = .ok (.invokespecial 15, 3) := dk_183 0 15 (dk_at dksX13_rots_0 3 rfl rfl)
theorem dX13_rots_6 : decode cX13_rots 6 = .ok (.iload_n 2, 1) := dk_28 (dk_at dksX13_rots_0 6 rfl rfl)
theorem dX13_rots_7 : decode cX13_rots 7 = .ok (.iadd, 1) := dk_96 (dk_at dksX13_rots_0 7 rfl rfl)
theorem dX13_rots_8 : decode cX13_rots 8 = .ok (.ireturn, 1) := dk_172 (dk_at dksX13_rots_0 8 rfl rfl)
def dkwX13_grows_0 : List UInt8 := [29, 5, 112, 4, 160, 0, 7, 27, 167, 0, 10, 42, 27, 28, 29, 183, 0, 11, 172]
abbrev dktX13_grows_0 : List UInt8 := dkwX13_grows_0 ++ []
theorem dksX13_grows_0 : cX13_grows.data.toList.drop 0 = dktX13_grows_0 := by decide +kernel
theorem dX13_grows_0 : decode cX13_grows 0 = .ok (.iload_n 3, 1) := dk_29 (dk_at dksX13_grows_0 0 rfl rfl)
theorem dX13_grows_1 : decode cX13_grows 1 = .ok (.iconst 2, 1) := dk_5 (dk_at dksX13_grows_0 1 rfl rfl)
theorem dX13_grows_2 : decode cX13_grows 2 = .ok (.irem, 1) := dk_112 (dk_at dksX13_grows_0 2 rfl rfl)
theorem dX13_grows_3 : decode cX13_grows 3 = .ok (.iconst 1, 1) := dk_4 (dk_at dksX13_grows_0 3 rfl rfl)
theorem dX13_grows_4 : decode cX13_grows 4 = .ok (.if_icmp .ne 7, 3) := dk_160 0 7 (dk_at dksX13_grows_0 4 rfl rfl)
theorem dX13_grows_7 : decode cX13_grows 7 = .ok (.iload_n 1, 1) := dk_27 (dk_at dksX13_grows_0 7 rfl rfl)
theorem dX13_grows_8 : decode cX13_grows 8 = .ok (.goto 10, 3) := dk_167 0 10 (dk_at dksX13_grows_0 8 rfl rfl)
theorem dX13_grows_11 : decode cX13_grows 11 = .ok (.aload_n 0, 1) := dk_42 (dk_at dksX13_grows_0 11 rfl rfl)
theorem dX13_grows_12 : decode cX13_grows 12 = .ok (.iload_n 1, 1) := dk_27 (dk_at dksX13_grows_0 12 rfl rfl)
theorem dX13_grows_13 : decode cX13_grows 13 = .ok (.iload_n 2, 1) := dk_28 (dk_at dksX13_grows_0 13 rfl rfl)
theorem dX13_grows_14 : decode cX13_grows 14 = .ok (.iload_n 3, 1) := dk_29 (dk_at dksX13_grows_0 14 rfl rfl)
theorem dX13_grows_15 : decode cX13_grows 15 = .ok (.invokespecial 11, 3) := dk_183 0 11 (dk_at dksX13_grows_0 15 rfl rfl)
theorem dX13_grows_18 : decode cX13_grows 18 = .ok (.ireturn, 1) := dk_172 (dk_at dksX13_grows_0 18 rfl rfl)
theorem dX13_flowers_0 : decode cX13_flowers 0 = .ok (.iconst 0, 1) := by decide +kernel
theorem dX13_flowers_1 : decode cX13_flowers 1 = .ok (.ireturn, 1) := by decide +kernel
def dkwX14_init_0 : List UInt8 := [42, 27, 28, 183, 0, 1, 177]
abbrev dktX14_init_0 : List UInt8 := dkwX14_init_0 ++ []
theorem dksX14_init_0 : cX14_init.data.toList.drop 0 = dktX14_init_0 := by decide +kernel
theorem dX14_init_0 : decode cX14_init 0 = .ok (.aload_n 0, 1) := dk_42 (dk_at dksX14_init_0 0 rfl rfl)
theorem dX14_init_1 : decode cX14_init 1 = .ok (.iload_n 1, 1) := dk_27 (dk_at dksX14_init_0 1 rfl rfl)
theorem dX14_init_2 : decode cX14_init 2 = .ok (.iload_n 2, 1) := dk_28 (dk_at dksX14_init_0 2 rfl rfl)
theorem dX14_init_3 : decode cX14_init 3 = .ok (.invokespecial 1, 3) := dk_183 0 1 (dk_at dksX14_init_0 3 rfl rfl)
theorem dX14_init_6 : decode cX14_init 6 = .ok (.return_, 1) := dk_177 (dk_at dksX14_init_0 6 rfl rfl)
def dkwX14_kind_0 : List UInt8 := [42, 183, 0, 7, 8, 96, 172]
abbrev dktX14_kind_0 : List UInt8 := dkwX14_kind_0 ++ []
theorem dksX14_kind_0 : cX14_kind.data.toList.drop 0 = dktX14_kind_0 := by decide +kernel
theorem dX14_kind_0 : decode cX14_kind 0 = .ok (.aload_n 0, 1) := dk_42 (dk_at dksX14_kind_0 0 rfl rfl)
theorem dX14_kind_1 : decode cX14_kind 1 = .ok (.invokespecial 7, 3) := dk_183 0 7 (dk_at dksX14_kind_0 1 rfl rfl)
theorem dX14_kind_4 : decode cX14_kind 4 = .ok (.iconst 5, 1) := dk_8 (dk_at dksX14_kind_0 4 rfl rfl)
theorem dX14_kind_5 : decode cX14_kind 5 = .ok (.iadd, 1) := dk_96 (dk_at dksX14_kind_0 5 rfl rfl)
theorem dX14_kind_6 : decode cX14_kind 6 = .ok (.ireturn, 1) := dk_172 (dk_at dksX14_kind_0 6 rfl rfl)
def dkwX14_rots_0 : List UInt8 := [16, 50, 42, 27, 28, 183, 0, 11, 184, 0, 15, 172]
abbrev dktX14_rots_0 : List UInt8 := dkwX14_rots_0 ++ []
theorem dksX14_rots_0 : cX14_rots.data.toList.drop 0 = dktX14_rots_0 := by decide +kernel
theorem dX14_rots_0 : decode cX14_rots 0 = .ok (.bipush 50, 2) := dk_16 50 (dk_at dksX14_rots_0 0 rfl rfl)
theorem dX14_rots_2 : decode cX14_rots 2 = .ok (.aload_n 0, 1) := dk_42 (dk_at dksX14_rots_0 2 rfl rfl)
theorem dX14_rots_3 : decode cX14_rots 3 = .ok (.iload_n 1, 1) := dk_27 (dk_at dksX14_rots_0 3 rfl rfl)
theorem dX14_rots_4 : decode cX14_rots 4 = .ok (.iload_n 2, 1) := dk_28 (dk_at dksX14_rots_0 4 rfl rfl)
theorem dX14_rots_5 : decode cX14_rots 5 = .ok (.invokespecial 11, 3) := dk_183 0 11 (dk_at dksX14_rots_0 5 rfl rfl)
theorem dX14_rots_8 : decode cX14_rots 8 = .ok (.invokestatic 15, 3) := dk_184 0 15 (dk_at dksX14_rots_0 8 rfl rfl)
theorem dX14_rots_11 : decode cX14_rots 11 = .ok (.ireturn, 1) := dk_172 (dk_at dksX14_rots_0 11 rfl rfl)
theorem dX14_grows_0 : decode cX14_grows 0 = .ok (.iload_n 1, 1) := by decide +kernel
theorem dX14_grows_1 : decode cX14_grows 1 = .ok (.ireturn, 1) := by decide +kernel
