set_option maxRecDepth 100000
def dkwX8_init_11 : List UInt8 := [181, 0, 64, 177]
abbrev dktX8_init_11 : List UInt8 := dkwX8_init_11 ++ []
def dkwX8_init_10 : List UInt8 := [16, 32, 16, 32, 16, 32, 16, 32, 16, 32, 182, 0, 60, 42, 180, 0, 17, 3, 16, 40, 79, 42, 4]
abbrev dktX8_init_10 : List UInt8 := dkwX8_init_10 ++ dktX8_init_11
def dkwX8_init_9 : List UInt8 := [16, 117, 16, 97, 16, 114, 16, 100, 16, 115, 16, 32, 182, 0, 60, 42, 16, 32, 16, 59, 16, 32, 16, 32]
abbrev dktX8_init_9 : List UInt8 := dkwX8_init_9 ++ dktX8_init_10
def dkwX8_init_8 : List UInt8 := [16, 59, 16, 32, 16, 102, 16, 105, 16, 110, 16, 100, 16, 115, 182, 0, 60, 42, 16, 24, 16, 32, 16, 103]
abbrev dktX8_init_8 : List UInt8 := dkwX8_init_8 ++ dktX8_init_9
def dkwX8_init_7 : List UInt8 := [16, 59, 16, 32, 16, 112, 16, 97, 16, 121, 16, 115, 16, 32, 16, 57, 182, 0, 60, 42, 16, 16, 16, 32]
abbrev dktX8_init_7 : List UInt8 := dkwX8_init_7 ++ dktX8_init_8
def dkwX8_init_6 : List UInt8 := [42, 3, 16, 114, 16, 111, 16, 116, 16, 115, 16, 32, 16, 50, 16, 48, 16, 32, 182, 0, 60, 42, 16, 8]
abbrev dktX8_init_6 : List UInt8 := dkwX8_init_6 ++ dktX8_init_7
def dkwX8_init_5 : List UInt8 := [181, 0, 57, 3, 60, 27, 16, 8, 162, 0, 16, 42, 180, 0, 26, 27, 8, 79, 132, 1, 1, 167, 255, 240]
abbrev dktX8_init_5 : List UInt8 := dkwX8_init_5 ++ dktX8_init_6
def dkwX8_init_4 : List UInt8 := [181, 0, 47, 42, 7, 188, 10, 181, 0, 51, 42, 7, 188, 10, 181, 0, 54, 42, 17, 0, 160, 188, 10]
abbrev dktX8_init_4 : List UInt8 := dkwX8_init_4 ++ dktX8_init_5
def dkwX8_init_3 : List UInt8 := [188, 10, 181, 0, 38, 42, 16, 24, 188, 10, 181, 0, 41, 42, 2, 181, 0, 44, 42, 7, 188, 4]
abbrev dktX8_init_3 : List UInt8 := dkwX8_init_3 ++ dktX8_init_4
def dkwX8_init_2 : List UInt8 := [188, 10, 181, 0, 29, 42, 16, 24, 188, 10, 181, 0, 32, 42, 16, 24, 188, 10, 181, 0, 35, 42, 16, 8]
abbrev dktX8_init_2 : List UInt8 := dkwX8_init_2 ++ dktX8_init_3
def dkwX8_init_1 : List UInt8 := [17, 0, 160, 188, 10, 181, 0, 20, 42, 6, 181, 0, 23, 42, 16, 8, 188, 10, 181, 0, 26, 42, 16, 8]
abbrev dktX8_init_1 : List UInt8 := dkwX8_init_1 ++ dktX8_init_2
def dkwX8_init_0 : List UInt8 := [42, 183, 0, 7, 42, 17, 3, 192, 188, 10, 181, 0, 13, 42, 16, 6, 188, 10, 181, 0, 17, 42]
abbrev dktX8_init_0 : List UInt8 := dkwX8_init_0 ++ dktX8_init_1
theorem dksX8_init_0 : cX8_init.data.toList.drop 0 = dktX8_init_0 := by decide +kernel
theorem dksX8_init_1 : cX8_init.data.toList.drop 22 = dktX8_init_1 := dk_seg dksX8_init_0 22 rfl rfl
theorem dksX8_init_2 : cX8_init.data.toList.drop 46 = dktX8_init_2 := dk_seg dksX8_init_1 24 rfl rfl
theorem dksX8_init_3 : cX8_init.data.toList.drop 70 = dktX8_init_3 := dk_seg dksX8_init_2 24 rfl rfl
theorem dksX8_init_4 : cX8_init.data.toList.drop 92 = dktX8_init_4 := dk_seg dksX8_init_3 22 rfl rfl
theorem dksX8_init_5 : cX8_init.data.toList.drop 115 = dktX8_init_5 := dk_seg dksX8_init_4 23 rfl rfl
theorem dksX8_init_6 : cX8_init.data.toList.drop 139 = dktX8_init_6 := dk_seg dksX8_init_5 24 rfl rfl
theorem dksX8_init_7 : cX8_init.data.toList.drop 163 = dktX8_init_7 := dk_seg dksX8_init_6 24 rfl rfl
theorem dksX8_init_8 : cX8_init.data.toList.drop 187 = dktX8_init_8 := dk_seg dksX8_init_7 24 rfl rfl
theorem dksX8_init_9 : cX8_init.data.toList.drop 211 = dktX8_init_9 := dk_seg dksX8_init_8 24 rfl rfl
theorem dksX8_init_10 : cX8_init.data.toList.drop 235 = dktX8_init_10 := dk_seg dksX8_init_9 24 rfl rfl
theorem dksX8_init_11 : cX8_init.data.toList.drop 258 = dktX8_init_11 := dk_seg dksX8_init_10 23 rfl rfl
theorem dX8_init_0 : decode cX8_init 0 = .ok (.aload_n 0, 1) := dk_42 (dk_at dksX8_init_0 0 rfl rfl)
theorem dX8_init_1 : decode cX8_init 1 = .ok (.invokespecial 7, 3) := dk_183 0 7 (dk_at dksX8_init_0 1 rfl rfl)
theorem dX8_init_4 : decode cX8_init 4 = .ok (.aload_n 0, 1) := dk_42 (dk_at dksX8_init_0 4 rfl rfl)
theorem dX8_init_5 : decode cX8_init 5 = .ok (.sipush 960, 3) := dk_17 3 192 (dk_at dksX8_init_0 5 rfl rfl)
theorem dX8_init_8 : decode cX8_init 8 = .ok (.newarray .int, 2) := dk_188_10 (dk_at dksX8_init_0 8 rfl rfl)
theorem dX8_init_10 : decode cX8_init 10 = .ok (.putfield 13, 3) := dk_181 0 13 (dk_at dksX8_init_0 10 rfl rfl)
theorem dX8_init_13 : decode cX8_init 13 = .ok (.aload_n 0, 1) := dk_42 (dk_at dksX8_init_0 13 rfl rfl)
theorem dX8_init_14 : decode cX8_init 14 = .ok (.bipush 6, 2) := dk_16 6 (dk_at dksX8_init_0 14 rfl rfl)
theorem dX8_init_16 : decode cX8_init 16 = .ok (.newarray .int, 2) := dk_188_10 (dk_at dksX8_init_0 16 rfl rfl)
theorem dX8_init_18 : decode cX8_init 18 = .ok (.putfield 17, 3) := dk_181 0 17 (dk_at dksX8_init_0 18 rfl rfl)
theorem dX8_init_21 : decode cX8_init 21 = .ok (.aload_n 0, 1) := dk_42 (dk_at dksX8_init_0 21 rfl rfl)
theorem dX8_init_22 : decode cX8_init 22 = .ok (.sipush 160, 3) := dk_17 0 160 (dk_at dksX8_init_1 0 rfl rfl)
theorem dX8_init_25 : decode cX8_init 25 = .ok (.newarray .int, 2) := dk_188_10 (dk_at dksX8_init_1 3 rfl rfl)
theorem dX8_init_27 : decode cX8_init 27 = .ok (.putfield 20, 3) := dk_181 0 20 (dk_at dksX8_init_1 5 rfl rfl)
theorem dX8_init_30 : decode cX8_init 30 = .ok (.aload_n 0, 1) := dk_42 (dk_at dksX8_init_1 8 rfl rfl)
theorem dX8_init_31 : decode cX8_init 31 = .ok (.iconst 3, 1) := dk_6 (dk_at dksX8_init_1 9 rfl rfl)
theorem dX8_init_32 : decode cX8_init 32 = .ok (.putfield 23, 3) := dk_181 0 23 (dk_at dksX8_init_1 10 rfl rfl)
theorem dX8_init_35 : decode cX8_init 35 = .ok (.aload_n 0, 1) := dk_42 (dk_at dksX8_init_1 13 rfl rfl)
theorem dX8_init_36 : decode cX8_init 36 = .ok (.bipush 8, 2) := dk_16 8 (dk_at dksX8_init_1 14 rfl rfl)
theorem dX8_init_38 : decode cX8_init 38 = .ok (.newarray .int, 2) := dk_188_10 (dk_at dksX8_init_1 16 rfl rfl)
theorem dX8_init_40 : decode cX8_init 40 = .ok (.putfield 26, 3) := dk_181 0 26 (dk_at dksX8_init_1 18 rfl rfl)
theorem dX8_init_43 : decode cX8_init 43 = .ok (.aload_n 0, 1) := dk_42 (dk_at dksX8_init_1 21 rfl rfl)
theorem dX8_init_44 : decode cX8_init 44 = .ok (.bipush 8, 2) := dk_16 8 (dk_at dksX8_init_1 22 rfl rfl)
theorem dX8_init_46 : decode cX8_init 46 = .ok (.newarray .int, 2) := dk_188_10 (dk_at dksX8_init_2 0 rfl rfl)
theorem dX8_init_48 : decode cX8_init 48 = .ok (.putfield 29, 3) := dk_181 0 29 (dk_at dksX8_init_2 2 rfl rfl)
theorem dX8_init_51 : decode cX8_init 51 = .ok (.aload_n 0, 1) := dk_42 (dk_at dksX8_init_2 5 rfl rfl)
theorem dX8_init_52 : decode cX8_init 52 = .ok (.bipush 24, 2) := dk_16 24 (dk_at dksX8_init_2 6 rfl rfl)
theorem dX8_init_54 : decode cX8_init 54 = .ok (.newarray .int, 2) := dk_188_10 (dk_at dksX8_init_2 8 rfl rfl)
theorem dX8_init_56 : decode cX8_init 56 = .ok (.putfield 32, 3) := dk_181 0 32 (dk_at dksX8_init_2 10 rfl rfl)
theorem dX8_init_59 : decode cX8_init 59 = .ok (.aload_n 0, 1) := dk_42 (dk_at dksX8_init_2 13 rfl rfl)
theorem dX8_init_60 : decode cX8_init 60 = .ok (.bipush 24, 2) := dk_16 24 (dk_at dksX8_init_2 14 rfl rfl)
theorem dX8_init_62 : decode cX8_init 62 = .ok (.newarray .int, 2) := dk_188_10 (dk_at dksX8_init_2 16 rfl rfl)
theorem dX8_init_64 : decode cX8_init 64 = .ok (.putfield 35, 3) := dk_181 0 35 (dk_at dksX8_init_2 18 rfl rfl)
theorem dX8_init_67 : decode cX8_init 67 = .ok (.aload_n 0, 1) := dk_42 (dk_at dksX8_init_2 21 rfl rfl)
theorem dX8_init_68 : decode cX8_init 68 = .ok (.bipush 8, 2) := dk_16 8 (dk_at dksX8_init_2 22 rfl rfl)
theorem dX8_init_70 : decode cX8_init 70 = .ok (.newarray .int, 2) := dk_188_10 (dk_at dksX8_init_3 0 rfl rfl)
theorem dX8_init_72 : decode cX8_init 72 = .ok (.putfield 38, 3) := dk_181 0 38 (dk_at dksX8_init_3 2 rfl rfl)
theorem dX8_init_75 : decode cX8_init 75 = .ok (.aload_n 0, 1) := dk_42 (dk_at dksX8_init_3 5 rfl rfl)
theorem dX8_init_76 : decode cX8_init 76 = .ok (.bipush 24, 2) := dk_16 24 (dk_at dksX8_init_3 6 rfl rfl)
theorem dX8_init_78 : decode cX8_init 78 = .ok (.newarray .int, 2) := dk_188_10 (dk_at dksX8_init_3 8 rfl rfl)
theorem dX8_init_80 : decode cX8_init 80 = .ok (.putfield 41, 3) := dk_181 0 41 (dk_at dksX8_init_3 10 rfl rfl)
theorem dX8_init_83 : decode cX8_init 83 = .ok (.aload_n 0, 1) := dk_42 (dk_at dksX8_init_3 13 rfl rfl)
theorem dX8_init_84 : decode cX8_init 84 = .ok (.iconst (-1), 1) := dk_2 (dk_at dksX8_init_3 14 rfl rfl)
theorem dX8_init_85 : decode cX8_init 85 = .ok (.putfield 44, 3) := dk_181 0 44 (dk_at dksX8_init_3 15 rfl rfl)
theorem dX8_init_88 : decode cX8_init 88 = .ok (.aload_n 0, 1) := dk_42 (dk_at dksX8_init_3 18 rfl rfl)
theorem dX8_init_89 : decode cX8_init 89 = .ok (.iconst 4, 1) := dk_7 (dk_at dksX8_init_3 19 rfl rfl)
theorem dX8_init_90 : decode cX8_init 90 = .ok (.newarray .boolean, 2) := dk_188_4 (dk_at dksX8_init_3 20 rfl rfl)
theorem dX8_init_92 : decode cX8_init 92 = .ok (.putfield 47, 3) := dk_181 0 47 (dk_at dksX8_init_4 0 rfl rfl)
theorem dX8_init_95 : decode cX8_init 95 = .ok (.aload_n 0, 1) := dk_42 (dk_at dksX8_init_4 3 rfl rfl)
theorem dX8_init_96 : decode cX8_init 96 = .ok (.iconst 4, 1) := dk_7 (dk_at dksX8_init_4 4 rfl rfl)
theorem dX8_init_97 : decode cX8_init 97 = .ok (.newarray .int, 2) := dk_188_10 (dk_at dksX8_init_4 5 rfl rfl)
theorem dX8_init_99 : decode cX8_init 99 = .ok (.putfield 51, 3) := dk_181 0 51 (dk_at dksX8_init_4 7 rfl rfl)
theorem dX8_init_102 : decode cX8_init 102 = .ok (.aload_n 0, 1) := dk_42 (dk_at dksX8_init_4 10 rfl rfl)
theorem dX8_init_103 : decode cX8_init 103 = .ok (.iconst 4, 1) := dk_7 (dk_at dksX8_init_4 11 rfl rfl)
theorem dX8_init_104 : decode cX8_init 104 = .ok (.newarray .int, 2) := dk_188_10 (dk_at dksX8_init_4 12 rfl rfl)
theorem dX8_init_106 : decode cX8_init 106 = .ok (.putfield 54, 3) := dk_181 0 54 (dk_at dksX8_init_4 14 rfl rfl)
theorem dX8_init_109 : decode cX8_init 109 = .ok (.aload_n 0, 1) := dk_42 (dk_at dksX8_init_4 17 rfl rfl)
theorem dX8_init_110 : decode cX8_init 110 = .ok (.sipush 160, 3) := dk_17 0 160 (dk_at dksX8_init_4 18 rfl rfl)
theorem dX8_init_113 : decode cX8_init 113 = .ok (.newarray .int, 2) := dk_188_10 (dk_at dksX8_init_4 21 rfl rfl)
theorem dX8_init_115 : decode cX8_init 115 = .ok (.putfield 57, 3) := dk_181 0 57 (dk_at dksX8_init_5 0 rfl rfl)
theorem dX8_init_118 : decode cX8_init 118 = .ok (.iconst 0, 1) := dk_3 (dk_at dksX8_init_5 3 rfl rfl)
theorem dX8_init_119 : decode cX8_init 119 = .ok (.istore_n 1, 1) := dk_60 (dk_at dksX8_init_5 4 rfl rfl)
theorem dX8_init_120 : decode cX8_init 120 = .ok (.iload_n 1, 1) := dk_27 (dk_at dksX8_init_5 5 rfl rfl)
theorem dX8_init_121 : decode cX8_init 121 = .ok (.bipush 8, 2) := dk_16 8 (dk_at dksX8_init_5 6 rfl rfl)
theorem dX8_init_123 : decode cX8_init 123 = .ok (.if_icmp .ge 16, 3) := dk_162 0 16 (dk_at dksX8_init_5 8 rfl rfl)
theorem dX8_init_126 : decode cX8_init 126 = .ok (.aload_n 0, 1) := dk_42 (dk_at dksX8_init_5 11 rfl rfl)
theorem dX8_init_127 : decode cX8_init 127 = .ok (.getfield 26, 3) := dk_180 0 26 (dk_at dksX8_init_5 12 rfl rfl)
theorem dX8_init_130 : decode cX8_init 130 = .ok (.iload_n 1, 1) := dk_27 (dk_at dksX8_init_5 15 rfl rfl)
theorem dX8_init_131 : decode cX8_init 131 = .ok (.iconst 5, 1) := dk_8 (dk_at dksX8_init_5 16 rfl rfl)
theorem dX8_init_132 : decode cX8_init 132 = .ok (.iastore, 1) := dk_79 (dk_at dksX8_init_5 17 rfl rfl)
theorem dX8_init_133 : decode cX8_init 133 = .ok (.iinc 1 1, 3) := dk_132 1 1 (dk_at dksX8_init_5 18 rfl rfl)
theorem dX8_init_136 : decode cX8_init 136 = .ok (.goto (-16), 3) := dk_167 255 240 (dk_at dksX8_init_5 21 rfl rfl)
theorem dX8_init_139 : decode cX8_init 139 = .ok (.aload_n 0, 1) := dk_42 (dk_at dksX8_init_6 0 rfl rfl)
theorem dX8_init_140 : decode cX8_init 140 = .ok (.iconst 0, 1) := dk_3 (dk_at dksX8_init_6 1 rfl rfl)
theorem dX8_init_141 : decode cX8_init 141 = .ok (.bipush 114, 2) := dk_16 114 (dk_at dksX8_init_6 2 rfl rfl)
theorem dX8_init_143 : decode cX8_init 143 = .ok (.bipush 111, 2) := dk_16 111 (dk_at dksX8_init_6 4 rfl rfl)
theorem dX8_init_145 : decode cX8_init 145 = .ok (.bipush 116, 2) := dk_16 116 (dk_at dksX8_init_6 6 rfl rfl)
theorem dX8_init_147 : decode cX8_init 147 = .ok (.bipush 115, 2) := dk_16 115 (dk_at dksX8_init_6 8 rfl rfl)
theorem dX8_init_149 : decode cX8_init 149 = .ok (.bipush 32, 2) := dk_16 32 (dk_at dksX8_init_6 10 rfl rfl)
theorem dX8_init_151 : decode cX8_init 151 = .ok (.bipush 50, 2) := dk_16 50 (dk_at dksX8_init_6 12 rfl rfl)
theorem dX8_init_153 : decode cX8_init 153 = .ok (.bipush 48, 2) := dk_16 48 (dk_at dksX8_init_6 14 rfl rfl)
theorem dX8_init_155 : decode cX8_init 155 = .ok (.bipush 32, 2) := dk_16 32 (dk_at dksX8_init_6 16 rfl rfl)
theorem dX8_init_157 : decode cX8_init 157 = .ok (.invokevirtual 60, 3) := dk_182 0 60 (dk_at dksX8_init_6 18 rfl rfl)
theorem dX8_init_160 : decode cX8_init 160 = .ok (.aload_n 0, 1) := dk_42 (dk_at dksX8_init_6 21 rfl rfl)
theorem dX8_init_161 : decode cX8_init 161 = .ok (.bipush 8, 2) := dk_16 8 (dk_at dksX8_init_6 22 rfl rfl)
theorem dX8_init_163 : decode cX8_init 163 = .ok (.bipush 59, 2) := dk_16 59 (dk_at dksX8_init_7 0 rfl rfl)
theorem dX8_init_165 : decode cX8_init 165 = .ok (.bipush 32, 2) := dk_16 32 (dk_at dksX8_init_7 2 rfl rfl)
theorem dX8_init_167 : decode cX8_init 167 = .ok (.bipush 112, 2) := dk_16 112 (dk_at dksX8_init_7 4 rfl rfl)
theorem dX8_init_169 : decode cX8_init 169 = .ok (.bipush 97, 2) := dk_16 97 (dk_at dksX8_init_7 6 rfl rfl)
theorem dX8_init_171 : decode cX8_init 171 = .ok (.bipush 121, 2) := dk_16 121 (dk_at dksX8_init_7 8 rfl rfl)
theorem dX8_init_173 : decode cX8_init 173 = .ok (.bipush 115, 2) := dk_16 115 (dk_at dksX8_init_7 10 rfl rfl)
theorem dX8_init_175 : decode cX8_init 175 = .ok (.bipush 32, 2) := dk_16 32 (dk_at dksX8_init_7 12 rfl rfl)
theorem dX8_init_177 : decode cX8_init 177 = .ok (.bipush 57, 2) := dk_16 57 (dk_at dksX8_init_7 14 rfl rfl)
theorem dX8_init_179 : decode cX8_init 179 = .ok (.invokevirtual 60, 3) := dk_182 0 60 (dk_at dksX8_init_7 16 rfl rfl)
theorem dX8_init_182 : decode cX8_init 182 = .ok (.aload_n 0, 1) := dk_42 (dk_at dksX8_init_7 19 rfl rfl)
theorem dX8_init_183 : decode cX8_init 183 = .ok (.bipush 16, 2) := dk_16 16 (dk_at dksX8_init_7 20 rfl rfl)
theorem dX8_init_185 : decode cX8_init 185 = .ok (.bipush 32, 2) := dk_16 32 (dk_at dksX8_init_7 22 rfl rfl)
theorem dX8_init_187 : decode cX8_init 187 = .ok (.bipush 59, 2) := dk_16 59 (dk_at dksX8_init_8 0 rfl rfl)
theorem dX8_init_189 : decode cX8_init 189 = .ok (.bipush 32, 2) := dk_16 32 (dk_at dksX8_init_8 2 rfl rfl)
theorem dX8_init_191 : decode cX8_init 191 = .ok (.bipush 102, 2) := dk_16 102 (dk_at dksX8_init_8 4 rfl rfl)
theorem dX8_init_193 : decode cX8_init 193 = .ok (.bipush 105, 2) := dk_16 105 (dk_at dksX8_init_8 6 rfl rfl)
theorem dX8_init_195 : decode cX8_init 195 = .ok (.bipush 110, 2) := dk_16 110 (dk_at dksX8_init_8 8 rfl rfl)
theorem dX8_init_197 : decode cX8_init 197 = .ok (.bipush 100, 2) := dk_16 100 (dk_at dksX8_init_8 10 rfl rfl)
theorem dX8_init_199 : decode cX8_init 199 = .ok (.bipush 115, 2) := dk_16 115 (dk_at dksX8_init_8 12 rfl rfl)
theorem dX8_init_201 : decode cX8_init 201 = .ok (.invokevirtual 60, 3) := dk_182 0 60 (dk_at dksX8_init_8 14 rfl rfl)
theorem dX8_init_204 : decode cX8_init 204 = .ok (.aload_n 0, 1) := dk_42 (dk_at dksX8_init_8 17 rfl rfl)
theorem dX8_init_205 : decode cX8_init 205 = .ok (.bipush 24, 2) := dk_16 24 (dk_at dksX8_init_8 18 rfl rfl)
theorem dX8_init_207 : decode cX8_init 207 = .ok (.bipush 32, 2) := dk_16 32 (dk_at dksX8_init_8 20 rfl rfl)
theorem dX8_init_209 : decode cX8_init 209 = .ok (.bipush 103, 2) := dk_16 103 (dk_at dksX8_init_8 22 rfl rfl)
theorem dX8_init_211 : decode cX8_init 211 = .ok (.bipush 117, 2) := dk_16 117 (dk_at dksX8_init_9 0 rfl rfl)
theorem dX8_init_213 : decode cX8_init 213 = .ok (.bipush 97, 2) := dk_16 97 (dk_at dksX8_init_9 2 rfl rfl)
theorem dX8_init_215 : decode cX8_init 215 = .ok (.bipush 114, 2) := dk_16 114 (dk_at dksX8_init_9 4 rfl rfl)
theorem dX8_init_217 : decode cX8_init 217 = .ok (.bipush 100, 2) := dk_16 100 (dk_at dksX8_init_9 6 rfl rfl)
theorem dX8_init_219 : decode cX8_init 219 = .ok (.bipush 115, 2) := dk_16 115 (dk_at dksX8_init_9 8 rfl rfl)
theorem dX8_init_221 : decode cX8_init 221 = .ok (.bipush 32, 2) := dk_16 32 (dk_at dksX8_init_9 10 rfl rfl)
theorem dX8_init_223 : decode cX8_init 223 = .ok (.invokevirtual 60, 3) := dk_182 0 60 (dk_at dksX8_init_9 12 rfl rfl)
theorem dX8_init_226 : decode cX8_init 226 = .ok (.aload_n 0, 1) := dk_42 (dk_at dksX8_init_9 15 rfl rfl)
theorem dX8_init_227 : decode cX8_init 227 = .ok (.bipush 32, 2) := dk_16 32 (dk_at dksX8_init_9 16 rfl rfl)
theorem dX8_init_229 : decode cX8_init 229 = .ok (.bipush 59, 2) := dk_16 59 (dk_at dksX8_init_9 18 rfl rfl)
theorem dX8_init_231 : decode cX8_init 231 = .ok (.bipush 32, 2) := dk_16 32 (dk_at dksX8_init_9 20 rfl rfl)
theorem dX8_init_233 : decode cX8_init 233 = .ok (.bipush 32, 2) := dk_16 32 (dk_at dksX8_init_9 22 rfl rfl)
theorem dX8_init_235 : decode cX8_init 235 = .ok (.bipush 32, 2) := dk_16 32 (dk_at dksX8_init_10 0 rfl rfl)
theorem dX8_init_237 : decode cX8_init 237 = .ok (.bipush 32, 2) := dk_16 32 (dk_at dksX8_init_10 2 rfl rfl)
theorem dX8_init_239 : decode cX8_init 239 = .ok (.bipush 32, 2) := dk_16 32 (dk_at dksX8_init_10 4 rfl rfl)
theorem dX8_init_241 : decode cX8_init 241 = .ok (.bipush 32, 2) := dk_16 32 (dk_at dksX8_init_10 6 rfl rfl)
theorem dX8_init_243 : decode cX8_init 243 = .ok (.bipush 32, 2) := dk_16 32 (dk_at dksX8_init_10 8 rfl rfl)
theorem dX8_init_245 : decode cX8_init 245 = .ok (.invokevirtual 60, 3) := dk_182 0 60 (dk_at dksX8_init_10 10 rfl rfl)
theorem dX8_init_248 : decode cX8_init 248 = .ok (.aload_n 0, 1) := dk_42 (dk_at dksX8_init_10 13 rfl rfl)
theorem dX8_init_249 : decode cX8_init 249 = .ok (.getfield 17, 3) := dk_180 0 17 (dk_at dksX8_init_10 14 rfl rfl)
theorem dX8_init_252 : decode cX8_init 252 = .ok (.iconst 0, 1) := dk_3 (dk_at dksX8_init_10 17 rfl rfl)
theorem dX8_init_253 : decode cX8_init 253 = .ok (.bipush 40, 2) := dk_16 40 (dk_at dksX8_init_10 18 rfl rfl)
theorem dX8_init_255 : decode cX8_init 255 = .ok (.iastore, 1) := dk_79 (dk_at dksX8_init_10 20 rfl rfl)
theorem dX8_init_256 : decode cX8_init 256 = .ok (.aload_n 0, 1) := dk_42 (dk_at dksX8_init_10 21 rfl rfl)
theorem dX8_init_257 : decode cX8_init 257 = .ok (.iconst 1, 1) := dk_4 (dk_at dksX8_init_10 22 rfl rfl)
theorem dX8_init_258 : decode cX8_init 258 = .ok (.putfield 64, 3) := dk_181 0 64 (dk_at dksX8_init_11 0 rfl rfl)
theorem dX8_init_261 : decode cX8_init 261 = .ok (.return_, 1) := dk_177 (dk_at dksX8_init_11 3 rfl rfl)
def dkwX8_spell_3 : List UInt8 := [27, 16, 7, 96, 21, 9, 79, 177]
abbrev dktX8_spell_3 : List UInt8 := dkwX8_spell_3 ++ []
def dkwX8_spell_2 : List UInt8 := [180, 0, 13, 27, 8, 96, 21, 7, 79, 42, 180, 0, 13, 27, 16, 6, 96, 21, 8, 79, 42, 180, 0, 13]
abbrev dktX8_spell_2 : List UInt8 := dkwX8_spell_2 ++ dktX8_spell_3
def dkwX8_spell_1 : List UInt8 := [21, 4, 79, 42, 180, 0, 13, 27, 6, 96, 21, 5, 79, 42, 180, 0, 13, 27, 7, 96, 21, 6, 79, 42]
abbrev dktX8_spell_1 : List UInt8 := dkwX8_spell_1 ++ dktX8_spell_2
def dkwX8_spell_0 : List UInt8 := [42, 180, 0, 13, 27, 28, 79, 42, 180, 0, 13, 27, 4, 96, 29, 79, 42, 180, 0, 13, 27, 5, 96]
abbrev dktX8_spell_0 : List UInt8 := dkwX8_spell_0 ++ dktX8_spell_1
theorem dksX8_spell_0 : cX8_spell.data.toList.drop 0 = dktX8_spell_0 := by decide +kernel
theorem dksX8_spell_1 : cX8_spell.data.toList.drop 23 = dktX8_spell_1 := dk_seg dksX8_spell_0 23 rfl rfl
theorem dksX8_spell_2 : cX8_spell.data.toList.drop 47 = dktX8_spell_2 := dk_seg dksX8_spell_1 24 rfl rfl
theorem dksX8_spell_3 : cX8_spell.data.toList.drop 71 = dktX8_spell_3 := dk_seg dksX8_spell_2 24 rfl rfl
theorem dX8_spell_0 : decode cX8_spell 0 = .ok (.aload_n 0, 1) := dk_42 (dk_at dksX8_spell_0 0 rfl rfl)
theorem dX8_spell_1 : decode cX8_spell 1 = .ok (.getfield 13, 3) := dk_180 0 13 (dk_at dksX8_spell_0 1 rfl rfl)
theorem dX8_spell_4 : decode cX8_spell 4 = .ok (.iload_n 1, 1) := dk_27 (dk_at dksX8_spell_0 4 rfl rfl)
theorem dX8_spell_5 : decode cX8_spell 5 = .ok (.iload_n 2, 1) := dk_28 (dk_at dksX8_spell_0 5 rfl rfl)
theorem dX8_spell_6 : decode cX8_spell 6 = .ok (.iastore, 1) := dk_79 (dk_at dksX8_spell_0 6 rfl rfl)
theorem dX8_spell_7 : decode cX8_spell 7 = .ok (.aload_n 0, 1) := dk_42 (dk_at dksX8_spell_0 7 rfl rfl)
theorem dX8_spell_8 : decode cX8_spell 8 = .ok (.getfield 13, 3) := dk_180 0 13 (dk_at dksX8_spell_0 8 rfl rfl)
theorem dX8_spell_11 : decode cX8_spell 11 = .ok (.iload_n 1, 1) := dk_27 (dk_at dksX8_spell_0 11 rfl rfl)
theorem dX8_spell_12 : decode cX8_spell 12 = .ok (.iconst 1, 1) := dk_4 (dk_at dksX8_spell_0 12 rfl rfl)
theorem dX8_spell_13 : decode cX8_spell 13 = .ok (.iadd, 1) := dk_96 (dk_at dksX8_spell_0 13 rfl rfl)
theorem dX8_spell_14 : decode cX8_spell 14 = .ok (.iload_n 3, 1) := dk_29 (dk_at dksX8_spell_0 14 rfl rfl)
theorem dX8_spell_15 : decode cX8_spell 15 = .ok (.iastore, 1) := dk_79 (dk_at dksX8_spell_0 15 rfl rfl)
theorem dX8_spell_16 : decode cX8_spell 16 = .ok (.aload_n 0, 1) := dk_42 (dk_at dksX8_spell_0 16 rfl rfl)
theorem dX8_spell_17 : decode cX8_spell 17 = .ok (.getfield 13, 3) := dk_180 0 13 (dk_at dksX8_spell_0 17 rfl rfl)
theorem dX8_spell_20 : decode cX8_spell 20 = .ok (.iload_n 1, 1) := dk_27 (dk_at dksX8_spell_0 20 rfl rfl)
theorem dX8_spell_21 : decode cX8_spell 21 = .ok (.iconst 2, 1) := dk_5 (dk_at dksX8_spell_0 21 rfl rfl)
theorem dX8_spell_22 : decode cX8_spell 22 = .ok (.iadd, 1) := dk_96 (dk_at dksX8_spell_0 22 rfl rfl)
theorem dX8_spell_23 : decode cX8_spell 23 = .ok (.iload 4, 2) := dk_21 4 (dk_at dksX8_spell_1 0 rfl rfl)
theorem dX8_spell_25 : decode cX8_spell 25 = .ok (.iastore, 1) := dk_79 (dk_at dksX8_spell_1 2 rfl rfl)
theorem dX8_spell_26 : decode cX8_spell 26 = .ok (.aload_n 0, 1) := dk_42 (dk_at dksX8_spell_1 3 rfl rfl)
theorem dX8_spell_27 : decode cX8_spell 27 = .ok (.getfield 13, 3) := dk_180 0 13 (dk_at dksX8_spell_1 4 rfl rfl)
theorem dX8_spell_30 : decode cX8_spell 30 = .ok (.iload_n 1, 1) := dk_27 (dk_at dksX8_spell_1 7 rfl rfl)
theorem dX8_spell_31 : decode cX8_spell 31 = .ok (.iconst 3, 1) := dk_6 (dk_at dksX8_spell_1 8 rfl rfl)
theorem dX8_spell_32 : decode cX8_spell 32 = .ok (.iadd, 1) := dk_96 (dk_at dksX8_spell_1 9 rfl rfl)
theorem dX8_spell_33 : decode cX8_spell 33 = .ok (.iload 5, 2) := dk_21 5 (dk_at dksX8_spell_1 10 rfl rfl)
theorem dX8_spell_35 : decode cX8_spell 35 = .ok (.iastore, 1) := dk_79 (dk_at dksX8_spell_1 12 rfl rfl)
theorem dX8_spell_36 : decode cX8_spell 36 = .ok (.aload_n 0, 1) := dk_42 (dk_at dksX8_spell_1 13 rfl rfl)
theorem dX8_spell_37 : decode cX8_spell 37 = .ok (.getfield 13, 3) := dk_180 0 13 (dk_at dksX8_spell_1 14 rfl rfl)
theorem dX8_spell_40 : decode cX8_spell 40 = .ok (.iload_n 1, 1) := dk_27 (dk_at dksX8_spell_1 17 rfl rfl)
theorem dX8_spell_41 : decode cX8_spell 41 = .ok (.iconst 4, 1) := dk_7 (dk_at dksX8_spell_1 18 rfl rfl)
theorem dX8_spell_42 : decode cX8_spell 42 = .ok (.iadd, 1) := dk_96 (dk_at dksX8_spell_1 19 rfl rfl)
theorem dX8_spell_43 : decode cX8_spell 43 = .ok (.iload 6, 2) := dk_21 6 (dk_at dksX8_spell_1 20 rfl rfl)
theorem dX8_spell_45 : decode cX8_spell 45 = .ok (.iastore, 1) := dk_79 (dk_at dksX8_spell_1 22 rfl rfl)
theorem dX8_spell_46 : decode cX8_spell 46 = .ok (.aload_n 0, 1) := dk_42 (dk_at dksX8_spell_1 23 rfl rfl)
theorem dX8_spell_47 : decode cX8_spell 47 = .ok (.getfield 13, 3) := dk_180 0 13 (dk_at dksX8_spell_2 0 rfl rfl)
theorem dX8_spell_50 : decode cX8_spell 50 = .ok (.iload_n 1, 1) := dk_27 (dk_at dksX8_spell_2 3 rfl rfl)
theorem dX8_spell_51 : decode cX8_spell 51 = .ok (.iconst 5, 1) := dk_8 (dk_at dksX8_spell_2 4 rfl rfl)
theorem dX8_spell_52 : decode cX8_spell 52 = .ok (.iadd, 1) := dk_96 (dk_at dksX8_spell_2 5 rfl rfl)
theorem dX8_spell_53 : decode cX8_spell 53 = .ok (.iload 7, 2) := dk_21 7 (dk_at dksX8_spell_2 6 rfl rfl)
theorem dX8_spell_55 : decode cX8_spell 55 = .ok (.iastore, 1) := dk_79 (dk_at dksX8_spell_2 8 rfl rfl)
theorem dX8_spell_56 : decode cX8_spell 56 = .ok (.aload_n 0, 1) := dk_42 (dk_at dksX8_spell_2 9 rfl rfl)
theorem dX8_spell_57 : decode cX8_spell 57 = .ok (.getfield 13, 3) := dk_180 0 13 (dk_at dksX8_spell_2 10 rfl rfl)
theorem dX8_spell_60 : decode cX8_spell 60 = .ok (.iload_n 1, 1) := dk_27 (dk_at dksX8_spell_2 13 rfl rfl)
theorem dX8_spell_61 : decode cX8_spell 61 = .ok (.bipush 6, 2) := dk_16 6 (dk_at dksX8_spell_2 14 rfl rfl)
theorem dX8_spell_63 : decode cX8_spell 63 = .ok (.iadd, 1) := dk_96 (dk_at dksX8_spell_2 16 rfl rfl)
theorem dX8_spell_64 : decode cX8_spell 64 = .ok (.iload 8, 2) := dk_21 8 (dk_at dksX8_spell_2 17 rfl rfl)
theorem dX8_spell_66 : decode cX8_spell 66 = .ok (.iastore, 1) := dk_79 (dk_at dksX8_spell_2 19 rfl rfl)
theorem dX8_spell_67 : decode cX8_spell 67 = .ok (.aload_n 0, 1) := dk_42 (dk_at dksX8_spell_2 20 rfl rfl)
theorem dX8_spell_68 : decode cX8_spell 68 = .ok (.getfield 13, 3) := dk_180 0 13 (dk_at dksX8_spell_2 21 rfl rfl)
theorem dX8_spell_71 : decode cX8_spell 71 = .ok (.iload_n 1, 1) := dk_27 (dk_at dksX8_spell_3 0 rfl rfl)
theorem dX8_spell_72 : decode cX8_spell 72 = .ok (.bipush 7, 2) := dk_16 7 (dk_at dksX8_spell_3 1 rfl rfl)
theorem dX8_spell_74 : decode cX8_spell 74 = .ok (.iadd, 1) := dk_96 (dk_at dksX8_spell_3 3 rfl rfl)
theorem dX8_spell_75 : decode cX8_spell 75 = .ok (.iload 9, 2) := dk_21 9 (dk_at dksX8_spell_3 4 rfl rfl)
theorem dX8_spell_77 : decode cX8_spell 77 = .ok (.iastore, 1) := dk_79 (dk_at dksX8_spell_3 6 rfl rfl)
theorem dX8_spell_78 : decode cX8_spell 78 = .ok (.return_, 1) := dk_177 (dk_at dksX8_spell_3 7 rfl rfl)
def dkwX8_set_2 : List UInt8 := [28, 29, 182, 0, 97, 21, 4, 172]
abbrev dktX8_set_2 : List UInt8 := dkwX8_set_2 ++ []
def dkwX8_set_1 : List UInt8 := [27, 184, 0, 89, 133, 184, 0, 70, 154, 0, 6, 16, 254, 172, 42, 28, 27, 182, 0, 93, 54, 4, 42, 27]
abbrev dktX8_set_1 : List UInt8 := dkwX8_set_1 ++ dktX8_set_2
def dkwX8_set_0 : List UInt8 := [27, 133, 9, 20, 0, 83, 184, 0, 70, 153, 0, 26, 42, 27, 28, 182, 0, 85, 153, 0, 17, 29, 133, 9]
abbrev dktX8_set_0 : List UInt8 := dkwX8_set_0 ++ dktX8_set_1
theorem dksX8_set_0 : cX8_set.data.toList.drop 0 = dktX8_set_0 := by decide +kernel
theorem dksX8_set_1 : cX8_set.data.toList.drop 24 = dktX8_set_1 := dk_seg dksX8_set_0 24 rfl rfl
theorem dksX8_set_2 : cX8_set.data.toList.drop 48 = dktX8_set_2 := dk_seg dksX8_set_1 24 rfl rfl
theorem dX8_set_0 : decode cX8_set 0 = .ok (.iload_n 1, 1) := dk_27 (dk_at dksX8_set_0 0 rfl rfl)
theorem dX8_set_1 : decode cX8_set 1 = .ok (.i2l, 1) := dk_133 (dk_at dksX8_set_0 1 rfl rfl)
theorem dX8_set_2 : decode cX8_set 2 = .ok (.lconst 0, 1) := dk_9 (dk_at dksX8_set_0 2 rfl rfl)
theorem dX8_set_3 : decode cX8_set 3 = .ok (.ldc2_w 83, 3) := dk_20 0 83 (dk_at dksX8_set_0 3 rfl rfl)
theorem dX8_set_6 : decode cX8_set 6 = .ok (.invokestatic 70, 3) := dk_184 0 70 (dk_at dksX8_set_0 6 rfl rfl)
theorem dX8_set_9 : decode cX8_set 9 = .ok (.ifCond .eq 26, 3) := dk_153 0 26 (dk_at dksX8_set_0 9 rfl rfl)
theorem dX8_set_12 : decode cX8_set 12 = .ok (.aload_n 0, 1) := dk_42 (dk_at dksX8_set_0 12 rfl rfl)
theorem dX8_set_13 : decode cX8_set 13 = .ok (.iload_n 1, 1) := dk_27 (dk_at dksX8_set_0 13 rfl rfl)
theorem dX8_set_14 : decode cX8_set 14 = .ok (.iload_n 2, 1) := dk_28 (dk_at dksX8_set_0 14 rfl rfl)
theorem dX8_set_15 : decode cX8_set 15 = .ok (.invokevirtual 85, 3) := dk_182 0 85 (dk_at dksX8_set_0 15 rfl rfl)
theorem dX8_set_18 : decode cX8_set 18 = .ok (.ifCond .eq 17, 3) := dk_153 0 17 (dk_at dksX8_set_0 18 rfl rfl)
theorem dX8_set_21 : decode cX8_set 21 = .ok (.iload_n 3, 1) := dk_29 (dk_at dksX8_set_0 21 rfl rfl)
theorem dX8_set_22 : decode cX8_set 22 = .ok (.i2l, 1) := dk_133 (dk_at dksX8_set_0 22 rfl rfl)
theorem dX8_set_23 : decode cX8_set 23 = .ok (.lconst 0, 1) := dk_9 (dk_at dksX8_set_0 23 rfl rfl)
theorem dX8_set_24 : decode cX8_set 24 = .ok (.iload_n 1, 1) := dk_27 (dk_at dksX8_set_1 0 rfl rfl)
theorem dX8_set_25 : decode cX8_set 25 = .ok (.invokestatic 89, 3) := dk_184 0 89 (dk_at dksX8_set_1 1 rfl rfl)
theorem dX8_set_28 : decode cX8_set 28 = .ok (.i2l, 1) := dk_133 (dk_at dksX8_set_1 4 rfl rfl)
theorem dX8_set_29 : decode cX8_set 29 = .ok (.invokestatic 70, 3) := dk_184 0 70 (dk_at dksX8_set_1 5 rfl rfl)
theorem dX8_set_32 : decode cX8_set 32 = .ok (.ifCond .ne 6, 3) := dk_154 0 6 (dk_at dksX8_set_1 8 rfl rfl)
theorem dX8_set_35 : decode cX8_set 35 = .ok (.bipush (-2), 2) := dk_16 254 (dk_at dksX8_set_1 11 rfl rfl)
theorem dX8_set_37 : decode cX8_set 37 = .ok (.ireturn, 1) := dk_172 (dk_at dksX8_set_1 13 rfl rfl)
theorem dX8_set_38 : decode cX8_set 38 = .ok (.aload_n 0, 1) := dk_42 (dk_at dksX8_set_1 14 rfl rfl)
theorem dX8_set_39 : decode cX8_set 39 = .ok (.iload_n 2, 1) := dk_28 (dk_at dksX8_set_1 15 rfl rfl)
theorem dX8_set_40 : decode cX8_set 40 = .ok (.iload_n 1, 1) := dk_27 (dk_at dksX8_set_1 16 rfl rfl)
theorem dX8_set_41 : decode cX8_set 41 = .ok (.invokevirtual 93, 3) := dk_182 0 93 (dk_at dksX8_set_1 17 rfl rfl)
theorem dX8_set_44 : decode cX8_set 44 = .ok (.istore 4, 2) := dk_54 4 (dk_at dksX8_set_1 20 rfl rfl)
theorem dX8_set_46 : decode cX8_set 46 = .ok (.aload_n 0, 1) := dk_42 (dk_at dksX8_set_1 22 rfl rfl)
theorem dX8_set_47 : decode cX8_set 47 = .ok (.iload_n 1, 1) := dk_27 (dk_at dksX8_set_1 23 rfl rfl)
theorem dX8_set_48 : decode cX8_set 48 = .ok (.iload_n 2, 1) := dk_28 (dk_at dksX8_set_2 0 rfl rfl)
theorem dX8_set_49 : decode cX8_set 49 = .ok (.iload_n 3, 1) := dk_29 (dk_at dksX8_set_2 1 rfl rfl)
theorem dX8_set_50 : decode cX8_set 50 = .ok (.invokevirtual 97, 3) := dk_182 0 97 (dk_at dksX8_set_2 2 rfl rfl)
theorem dX8_set_53 : decode cX8_set 53 = .ok (.iload 4, 2) := dk_21 4 (dk_at dksX8_set_2 5 rfl rfl)
theorem dX8_set_55 : decode cX8_set 55 = .ok (.ireturn, 1) := dk_172 (dk_at dksX8_set_2 7 rfl rfl)
def dkwX8_in_0 : List UInt8 := [30, 32, 148, 155, 0, 14, 30, 22, 4, 148, 157, 0, 7, 4, 167, 0, 4, 3, 172]
abbrev dktX8_in_0 : List UInt8 := dkwX8_in_0 ++ []
theorem dksX8_in_0 : cX8_in.data.toList.drop 0 = dktX8_in_0 := by decide +kernel
theorem dX8_in_0 : decode cX8_in 0 = .ok (.lload_n 0, 1) := dk_30 (dk_at dksX8_in_0 0 rfl rfl)
theorem dX8_in_1 : decode cX8_in 1 = .ok (.lload_n 2, 1) := dk_32 (dk_at dksX8_in_0 1 rfl rfl)
theorem dX8_in_2 : decode cX8_in 2 = .ok (.lcmp, 1) := dk_148 (dk_at dksX8_in_0 2 rfl rfl)
theorem dX8_in_3 : decode cX8_in 3 = .ok (.ifCond .lt 14, 3) := dk_155 0 14 (dk_at dksX8_in_0 3 rfl rfl)
theorem dX8_in_6 : decode cX8_in 6 = .ok (.lload_n 0, 1) := dk_30 (dk_at dksX8_in_0 6 rfl rfl)
theorem dX8_in_7 : decode cX8_in 7 = .ok (.lload 4, 2) := dk_22 4 (dk_at dksX8_in_0 7 rfl rfl)
theorem dX8_in_9 : decode cX8_in 9 = .ok (.lcmp, 1) := dk_148 (dk_at dksX8_in_0 9 rfl rfl)
theorem dX8_in_10 : decode cX8_in 10 = .ok (.ifCond .gt 7, 3) := dk_157 0 7 (dk_at dksX8_in_0 10 rfl rfl)
theorem dX8_in_13 : decode cX8_in 13 = .ok (.iconst 1, 1) := dk_4 (dk_at dksX8_in_0 13 rfl rfl)
theorem dX8_in_14 : decode cX8_in 14 = .ok (.goto 4, 3) := dk_167 0 4 (dk_at dksX8_in_0 14 rfl rfl)
theorem dX8_in_17 : decode cX8_in 17 = .ok (.iconst 0, 1) := dk_3 (dk_at dksX8_in_0 17 rfl rfl)
theorem dX8_in_18 : decode cX8_in 18 = .ok (.ireturn, 1) := dk_172 (dk_at dksX8_in_0 18 rfl rfl)
def dkwX8_isOf_1 : List UInt8 := [182, 0, 80, 153, 0, 7, 4, 167, 0, 4, 3, 172]
abbrev dktX8_isOf_1 : List UInt8 := dkwX8_isOf_1 ++ []
def dkwX8_isOf_0 : List UInt8 := [27, 5, 161, 0, 26, 27, 5, 160, 0, 13, 28, 184, 0, 76, 153, 0, 18, 167, 0, 11, 42, 28]
abbrev dktX8_isOf_0 : List UInt8 := dkwX8_isOf_0 ++ dktX8_isOf_1
theorem dksX8_isOf_0 : cX8_isOf.data.toList.drop 0 = dktX8_isOf_0 := by decide +kernel
theorem dksX8_isOf_1 : cX8_isOf.data.toList.drop 22 = dktX8_isOf_1 := dk_seg dksX8_isOf_0 22 rfl rfl
theorem dX8_isOf_0 : decode cX8_isOf 0 = .ok (.iload_n 1, 1) := dk_27 (dk_at dksX8_isOf_0 0 rfl rfl)
theorem dX8_isOf_1 : decode cX8_isOf 1 = .ok (.iconst 2, 1) := dk_5 (dk_at dksX8_isOf_0 1 rfl rfl)
theorem dX8_isOf_2 : decode cX8_isOf 2 = .ok (.if_icmp .lt 26, 3) := dk_161 0 26 (dk_at dksX8_isOf_0 2 rfl rfl)
theorem dX8_isOf_5 : decode cX8_isOf 5 = .ok (.iload_n 1, 1) := dk_27 (dk_at dksX8_isOf_0 5 rfl rfl)
theorem dX8_isOf_6 : decode cX8_isOf 6 = .ok (.iconst 2, 1) := dk_5 (dk_at dksX8_isOf_0 6 rfl rfl)
theorem dX8_isOf_7 : decode cX8_isOf 7 = .ok (.if_icmp .ne 13, 3) := dk_160 0 13 (dk_at dksX8_isOf_0 7 rfl rfl)
theorem dX8_isOf_10 : decode cX8_isOf 10 = .ok (.iload_n 2, 1) := dk_28 (dk_at dksX8_isOf_0 10 rfl rfl)
theorem dX8_isOf_11 : decode cX8_isOf 11 = .ok (.invokestatic 76, 3) := dk_184 0 76 (dk_at dksX8_isOf_0 11 rfl rfl)
theorem dX8_isOf_14 : decode cX8_isOf 14 = .ok (.ifCond .eq 18, 3) := dk_153 0 18 (dk_at dksX8_isOf_0 14 rfl rfl)
theorem dX8_isOf_17 : decode cX8_isOf 17 = .ok (.goto 11, 3) := dk_167 0 11 (dk_at dksX8_isOf_0 17 rfl rfl)
theorem dX8_isOf_20 : decode cX8_isOf 20 = .ok (.aload_n 0, 1) := dk_42 (dk_at dksX8_isOf_0 20 rfl rfl)
theorem dX8_isOf_21 : decode cX8_isOf 21 = .ok (.iload_n 2, 1) := dk_28 (dk_at dksX8_isOf_0 21 rfl rfl)
theorem dX8_isOf_22 : decode cX8_isOf 22 = .ok (.invokevirtual 80, 3) := dk_182 0 80 (dk_at dksX8_isOf_1 0 rfl rfl)
theorem dX8_isOf_25 : decode cX8_isOf 25 = .ok (.ifCond .eq 7, 3) := dk_153 0 7 (dk_at dksX8_isOf_1 3 rfl rfl)
theorem dX8_isOf_28 : decode cX8_isOf 28 = .ok (.iconst 1, 1) := dk_4 (dk_at dksX8_isOf_1 6 rfl rfl)
theorem dX8_isOf_29 : decode cX8_isOf 29 = .ok (.goto 4, 3) := dk_167 0 4 (dk_at dksX8_isOf_1 7 rfl rfl)
theorem dX8_isOf_32 : decode cX8_isOf 32 = .ok (.iconst 0, 1) := dk_3 (dk_at dksX8_isOf_1 10 rfl rfl)
theorem dX8_isOf_33 : decode cX8_isOf 33 = .ok (.ireturn, 1) := dk_172 (dk_at dksX8_isOf_1 11 rfl rfl)
def dkwX8_isGarden_0 : List UInt8 := [26, 133, 9, 20, 0, 74, 184, 0, 70, 172]
abbrev dktX8_isGarden_0 : List UInt8 := dkwX8_isGarden_0 ++ []
theorem dksX8_isGarden_0 : cX8_isGarden.data.toList.drop 0 = dktX8_isGarden_0 := by decide +kernel
theorem dX8_isGarden_0 : decode cX8_isGarden 0 = .ok (.iload_n 0, 1) := dk_26 (dk_at dksX8_isGarden_0 0 rfl rfl)
theorem dX8_isGarden_1 : decode cX8_isGarden 1 = .ok (.i2l, 1) := dk_133 (dk_at dksX8_isGarden_0 1 rfl rfl)
theorem dX8_isGarden_2 : decode cX8_isGarden 2 = .ok (.lconst 0, 1) := dk_9 (dk_at dksX8_isGarden_0 2 rfl rfl)
theorem dX8_isGarden_3 : decode cX8_isGarden 3 = .ok (.ldc2_w 74, 3) := dk_20 0 74 (dk_at dksX8_isGarden_0 3 rfl rfl)
theorem dX8_isGarden_6 : decode cX8_isGarden 6 = .ok (.invokestatic 70, 3) := dk_184 0 70 (dk_at dksX8_isGarden_0 6 rfl rfl)
theorem dX8_isGarden_9 : decode cX8_isGarden 9 = .ok (.ireturn, 1) := dk_172 (dk_at dksX8_isGarden_0 9 rfl rfl)
def dkwX8_isPlanting_0 : List UInt8 := [27, 133, 9, 42, 180, 0, 67, 4, 100, 133, 184, 0, 70, 172]
abbrev dktX8_isPlanting_0 : List UInt8 := dkwX8_isPlanting_0 ++ []
theorem dksX8_isPlanting_0 : cX8_isPlanting.data.toList.drop 0 = dktX8_isPlanting_0 := by decide +kernel
theorem dX8_isPlanting_0 : decode cX8_isPlanting 0 = .ok (.iload_n 1, 1) := dk_27 (dk_at dksX8_isPlanting_0 0 rfl rfl)
theorem dX8_isPlanting_1 : decode cX8_isPlanting 1 = .ok (.i2l, 1) := dk_133 (dk_at dksX8_isPlanting_0 1 rfl rfl)
theorem dX8_isPlanting_2 : decode cX8_isPlanting 2 = .ok (.lconst 0, 1) := dk_9 (dk_at dksX8_isPlanting_0 2 rfl rfl)
theorem dX8_isPlanting_3 : decode cX8_isPlanting 3 = .ok (.aload_n 0, 1) := dk_42 (dk_at dksX8_isPlanting_0 3 rfl rfl)
theorem dX8_isPlanting_4 : decode cX8_isPlanting 4 = .ok (.getfield 67, 3) := dk_180 0 67 (dk_at dksX8_isPlanting_0 4 rfl rfl)
theorem dX8_isPlanting_7 : decode cX8_isPlanting 7 = .ok (.iconst 1, 1) := dk_4 (dk_at dksX8_isPlanting_0 7 rfl rfl)
theorem dX8_isPlanting_8 : decode cX8_isPlanting 8 = .ok (.isub, 1) := dk_100 (dk_at dksX8_isPlanting_0 8 rfl rfl)
theorem dX8_isPlanting_9 : decode cX8_isPlanting 9 = .ok (.i2l, 1) := dk_133 (dk_at dksX8_isPlanting_0 9 rfl rfl)
theorem dX8_isPlanting_10 : decode cX8_isPlanting 10 = .ok (.invokestatic 70, 3) := dk_184 0 70 (dk_at dksX8_isPlanting_0 10 rfl rfl)
theorem dX8_isPlanting_13 : decode cX8_isPlanting 13 = .ok (.ireturn, 1) := dk_172 (dk_at dksX8_isPlanting_0 13 rfl rfl)
def dkwX8_mostOf_1 : List UInt8 := [17, 39, 15, 167, 0, 5, 16, 9, 172]
abbrev dktX8_mostOf_1 : List UInt8 := dkwX8_mostOf_1 ++ []
def dkwX8_mostOf_0 : List UInt8 := [26, 154, 0, 8, 16, 99, 167, 0, 26, 26, 7, 160, 0, 8, 16, 7, 167, 0, 16, 26, 8, 160, 0, 9]
abbrev dktX8_mostOf_0 : List UInt8 := dkwX8_mostOf_0 ++ dktX8_mostOf_1
theorem dksX8_mostOf_0 : cX8_mostOf.data.toList.drop 0 = dktX8_mostOf_0 := by decide +kernel
theorem dksX8_mostOf_1 : cX8_mostOf.data.toList.drop 24 = dktX8_mostOf_1 := dk_seg dksX8_mostOf_0 24 rfl rfl
theorem dX8_mostOf_0 : decode cX8_mostOf 0 = .ok (.iload_n 0, 1) := dk_26 (dk_at dksX8_mostOf_0 0 rfl rfl)
theorem dX8_mostOf_1 : decode cX8_mostOf 1 = .ok (.ifCond .ne 8, 3) := dk_154 0 8 (dk_at dksX8_mostOf_0 1 rfl rfl)
theorem dX8_mostOf_4 : decode cX8_mostOf 4 = .ok (.bipush 99, 2) := dk_16 99 (dk_at dksX8_mostOf_0 4 rfl rfl)
theorem dX8_mostOf_6 : decode cX8_mostOf 6 = .ok (.goto 26, 3) := dk_167 0 26 (dk_at dksX8_mostOf_0 6 rfl rfl)
theorem dX8_mostOf_9 : decode cX8_mostOf 9 = .ok (.iload_n 0, 1) := dk_26 (dk_at dksX8_mostOf_0 9 rfl rfl)
theorem dX8_mostOf_10 : decode cX8_mostOf 10 = .ok (.iconst 4, 1) := dk_7 (dk_at dksX8_mostOf_0 10 rfl rfl)
theorem dX8_mostOf_11 : decode cX8_mostOf 11 = .ok (.if_icmp .ne 8, 3) := dk_160 0 8 (dk_at dksX8_mostOf_0 11 rfl rfl)
theorem dX8_mostOf_14 : decode cX8_mostOf 14 = .ok (.bipush 7, 2) := dk_16 7 (dk_at dksX8_mostOf_0 14 rfl rfl)
theorem dX8_mostOf_16 : decode cX8_mostOf 16 = .ok (.goto 16, 3) := dk_167 0 16 (dk_at dksX8_mostOf_0 16 rfl rfl)
theorem dX8_mostOf_19 : decode cX8_mostOf 19 = .ok (.iload_n 0, 1) := dk_26 (dk_at dksX8_mostOf_0 19 rfl rfl)
theorem dX8_mostOf_20 : decode cX8_mostOf 20 = .ok (.iconst 5, 1) := dk_8 (dk_at dksX8_mostOf_0 20 rfl rfl)
theorem dX8_mostOf_21 : decode cX8_mostOf 21 = .ok (.if_icmp .ne 9, 3) := dk_160 0 9 (dk_at dksX8_mostOf_0 21 rfl rfl)
theorem dX8_mostOf_24 : decode cX8_mostOf 24 = .ok (.sipush 9999, 3) := dk_17 39 15 (dk_at dksX8_mostOf_1 0 rfl rfl)
theorem dX8_mostOf_27 : decode cX8_mostOf 27 = .ok (.goto 5, 3) := dk_167 0 5 (dk_at dksX8_mostOf_1 3 rfl rfl)
theorem dX8_mostOf_30 : decode cX8_mostOf 30 = .ok (.bipush 9, 2) := dk_16 9 (dk_at dksX8_mostOf_1 6 rfl rfl)
theorem dX8_mostOf_32 : decode cX8_mostOf 32 = .ok (.ireturn, 1) := dk_172 (dk_at dksX8_mostOf_1 8 rfl rfl)
def dkwX8_told_6 : List UInt8 := [42, 27, 29, 182, 0, 121, 167, 0, 9, 42, 5, 27, 182, 0, 124, 172]
abbrev dktX8_told_6 : List UInt8 := dkwX8_told_6 ++ []
def dkwX8_told_5 : List UInt8 := [167, 0, 39, 28, 16, 8, 160, 0, 12, 42, 27, 29, 182, 0, 118, 167, 0, 24, 28, 16, 9, 160, 0, 12]
abbrev dktX8_told_5 : List UInt8 := dkwX8_told_5 ++ dktX8_told_6
def dkwX8_told_4 : List UInt8 := [172, 42, 180, 0, 32, 6, 27, 104, 5, 96, 46, 62, 28, 16, 7, 160, 0, 11, 42, 27, 182, 0, 115]
abbrev dktX8_told_4 : List UInt8 := dkwX8_told_4 ++ dktX8_told_5
def dkwX8_told_3 : List UInt8 := [162, 0, 18, 42, 180, 0, 32, 6, 27, 104, 28, 96, 6, 100, 46, 167, 0, 9, 42, 180, 0, 29, 27, 46]
abbrev dktX8_told_3 : List UInt8 := dkwX8_told_3 ++ dktX8_told_4
def dkwX8_told_2 : List UInt8 := [180, 0, 23, 167, 0, 9, 42, 180, 0, 26, 27, 46, 172, 28, 16, 7, 162, 0, 31, 28, 16, 6]
abbrev dktX8_told_2 : List UInt8 := dkwX8_told_2 ++ dktX8_told_3
def dkwX8_told_1 : List UInt8 := [28, 6, 162, 0, 33, 28, 154, 0, 10, 42, 180, 0, 101, 167, 0, 21, 28, 4, 160, 0, 10, 42]
abbrev dktX8_told_1 : List UInt8 := dkwX8_told_1 ++ dktX8_told_2
def dkwX8_told_0 : List UInt8 := [28, 133, 9, 20, 0, 113, 184, 0, 70, 153, 0, 12, 42, 28, 27, 182, 0, 85, 154, 0, 6, 16, 254, 172]
abbrev dktX8_told_0 : List UInt8 := dkwX8_told_0 ++ dktX8_told_1
theorem dksX8_told_0 : cX8_told.data.toList.drop 0 = dktX8_told_0 := by decide +kernel
theorem dksX8_told_1 : cX8_told.data.toList.drop 24 = dktX8_told_1 := dk_seg dksX8_told_0 24 rfl rfl
theorem dksX8_told_2 : cX8_told.data.toList.drop 46 = dktX8_told_2 := dk_seg dksX8_told_1 22 rfl rfl
theorem dksX8_told_3 : cX8_told.data.toList.drop 68 = dktX8_told_3 := dk_seg dksX8_told_2 22 rfl rfl
theorem dksX8_told_4 : cX8_told.data.toList.drop 92 = dktX8_told_4 := dk_seg dksX8_told_3 24 rfl rfl
theorem dksX8_told_5 : cX8_told.data.toList.drop 115 = dktX8_told_5 := dk_seg dksX8_told_4 23 rfl rfl
theorem dksX8_told_6 : cX8_told.data.toList.drop 139 = dktX8_told_6 := dk_seg dksX8_told_5 24 rfl rfl
theorem dX8_told_0 : decode cX8_told 0 = .ok (.iload_n 2, 1) := dk_28 (dk_at dksX8_told_0 0 rfl rfl)
theorem dX8_told_1 : decode cX8_told 1 = .ok (.i2l, 1) := dk_133 (dk_at dksX8_told_0 1 rfl rfl)
theorem dX8_told_2 : decode cX8_told 2 = .ok (.lconst 0, 1) := dk_9 (dk_at dksX8_told_0 2 rfl rfl)
theorem dX8_told_3 : decode cX8_told 3 = .ok (.ldc2_w 113, 3) := dk_20 0 113 (dk_at dksX8_told_0 3 rfl rfl)
theorem dX8_told_6 : decode cX8_told 6 = .ok (.invokestatic 70, 3) := dk_184 0 70 (dk_at dksX8_told_0 6 rfl rfl)
theorem dX8_told_9 : decode cX8_told 9 = .ok (.ifCond .eq 12, 3) := dk_153 0 12 (dk_at dksX8_told_0 9 rfl rfl)
theorem dX8_told_12 : decode cX8_told 12 = .ok (.aload_n 0, 1) := dk_42 (dk_at dksX8_told_0 12 rfl rfl)
theorem dX8_told_13 : decode cX8_told 13 = .ok (.iload_n 2, 1) := dk_28 (dk_at dksX8_told_0 13 rfl rfl)
theorem dX8_told_14 : decode cX8_told 14 = .ok (.iload_n 1, 1) := dk_27 (dk_at dksX8_told_0 14 rfl rfl)
theorem dX8_told_15 : decode cX8_told 15 = .ok (.invokevirtual 85, 3) := dk_182 0 85 (dk_at dksX8_told_0 15 rfl rfl)
theorem dX8_told_18 : decode cX8_told 18 = .ok (.ifCond .ne 6, 3) := dk_154 0 6 (dk_at dksX8_told_0 18 rfl rfl)
theorem dX8_told_21 : decode cX8_told 21 = .ok (.bipush (-2), 2) := dk_16 254 (dk_at dksX8_told_0 21 rfl rfl)
theorem dX8_told_23 : decode cX8_told 23 = .ok (.ireturn, 1) := dk_172 (dk_at dksX8_told_0 23 rfl rfl)
theorem dX8_told_24 : decode cX8_told 24 = .ok (.iload_n 2, 1) := dk_28 (dk_at dksX8_told_1 0 rfl rfl)
theorem dX8_told_25 : decode cX8_told 25 = .ok (.iconst 3, 1) := dk_6 (dk_at dksX8_told_1 1 rfl rfl)
theorem dX8_told_26 : decode cX8_told 26 = .ok (.if_icmp .ge 33, 3) := dk_162 0 33 (dk_at dksX8_told_1 2 rfl rfl)
theorem dX8_told_29 : decode cX8_told 29 = .ok (.iload_n 2, 1) := dk_28 (dk_at dksX8_told_1 5 rfl rfl)
theorem dX8_told_30 : decode cX8_told 30 = .ok (.ifCond .ne 10, 3) := dk_154 0 10 (dk_at dksX8_told_1 6 rfl rfl)
theorem dX8_told_33 : decode cX8_told 33 = .ok (.aload_n 0, 1) := dk_42 (dk_at dksX8_told_1 9 rfl rfl)
theorem dX8_told_34 : decode cX8_told 34 = .ok (.getfield 101, 3) := dk_180 0 101 (dk_at dksX8_told_1 10 rfl rfl)
theorem dX8_told_37 : decode cX8_told 37 = .ok (.goto 21, 3) := dk_167 0 21 (dk_at dksX8_told_1 13 rfl rfl)
theorem dX8_told_40 : decode cX8_told 40 = .ok (.iload_n 2, 1) := dk_28 (dk_at dksX8_told_1 16 rfl rfl)
theorem dX8_told_41 : decode cX8_told 41 = .ok (.iconst 1, 1) := dk_4 (dk_at dksX8_told_1 17 rfl rfl)
theorem dX8_told_42 : decode cX8_told 42 = .ok (.if_icmp .ne 10, 3) := dk_160 0 10 (dk_at dksX8_told_1 18 rfl rfl)
theorem dX8_told_45 : decode cX8_told 45 = .ok (.aload_n 0, 1) := dk_42 (dk_at dksX8_told_1 21 rfl rfl)
theorem dX8_told_46 : decode cX8_told 46 = .ok (.getfield 23, 3) := dk_180 0 23 (dk_at dksX8_told_2 0 rfl rfl)
theorem dX8_told_49 : decode cX8_told 49 = .ok (.goto 9, 3) := dk_167 0 9 (dk_at dksX8_told_2 3 rfl rfl)
theorem dX8_told_52 : decode cX8_told 52 = .ok (.aload_n 0, 1) := dk_42 (dk_at dksX8_told_2 6 rfl rfl)
theorem dX8_told_53 : decode cX8_told 53 = .ok (.getfield 26, 3) := dk_180 0 26 (dk_at dksX8_told_2 7 rfl rfl)
theorem dX8_told_56 : decode cX8_told 56 = .ok (.iload_n 1, 1) := dk_27 (dk_at dksX8_told_2 10 rfl rfl)
theorem dX8_told_57 : decode cX8_told 57 = .ok (.iaload, 1) := dk_46 (dk_at dksX8_told_2 11 rfl rfl)
theorem dX8_told_58 : decode cX8_told 58 = .ok (.ireturn, 1) := dk_172 (dk_at dksX8_told_2 12 rfl rfl)
theorem dX8_told_59 : decode cX8_told 59 = .ok (.iload_n 2, 1) := dk_28 (dk_at dksX8_told_2 13 rfl rfl)
theorem dX8_told_60 : decode cX8_told 60 = .ok (.bipush 7, 2) := dk_16 7 (dk_at dksX8_told_2 14 rfl rfl)
theorem dX8_told_62 : decode cX8_told 62 = .ok (.if_icmp .ge 31, 3) := dk_162 0 31 (dk_at dksX8_told_2 16 rfl rfl)
theorem dX8_told_65 : decode cX8_told 65 = .ok (.iload_n 2, 1) := dk_28 (dk_at dksX8_told_2 19 rfl rfl)
theorem dX8_told_66 : decode cX8_told 66 = .ok (.bipush 6, 2) := dk_16 6 (dk_at dksX8_told_2 20 rfl rfl)
theorem dX8_told_68 : decode cX8_told 68 = .ok (.if_icmp .ge 18, 3) := dk_162 0 18 (dk_at dksX8_told_3 0 rfl rfl)
theorem dX8_told_71 : decode cX8_told 71 = .ok (.aload_n 0, 1) := dk_42 (dk_at dksX8_told_3 3 rfl rfl)
theorem dX8_told_72 : decode cX8_told 72 = .ok (.getfield 32, 3) := dk_180 0 32 (dk_at dksX8_told_3 4 rfl rfl)
theorem dX8_told_75 : decode cX8_told 75 = .ok (.iconst 3, 1) := dk_6 (dk_at dksX8_told_3 7 rfl rfl)
theorem dX8_told_76 : decode cX8_told 76 = .ok (.iload_n 1, 1) := dk_27 (dk_at dksX8_told_3 8 rfl rfl)
theorem dX8_told_77 : decode cX8_told 77 = .ok (.imul, 1) := dk_104 (dk_at dksX8_told_3 9 rfl rfl)
theorem dX8_told_78 : decode cX8_told 78 = .ok (.iload_n 2, 1) := dk_28 (dk_at dksX8_told_3 10 rfl rfl)
theorem dX8_told_79 : decode cX8_told 79 = .ok (.iadd, 1) := dk_96 (dk_at dksX8_told_3 11 rfl rfl)
theorem dX8_told_80 : decode cX8_told 80 = .ok (.iconst 3, 1) := dk_6 (dk_at dksX8_told_3 12 rfl rfl)
theorem dX8_told_81 : decode cX8_told 81 = .ok (.isub, 1) := dk_100 (dk_at dksX8_told_3 13 rfl rfl)
theorem dX8_told_82 : decode cX8_told 82 = .ok (.iaload, 1) := dk_46 (dk_at dksX8_told_3 14 rfl rfl)
theorem dX8_told_83 : decode cX8_told 83 = .ok (.goto 9, 3) := dk_167 0 9 (dk_at dksX8_told_3 15 rfl rfl)
theorem dX8_told_86 : decode cX8_told 86 = .ok (.aload_n 0, 1) := dk_42 (dk_at dksX8_told_3 18 rfl rfl)
theorem dX8_told_87 : decode cX8_told 87 = .ok (.getfield 29, 3) := dk_180 0 29 (dk_at dksX8_told_3 19 rfl rfl)
theorem dX8_told_90 : decode cX8_told 90 = .ok (.iload_n 1, 1) := dk_27 (dk_at dksX8_told_3 22 rfl rfl)
theorem dX8_told_91 : decode cX8_told 91 = .ok (.iaload, 1) := dk_46 (dk_at dksX8_told_3 23 rfl rfl)
theorem dX8_told_92 : decode cX8_told 92 = .ok (.ireturn, 1) := dk_172 (dk_at dksX8_told_4 0 rfl rfl)
theorem dX8_told_93 : decode cX8_told 93 = .ok (.aload_n 0, 1) := dk_42 (dk_at dksX8_told_4 1 rfl rfl)
theorem dX8_told_94 : decode cX8_told 94 = .ok (.getfield 32, 3) := dk_180 0 32 (dk_at dksX8_told_4 2 rfl rfl)
theorem dX8_told_97 : decode cX8_told 97 = .ok (.iconst 3, 1) := dk_6 (dk_at dksX8_told_4 5 rfl rfl)
theorem dX8_told_98 : decode cX8_told 98 = .ok (.iload_n 1, 1) := dk_27 (dk_at dksX8_told_4 6 rfl rfl)
theorem dX8_told_99 : decode cX8_told 99 = .ok (.imul, 1) := dk_104 (dk_at dksX8_told_4 7 rfl rfl)
theorem dX8_told_100 : decode cX8_told 100 = .ok (.iconst 2, 1) := dk_5 (dk_at dksX8_told_4 8 rfl rfl)
theorem dX8_told_101 : decode cX8_told 101 = .ok (.iadd, 1) := dk_96 (dk_at dksX8_told_4 9 rfl rfl)
theorem dX8_told_102 : decode cX8_told 102 = .ok (.iaload, 1) := dk_46 (dk_at dksX8_told_4 10 rfl rfl)
theorem dX8_told_103 : decode cX8_told 103 = .ok (.istore_n 3, 1) := dk_62 (dk_at dksX8_told_4 11 rfl rfl)
theorem dX8_told_104 : decode cX8_told 104 = .ok (.iload_n 2, 1) := dk_28 (dk_at dksX8_told_4 12 rfl rfl)
theorem dX8_told_105 : decode cX8_told 105 = .ok (.bipush 7, 2) := dk_16 7 (dk_at dksX8_told_4 13 rfl rfl)
theorem dX8_told_107 : decode cX8_told 107 = .ok (.if_icmp .ne 11, 3) := dk_160 0 11 (dk_at dksX8_told_4 15 rfl rfl)
theorem dX8_told_110 : decode cX8_told 110 = .ok (.aload_n 0, 1) := dk_42 (dk_at dksX8_told_4 18 rfl rfl)
theorem dX8_told_111 : decode cX8_told 111 = .ok (.iload_n 1, 1) := dk_27 (dk_at dksX8_told_4 19 rfl rfl)
theorem dX8_told_112 : decode cX8_told 112 = .ok (.invokevirtual 115, 3) := dk_182 0 115 (dk_at dksX8_told_4 20 rfl rfl)
theorem dX8_told_115 : decode cX8_told 115 = .ok (.goto 39, 3) := dk_167 0 39 (dk_at dksX8_told_5 0 rfl rfl)
theorem dX8_told_118 : decode cX8_told 118 = .ok (.iload_n 2, 1) := dk_28 (dk_at dksX8_told_5 3 rfl rfl)
theorem dX8_told_119 : decode cX8_told 119 = .ok (.bipush 8, 2) := dk_16 8 (dk_at dksX8_told_5 4 rfl rfl)
theorem dX8_told_121 : decode cX8_told 121 = .ok (.if_icmp .ne 12, 3) := dk_160 0 12 (dk_at dksX8_told_5 6 rfl rfl)
theorem dX8_told_124 : decode cX8_told 124 = .ok (.aload_n 0, 1) := dk_42 (dk_at dksX8_told_5 9 rfl rfl)
theorem dX8_told_125 : decode cX8_told 125 = .ok (.iload_n 1, 1) := dk_27 (dk_at dksX8_told_5 10 rfl rfl)
theorem dX8_told_126 : decode cX8_told 126 = .ok (.iload_n 3, 1) := dk_29 (dk_at dksX8_told_5 11 rfl rfl)
theorem dX8_told_127 : decode cX8_told 127 = .ok (.invokevirtual 118, 3) := dk_182 0 118 (dk_at dksX8_told_5 12 rfl rfl)
theorem dX8_told_130 : decode cX8_told 130 = .ok (.goto 24, 3) := dk_167 0 24 (dk_at dksX8_told_5 15 rfl rfl)
theorem dX8_told_133 : decode cX8_told 133 = .ok (.iload_n 2, 1) := dk_28 (dk_at dksX8_told_5 18 rfl rfl)
theorem dX8_told_134 : decode cX8_told 134 = .ok (.bipush 9, 2) := dk_16 9 (dk_at dksX8_told_5 19 rfl rfl)
theorem dX8_told_136 : decode cX8_told 136 = .ok (.if_icmp .ne 12, 3) := dk_160 0 12 (dk_at dksX8_told_5 21 rfl rfl)
theorem dX8_told_139 : decode cX8_told 139 = .ok (.aload_n 0, 1) := dk_42 (dk_at dksX8_told_6 0 rfl rfl)
theorem dX8_told_140 : decode cX8_told 140 = .ok (.iload_n 1, 1) := dk_27 (dk_at dksX8_told_6 1 rfl rfl)
theorem dX8_told_141 : decode cX8_told 141 = .ok (.iload_n 3, 1) := dk_29 (dk_at dksX8_told_6 2 rfl rfl)
theorem dX8_told_142 : decode cX8_told 142 = .ok (.invokevirtual 121, 3) := dk_182 0 121 (dk_at dksX8_told_6 3 rfl rfl)
theorem dX8_told_145 : decode cX8_told 145 = .ok (.goto 9, 3) := dk_167 0 9 (dk_at dksX8_told_6 6 rfl rfl)
theorem dX8_told_148 : decode cX8_told 148 = .ok (.aload_n 0, 1) := dk_42 (dk_at dksX8_told_6 9 rfl rfl)
theorem dX8_told_149 : decode cX8_told 149 = .ok (.iconst 2, 1) := dk_5 (dk_at dksX8_told_6 10 rfl rfl)
theorem dX8_told_150 : decode cX8_told 150 = .ok (.iload_n 1, 1) := dk_27 (dk_at dksX8_told_6 11 rfl rfl)
theorem dX8_told_151 : decode cX8_told 151 = .ok (.invokevirtual 124, 3) := dk_182 0 124 (dk_at dksX8_told_6 12 rfl rfl)
theorem dX8_told_154 : decode cX8_told 154 = .ok (.ireturn, 1) := dk_172 (dk_at dksX8_told_6 15 rfl rfl)
def dkwX8_rotsOf_4 : List UInt8 := [184, 1, 77, 172]
abbrev dktX8_rotsOf_4 : List UInt8 := dkwX8_rotsOf_4 ++ []
def dkwX8_rotsOf_3 : List UInt8 := [160, 0, 14, 29, 16, 50, 162, 0, 8, 16, 50, 167, 0, 4, 29, 54, 4, 21, 4, 3, 16, 100]
abbrev dktX8_rotsOf_3 : List UInt8 := dkwX8_rotsOf_3 ++ dktX8_rotsOf_4
def dkwX8_rotsOf_2 : List UInt8 := [5, 108, 42, 180, 0, 26, 42, 180, 0, 32, 6, 27, 104, 4, 96, 46, 46, 96, 167, 0, 20, 28, 8]
abbrev dktX8_rotsOf_2 : List UInt8 := dkwX8_rotsOf_2 ++ dktX8_rotsOf_3
def dkwX8_rotsOf_1 : List UInt8 := [29, 16, 10, 96, 167, 0, 58, 28, 5, 160, 0, 9, 29, 5, 108, 167, 0, 47, 28, 7, 160, 0, 25, 29]
abbrev dktX8_rotsOf_1 : List UInt8 := dkwX8_rotsOf_1 ++ dktX8_rotsOf_2
def dkwX8_rotsOf_0 : List UInt8 := [42, 180, 0, 29, 27, 46, 61, 42, 3, 27, 182, 0, 124, 62, 28, 4, 159, 0, 8, 28, 6, 160, 0, 10]
abbrev dktX8_rotsOf_0 : List UInt8 := dkwX8_rotsOf_0 ++ dktX8_rotsOf_1
theorem dksX8_rotsOf_0 : cX8_rotsOf.data.toList.drop 0 = dktX8_rotsOf_0 := by decide +kernel
theorem dksX8_rotsOf_1 : cX8_rotsOf.data.toList.drop 24 = dktX8_rotsOf_1 := dk_seg dksX8_rotsOf_0 24 rfl rfl
theorem dksX8_rotsOf_2 : cX8_rotsOf.data.toList.drop 48 = dktX8_rotsOf_2 := dk_seg dksX8_rotsOf_1 24 rfl rfl
theorem dksX8_rotsOf_3 : cX8_rotsOf.data.toList.drop 71 = dktX8_rotsOf_3 := dk_seg dksX8_rotsOf_2 23 rfl rfl
theorem dksX8_rotsOf_4 : cX8_rotsOf.data.toList.drop 93 = dktX8_rotsOf_4 := dk_seg dksX8_rotsOf_3 22 rfl rfl
theorem dX8_rotsOf_0 : decode cX8_rotsOf 0 = .ok (.aload_n 0, 1) := dk_42 (dk_at dksX8_rotsOf_0 0 rfl rfl)
theorem dX8_rotsOf_1 : decode cX8_rotsOf 1 = .ok (.getfield 29, 3) := dk_180 0 29 (dk_at dksX8_rotsOf_0 1 rfl rfl)
theorem dX8_rotsOf_4 : decode cX8_rotsOf 4 = .ok (.iload_n 1, 1) := dk_27 (dk_at dksX8_rotsOf_0 4 rfl rfl)
theorem dX8_rotsOf_5 : decode cX8_rotsOf 5 = .ok (.iaload, 1) := dk_46 (dk_at dksX8_rotsOf_0 5 rfl rfl)
theorem dX8_rotsOf_6 : decode cX8_rotsOf 6 = .ok (.istore_n 2, 1) := dk_61 (dk_at dksX8_rotsOf_0 6 rfl rfl)
theorem dX8_rotsOf_7 : decode cX8_rotsOf 7 = .ok (.aload_n 0, 1) := dk_42 (dk_at dksX8_rotsOf_0 7 rfl rfl)
theorem dX8_rotsOf_8 : decode cX8_rotsOf 8 = .ok (.iconst 0, 1) := dk_3 (dk_at dksX8_rotsOf_0 8 rfl rfl)
theorem dX8_rotsOf_9 : decode cX8_rotsOf 9 = .ok (.iload_n 1, 1) := dk_27 (dk_at dksX8_rotsOf_0 9 rfl rfl)
theorem dX8_rotsOf_10 : decode cX8_rotsOf 10 = .ok (.invokevirtual 124, 3) := dk_182 0 124 (dk_at dksX8_rotsOf_0 10 rfl rfl)
theorem dX8_rotsOf_13 : decode cX8_rotsOf 13 = .ok (.istore_n 3, 1) := dk_62 (dk_at dksX8_rotsOf_0 13 rfl rfl)
theorem dX8_rotsOf_14 : decode cX8_rotsOf 14 = .ok (.iload_n 2, 1) := dk_28 (dk_at dksX8_rotsOf_0 14 rfl rfl)
theorem dX8_rotsOf_15 : decode cX8_rotsOf 15 = .ok (.iconst 1, 1) := dk_4 (dk_at dksX8_rotsOf_0 15 rfl rfl)
theorem dX8_rotsOf_16 : decode cX8_rotsOf 16 = .ok (.if_icmp .eq 8, 3) := dk_159 0 8 (dk_at dksX8_rotsOf_0 16 rfl rfl)
theorem dX8_rotsOf_19 : decode cX8_rotsOf 19 = .ok (.iload_n 2, 1) := dk_28 (dk_at dksX8_rotsOf_0 19 rfl rfl)
theorem dX8_rotsOf_20 : decode cX8_rotsOf 20 = .ok (.iconst 3, 1) := dk_6 (dk_at dksX8_rotsOf_0 20 rfl rfl)
theorem dX8_rotsOf_21 : decode cX8_rotsOf 21 = .ok (.if_icmp .ne 10, 3) := dk_160 0 10 (dk_at dksX8_rotsOf_0 21 rfl rfl)
theorem dX8_rotsOf_24 : decode cX8_rotsOf 24 = .ok (.iload_n 3, 1) := dk_29 (dk_at dksX8_rotsOf_1 0 rfl rfl)
theorem dX8_rotsOf_25 : decode cX8_rotsOf 25 = .ok (.bipush 10, 2) := dk_16 10 (dk_at dksX8_rotsOf_1 1 rfl rfl)
theorem dX8_rotsOf_27 : decode cX8_rotsOf 27 = .ok (.iadd, 1) := dk_96 (dk_at dksX8_rotsOf_1 3 rfl rfl)
theorem dX8_rotsOf_28 : decode cX8_rotsOf 28 = .ok (.goto 58, 3) := dk_167 0 58 (dk_at dksX8_rotsOf_1 4 rfl rfl)
theorem dX8_rotsOf_31 : decode cX8_rotsOf 31 = .ok (.iload_n 2, 1) := dk_28 (dk_at dksX8_rotsOf_1 7 rfl rfl)
theorem dX8_rotsOf_32 : decode cX8_rotsOf 32 = .ok (.iconst 2, 1) := dk_5 (dk_at dksX8_rotsOf_1 8 rfl rfl)
theorem dX8_rotsOf_33 : decode cX8_rotsOf 33 = .ok (.if_icmp .ne 9, 3) := dk_160 0 9 (dk_at dksX8_rotsOf_1 9 rfl rfl)
theorem dX8_rotsOf_36 : decode cX8_rotsOf 36 = .ok (.iload_n 3, 1) := dk_29 (dk_at dksX8_rotsOf_1 12 rfl rfl)
theorem dX8_rotsOf_37 : decode cX8_rotsOf 37 = .ok (.iconst 2, 1) := dk_5 (dk_at dksX8_rotsOf_1 13 rfl rfl)
theorem dX8_rotsOf_38 : decode cX8_rotsOf 38 = .ok (.idiv, 1) := dk_108 (dk_at dksX8_rotsOf_1 14 rfl rfl)
theorem dX8_rotsOf_39 : decode cX8_rotsOf 39 = .ok (.goto 47, 3) := dk_167 0 47 (dk_at dksX8_rotsOf_1 15 rfl rfl)
theorem dX8_rotsOf_42 : decode cX8_rotsOf 42 = .ok (.iload_n 2, 1) := dk_28 (dk_at dksX8_rotsOf_1 18 rfl rfl)
theorem dX8_rotsOf_43 : decode cX8_rotsOf 43 = .ok (.iconst 4, 1) := dk_7 (dk_at dksX8_rotsOf_1 19 rfl rfl)
theorem dX8_rotsOf_44 : decode cX8_rotsOf 44 = .ok (.if_icmp .ne 25, 3) := dk_160 0 25 (dk_at dksX8_rotsOf_1 20 rfl rfl)
theorem dX8_rotsOf_47 : decode cX8_rotsOf 47 = .ok (.iload_n 3, 1) := dk_29 (dk_at dksX8_rotsOf_1 23 rfl rfl)
theorem dX8_rotsOf_48 : decode cX8_rotsOf 48 = .ok (.iconst 2, 1) := dk_5 (dk_at dksX8_rotsOf_2 0 rfl rfl)
theorem dX8_rotsOf_49 : decode cX8_rotsOf 49 = .ok (.idiv, 1) := dk_108 (dk_at dksX8_rotsOf_2 1 rfl rfl)
theorem dX8_rotsOf_50 : decode cX8_rotsOf 50 = .ok (.aload_n 0, 1) := dk_42 (dk_at dksX8_rotsOf_2 2 rfl rfl)
theorem dX8_rotsOf_51 : decode cX8_rotsOf 51 = .ok (.getfield 26, 3) := dk_180 0 26 (dk_at dksX8_rotsOf_2 3 rfl rfl)
theorem dX8_rotsOf_54 : decode cX8_rotsOf 54 = .ok (.aload_n 0, 1) := dk_42 (dk_at dksX8_rotsOf_2 6 rfl rfl)
theorem dX8_rotsOf_55 : decode cX8_rotsOf 55 = .ok (.getfield 32, 3) := dk_180 0 32 (dk_at dksX8_rotsOf_2 7 rfl rfl)
theorem dX8_rotsOf_58 : decode cX8_rotsOf 58 = .ok (.iconst 3, 1) := dk_6 (dk_at dksX8_rotsOf_2 10 rfl rfl)
theorem dX8_rotsOf_59 : decode cX8_rotsOf 59 = .ok (.iload_n 1, 1) := dk_27 (dk_at dksX8_rotsOf_2 11 rfl rfl)
theorem dX8_rotsOf_60 : decode cX8_rotsOf 60 = .ok (.imul, 1) := dk_104 (dk_at dksX8_rotsOf_2 12 rfl rfl)
theorem dX8_rotsOf_61 : decode cX8_rotsOf 61 = .ok (.iconst 1, 1) := dk_4 (dk_at dksX8_rotsOf_2 13 rfl rfl)
theorem dX8_rotsOf_62 : decode cX8_rotsOf 62 = .ok (.iadd, 1) := dk_96 (dk_at dksX8_rotsOf_2 14 rfl rfl)
theorem dX8_rotsOf_63 : decode cX8_rotsOf 63 = .ok (.iaload, 1) := dk_46 (dk_at dksX8_rotsOf_2 15 rfl rfl)
theorem dX8_rotsOf_64 : decode cX8_rotsOf 64 = .ok (.iaload, 1) := dk_46 (dk_at dksX8_rotsOf_2 16 rfl rfl)
theorem dX8_rotsOf_65 : decode cX8_rotsOf 65 = .ok (.iadd, 1) := dk_96 (dk_at dksX8_rotsOf_2 17 rfl rfl)
theorem dX8_rotsOf_66 : decode cX8_rotsOf 66 = .ok (.goto 20, 3) := dk_167 0 20 (dk_at dksX8_rotsOf_2 18 rfl rfl)
theorem dX8_rotsOf_69 : decode cX8_rotsOf 69 = .ok (.iload_n 2, 1) := dk_28 (dk_at dksX8_rotsOf_2 21 rfl rfl)
theorem dX8_rotsOf_70 : decode cX8_rotsOf 70 = .ok (.iconst 5, 1) := dk_8 (dk_at dksX8_rotsOf_2 22 rfl rfl)
theorem dX8_rotsOf_71 : decode cX8_rotsOf 71 = .ok (.if_icmp .ne 14, 3) := dk_160 0 14 (dk_at dksX8_rotsOf_3 0 rfl rfl)
theorem dX8_rotsOf_74 : decode cX8_rotsOf 74 = .ok (.iload_n 3, 1) := dk_29 (dk_at dksX8_rotsOf_3 3 rfl rfl)
theorem dX8_rotsOf_75 : decode cX8_rotsOf 75 = .ok (.bipush 50, 2) := dk_16 50 (dk_at dksX8_rotsOf_3 4 rfl rfl)
theorem dX8_rotsOf_77 : decode cX8_rotsOf 77 = .ok (.if_icmp .ge 8, 3) := dk_162 0 8 (dk_at dksX8_rotsOf_3 6 rfl rfl)
theorem dX8_rotsOf_80 : decode cX8_rotsOf 80 = .ok (.bipush 50, 2) := dk_16 50 (dk_at dksX8_rotsOf_3 9 rfl rfl)
theorem dX8_rotsOf_82 : decode cX8_rotsOf 82 = .ok (.goto 4, 3) := dk_167 0 4 (dk_at dksX8_rotsOf_3 11 rfl rfl)
theorem dX8_rotsOf_85 : decode cX8_rotsOf 85 = .ok (.iload_n 3, 1) := dk_29 (dk_at dksX8_rotsOf_3 14 rfl rfl)
theorem dX8_rotsOf_86 : decode cX8_rotsOf 86 = .ok (.istore 4, 2) := dk_54 4 (dk_at dksX8_rotsOf_3 15 rfl rfl)
theorem dX8_rotsOf_88 : decode cX8_rotsOf 88 = .ok (.iload 4, 2) := dk_21 4 (dk_at dksX8_rotsOf_3 17 rfl rfl)
theorem dX8_rotsOf_90 : decode cX8_rotsOf 90 = .ok (.iconst 0, 1) := dk_3 (dk_at dksX8_rotsOf_3 19 rfl rfl)
theorem dX8_rotsOf_91 : decode cX8_rotsOf 91 = .ok (.bipush 100, 2) := dk_16 100 (dk_at dksX8_rotsOf_3 20 rfl rfl)
theorem dX8_rotsOf_93 : decode cX8_rotsOf 93 = .ok (.invokestatic 333, 3) := dk_184 1 77 (dk_at dksX8_rotsOf_4 0 rfl rfl)
theorem dX8_rotsOf_96 : decode cX8_rotsOf 96 = .ok (.ireturn, 1) := dk_172 (dk_at dksX8_rotsOf_4 3 rfl rfl)
def dkwX8_says_4 : List UInt8 := [16, 100, 184, 1, 77, 172]
abbrev dktX8_says_4 : List UInt8 := dkwX8_says_4 ++ []
def dkwX8_says_3 : List UInt8 := [181, 0, 200, 42, 42, 180, 0, 104, 27, 182, 1, 74, 3, 27, 4, 160, 0, 8, 16, 99, 167, 0, 5]
abbrev dktX8_says_3 : List UInt8 := dkwX8_says_3 ++ dktX8_says_4
def dkwX8_says_2 : List UInt8 := [96, 46, 181, 0, 194, 42, 42, 180, 0, 32, 6, 28, 104, 4, 96, 46, 181, 0, 197, 42, 42, 180, 0, 23]
abbrev dktX8_says_2 : List UInt8 := dkwX8_says_2 ++ dktX8_says_3
def dkwX8_says_1 : List UInt8 := [181, 0, 188, 42, 42, 180, 0, 32, 6, 28, 104, 46, 181, 0, 191, 42, 42, 180, 0, 32, 6, 28, 104, 5]
abbrev dktX8_says_1 : List UInt8 := dkwX8_says_1 ++ dktX8_says_2
def dkwX8_says_0 : List UInt8 := [42, 42, 180, 0, 26, 42, 180, 0, 32, 6, 28, 104, 4, 96, 46, 46, 181, 0, 185, 42, 42, 180, 0, 101]
abbrev dktX8_says_0 : List UInt8 := dkwX8_says_0 ++ dktX8_says_1
theorem dksX8_says_0 : cX8_says.data.toList.drop 0 = dktX8_says_0 := by decide +kernel
theorem dksX8_says_1 : cX8_says.data.toList.drop 24 = dktX8_says_1 := dk_seg dksX8_says_0 24 rfl rfl
theorem dksX8_says_2 : cX8_says.data.toList.drop 48 = dktX8_says_2 := dk_seg dksX8_says_1 24 rfl rfl
theorem dksX8_says_3 : cX8_says.data.toList.drop 72 = dktX8_says_3 := dk_seg dksX8_says_2 24 rfl rfl
theorem dksX8_says_4 : cX8_says.data.toList.drop 95 = dktX8_says_4 := dk_seg dksX8_says_3 23 rfl rfl
theorem dX8_says_0 : decode cX8_says 0 = .ok (.aload_n 0, 1) := dk_42 (dk_at dksX8_says_0 0 rfl rfl)
theorem dX8_says_1 : decode cX8_says 1 = .ok (.aload_n 0, 1) := dk_42 (dk_at dksX8_says_0 1 rfl rfl)
theorem dX8_says_2 : decode cX8_says 2 = .ok (.getfield 26, 3) := dk_180 0 26 (dk_at dksX8_says_0 2 rfl rfl)
theorem dX8_says_5 : decode cX8_says 5 = .ok (.aload_n 0, 1) := dk_42 (dk_at dksX8_says_0 5 rfl rfl)
theorem dX8_says_6 : decode cX8_says 6 = .ok (.getfield 32, 3) := dk_180 0 32 (dk_at dksX8_says_0 6 rfl rfl)
theorem dX8_says_9 : decode cX8_says 9 = .ok (.iconst 3, 1) := dk_6 (dk_at dksX8_says_0 9 rfl rfl)
theorem dX8_says_10 : decode cX8_says 10 = .ok (.iload_n 2, 1) := dk_28 (dk_at dksX8_says_0 10 rfl rfl)
theorem dX8_says_11 : decode cX8_says 11 = .ok (.imul, 1) := dk_104 (dk_at dksX8_says_0 11 rfl rfl)
theorem dX8_says_12 : decode cX8_says 12 = .ok (.iconst 1, 1) := dk_4 (dk_at dksX8_says_0 12 rfl rfl)
theorem dX8_says_13 : decode cX8_says 13 = .ok (.iadd, 1) := dk_96 (dk_at dksX8_says_0 13 rfl rfl)
theorem dX8_says_14 : decode cX8_says 14 = .ok (.iaload, 1) := dk_46 (dk_at dksX8_says_0 14 rfl rfl)
theorem dX8_says_15 : decode cX8_says 15 = .ok (.iaload, 1) := dk_46 (dk_at dksX8_says_0 15 rfl rfl)
theorem dX8_says_16 : decode cX8_says 16 = .ok (.putfield 185, 3) := dk_181 0 185 (dk_at dksX8_says_0 16 rfl rfl)
theorem dX8_says_19 : decode cX8_says 19 = .ok (.aload_n 0, 1) := dk_42 (dk_at dksX8_says_0 19 rfl rfl)
theorem dX8_says_20 : decode cX8_says 20 = .ok (.aload_n 0, 1) := dk_42 (dk_at dksX8_says_0 20 rfl rfl)
theorem dX8_says_21 : decode cX8_says 21 = .ok (.getfield 101, 3) := dk_180 0 101 (dk_at dksX8_says_0 21 rfl rfl)
theorem dX8_says_24 : decode cX8_says 24 = .ok (.putfield 188, 3) := dk_181 0 188 (dk_at dksX8_says_1 0 rfl rfl)
theorem dX8_says_27 : decode cX8_says 27 = .ok (.aload_n 0, 1) := dk_42 (dk_at dksX8_says_1 3 rfl rfl)
theorem dX8_says_28 : decode cX8_says 28 = .ok (.aload_n 0, 1) := dk_42 (dk_at dksX8_says_1 4 rfl rfl)
theorem dX8_says_29 : decode cX8_says 29 = .ok (.getfield 32, 3) := dk_180 0 32 (dk_at dksX8_says_1 5 rfl rfl)
theorem dX8_says_32 : decode cX8_says 32 = .ok (.iconst 3, 1) := dk_6 (dk_at dksX8_says_1 8 rfl rfl)
theorem dX8_says_33 : decode cX8_says 33 = .ok (.iload_n 2, 1) := dk_28 (dk_at dksX8_says_1 9 rfl rfl)
theorem dX8_says_34 : decode cX8_says 34 = .ok (.imul, 1) := dk_104 (dk_at dksX8_says_1 10 rfl rfl)
theorem dX8_says_35 : decode cX8_says 35 = .ok (.iaload, 1) := dk_46 (dk_at dksX8_says_1 11 rfl rfl)
theorem dX8_says_36 : decode cX8_says 36 = .ok (.putfield 191, 3) := dk_181 0 191 (dk_at dksX8_says_1 12 rfl rfl)
theorem dX8_says_39 : decode cX8_says 39 = .ok (.aload_n 0, 1) := dk_42 (dk_at dksX8_says_1 15 rfl rfl)
theorem dX8_says_40 : decode cX8_says 40 = .ok (.aload_n 0, 1) := dk_42 (dk_at dksX8_says_1 16 rfl rfl)
theorem dX8_says_41 : decode cX8_says 41 = .ok (.getfield 32, 3) := dk_180 0 32 (dk_at dksX8_says_1 17 rfl rfl)
theorem dX8_says_44 : decode cX8_says 44 = .ok (.iconst 3, 1) := dk_6 (dk_at dksX8_says_1 20 rfl rfl)
theorem dX8_says_45 : decode cX8_says 45 = .ok (.iload_n 2, 1) := dk_28 (dk_at dksX8_says_1 21 rfl rfl)
theorem dX8_says_46 : decode cX8_says 46 = .ok (.imul, 1) := dk_104 (dk_at dksX8_says_1 22 rfl rfl)
theorem dX8_says_47 : decode cX8_says 47 = .ok (.iconst 2, 1) := dk_5 (dk_at dksX8_says_1 23 rfl rfl)
theorem dX8_says_48 : decode cX8_says 48 = .ok (.iadd, 1) := dk_96 (dk_at dksX8_says_2 0 rfl rfl)
theorem dX8_says_49 : decode cX8_says 49 = .ok (.iaload, 1) := dk_46 (dk_at dksX8_says_2 1 rfl rfl)
theorem dX8_says_50 : decode cX8_says 50 = .ok (.putfield 194, 3) := dk_181 0 194 (dk_at dksX8_says_2 2 rfl rfl)
theorem dX8_says_53 : decode cX8_says 53 = .ok (.aload_n 0, 1) := dk_42 (dk_at dksX8_says_2 5 rfl rfl)
theorem dX8_says_54 : decode cX8_says 54 = .ok (.aload_n 0, 1) := dk_42 (dk_at dksX8_says_2 6 rfl rfl)
theorem dX8_says_55 : decode cX8_says 55 = .ok (.getfield 32, 3) := dk_180 0 32 (dk_at dksX8_says_2 7 rfl rfl)
theorem dX8_says_58 : decode cX8_says 58 = .ok (.iconst 3, 1) := dk_6 (dk_at dksX8_says_2 10 rfl rfl)
theorem dX8_says_59 : decode cX8_says 59 = .ok (.iload_n 2, 1) := dk_28 (dk_at dksX8_says_2 11 rfl rfl)
theorem dX8_says_60 : decode cX8_says 60 = .ok (.imul, 1) := dk_104 (dk_at dksX8_says_2 12 rfl rfl)
theorem dX8_says_61 : decode cX8_says 61 = .ok (.iconst 1, 1) := dk_4 (dk_at dksX8_says_2 13 rfl rfl)
theorem dX8_says_62 : decode cX8_says 62 = .ok (.iadd, 1) := dk_96 (dk_at dksX8_says_2 14 rfl rfl)
theorem dX8_says_63 : decode cX8_says 63 = .ok (.iaload, 1) := dk_46 (dk_at dksX8_says_2 15 rfl rfl)
theorem dX8_says_64 : decode cX8_says 64 = .ok (.putfield 197, 3) := dk_181 0 197 (dk_at dksX8_says_2 16 rfl rfl)
theorem dX8_says_67 : decode cX8_says 67 = .ok (.aload_n 0, 1) := dk_42 (dk_at dksX8_says_2 19 rfl rfl)
theorem dX8_says_68 : decode cX8_says 68 = .ok (.aload_n 0, 1) := dk_42 (dk_at dksX8_says_2 20 rfl rfl)
theorem dX8_says_69 : decode cX8_says 69 = .ok (.getfield 23, 3) := dk_180 0 23 (dk_at dksX8_says_2 21 rfl rfl)
theorem dX8_says_72 : decode cX8_says 72 = .ok (.putfield 200, 3) := dk_181 0 200 (dk_at dksX8_says_3 0 rfl rfl)
theorem dX8_says_75 : decode cX8_says 75 = .ok (.aload_n 0, 1) := dk_42 (dk_at dksX8_says_3 3 rfl rfl)
theorem dX8_says_76 : decode cX8_says 76 = .ok (.aload_n 0, 1) := dk_42 (dk_at dksX8_says_3 4 rfl rfl)
theorem dX8_says_77 : decode cX8_says 77 = .ok (.getfield 104, 3) := dk_180 0 104 (dk_at dksX8_says_3 5 rfl rfl)
theorem dX8_says_80 : decode cX8_says 80 = .ok (.iload_n 1, 1) := dk_27 (dk_at dksX8_says_3 8 rfl rfl)
theorem dX8_says_81 : decode cX8_says 81 = .ok (.invokevirtual 330, 3) := dk_182 1 74 (dk_at dksX8_says_3 9 rfl rfl)
theorem dX8_says_84 : decode cX8_says 84 = .ok (.iconst 0, 1) := dk_3 (dk_at dksX8_says_3 12 rfl rfl)
theorem dX8_says_85 : decode cX8_says 85 = .ok (.iload_n 1, 1) := dk_27 (dk_at dksX8_says_3 13 rfl rfl)
theorem dX8_says_86 : decode cX8_says 86 = .ok (.iconst 1, 1) := dk_4 (dk_at dksX8_says_3 14 rfl rfl)
theorem dX8_says_87 : decode cX8_says 87 = .ok (.if_icmp .ne 8, 3) := dk_160 0 8 (dk_at dksX8_says_3 15 rfl rfl)
theorem dX8_says_90 : decode cX8_says 90 = .ok (.bipush 99, 2) := dk_16 99 (dk_at dksX8_says_3 18 rfl rfl)
theorem dX8_says_92 : decode cX8_says 92 = .ok (.goto 5, 3) := dk_167 0 5 (dk_at dksX8_says_3 20 rfl rfl)
theorem dX8_says_95 : decode cX8_says 95 = .ok (.bipush 100, 2) := dk_16 100 (dk_at dksX8_says_4 0 rfl rfl)
theorem dX8_says_97 : decode cX8_says 97 = .ok (.invokestatic 333, 3) := dk_184 1 77 (dk_at dksX8_says_4 2 rfl rfl)
theorem dX8_says_100 : decode cX8_says 100 = .ok (.ireturn, 1) := dk_172 (dk_at dksX8_says_4 5 rfl rfl)
def dkwX8_read_6 : List UInt8 := [182, 0, 175, 28, 154, 0, 7, 29, 167, 0, 15, 28, 4, 160, 0, 8, 21, 4, 167, 0, 5, 21, 5, 172]
abbrev dktX8_read_6 : List UInt8 := dkwX8_read_6 ++ []
def dkwX8_read_5 : List UInt8 := [182, 0, 181, 182, 1, 70, 54, 5, 42, 180, 0, 162, 154, 0, 14, 42, 180, 0, 147, 153, 0, 7, 42]
abbrev dktX8_read_5 : List UInt8 := dkwX8_read_5 ++ dktX8_read_6
def dkwX8_read_4 : List UInt8 := [153, 0, 7, 3, 167, 0, 24, 42, 42, 16, 102, 16, 105, 16, 110, 16, 100, 16, 115, 3, 3, 3]
abbrev dktX8_read_4 : List UInt8 := dkwX8_read_4 ++ dktX8_read_5
def dkwX8_read_3 : List UInt8 := [16, 112, 16, 97, 16, 121, 16, 115, 3, 3, 3, 3, 182, 0, 181, 182, 1, 70, 54, 4, 42, 180, 0, 162]
abbrev dktX8_read_3 : List UInt8 := dkwX8_read_3 ++ dktX8_read_4
def dkwX8_read_2 : List UInt8 := [3, 3, 3, 3, 182, 0, 181, 182, 1, 70, 62, 42, 180, 0, 162, 153, 0, 7, 3, 167, 0, 23, 42, 42]
abbrev dktX8_read_2 : List UInt8 := dkwX8_read_2 ++ dktX8_read_3
def dkwX8_read_1 : List UInt8 := [42, 3, 181, 0, 172, 42, 3, 181, 0, 162, 42, 182, 0, 178, 42, 42, 16, 114, 16, 111, 16, 116, 16, 115]
abbrev dktX8_read_1 : List UInt8 := dkwX8_read_1 ++ dktX8_read_2
def dkwX8_read_0 : List UInt8 := [42, 17, 0, 160, 27, 104, 181, 0, 135, 42, 42, 180, 0, 17, 27, 46, 181, 0, 132, 42, 3, 181, 0, 138]
abbrev dktX8_read_0 : List UInt8 := dkwX8_read_0 ++ dktX8_read_1
theorem dksX8_read_0 : cX8_read.data.toList.drop 0 = dktX8_read_0 := by decide +kernel
theorem dksX8_read_1 : cX8_read.data.toList.drop 24 = dktX8_read_1 := dk_seg dksX8_read_0 24 rfl rfl
theorem dksX8_read_2 : cX8_read.data.toList.drop 48 = dktX8_read_2 := dk_seg dksX8_read_1 24 rfl rfl
theorem dksX8_read_3 : cX8_read.data.toList.drop 72 = dktX8_read_3 := dk_seg dksX8_read_2 24 rfl rfl
theorem dksX8_read_4 : cX8_read.data.toList.drop 96 = dktX8_read_4 := dk_seg dksX8_read_3 24 rfl rfl
theorem dksX8_read_5 : cX8_read.data.toList.drop 118 = dktX8_read_5 := dk_seg dksX8_read_4 22 rfl rfl
theorem dksX8_read_6 : cX8_read.data.toList.drop 141 = dktX8_read_6 := dk_seg dksX8_read_5 23 rfl rfl
theorem dX8_read_0 : decode cX8_read 0 = .ok (.aload_n 0, 1) := dk_42 (dk_at dksX8_read_0 0 rfl rfl)
theorem dX8_read_1 : decode cX8_read 1 = .ok (.sipush 160, 3) := dk_17 0 160 (dk_at dksX8_read_0 1 rfl rfl)
theorem dX8_read_4 : decode cX8_read 4 = .ok (.iload_n 1, 1) := dk_27 (dk_at dksX8_read_0 4 rfl rfl)
theorem dX8_read_5 : decode cX8_read 5 = .ok (.imul, 1) := dk_104 (dk_at dksX8_read_0 5 rfl rfl)
theorem dX8_read_6 : decode cX8_read 6 = .ok (.putfield 135, 3) := dk_181 0 135 (dk_at dksX8_read_0 6 rfl rfl)
theorem dX8_read_9 : decode cX8_read 9 = .ok (.aload_n 0, 1) := dk_42 (dk_at dksX8_read_0 9 rfl rfl)
theorem dX8_read_10 : decode cX8_read 10 = .ok (.aload_n 0, 1) := dk_42 (dk_at dksX8_read_0 10 rfl rfl)
theorem dX8_read_11 : decode cX8_read 11 = .ok (.getfield 17, 3) := dk_180 0 17 (dk_at dksX8_read_0 11 rfl rfl)
theorem dX8_read_14 : decode cX8_read 14 = .ok (.iload_n 1, 1) := dk_27 (dk_at dksX8_read_0 14 rfl rfl)
theorem dX8_read_15 : decode cX8_read 15 = .ok (.iaload, 1) := dk_46 (dk_at dksX8_read_0 15 rfl rfl)
theorem dX8_read_16 : decode cX8_read 16 = .ok (.putfield 132, 3) := dk_181 0 132 (dk_at dksX8_read_0 16 rfl rfl)
theorem dX8_read_19 : decode cX8_read 19 = .ok (.aload_n 0, 1) := dk_42 (dk_at dksX8_read_0 19 rfl rfl)
theorem dX8_read_20 : decode cX8_read 20 = .ok (.iconst 0, 1) := dk_3 (dk_at dksX8_read_0 20 rfl rfl)
theorem dX8_read_21 : decode cX8_read 21 = .ok (.putfield 138, 3) := dk_181 0 138 (dk_at dksX8_read_0 21 rfl rfl)
theorem dX8_read_24 : decode cX8_read 24 = .ok (.aload_n 0, 1) := dk_42 (dk_at dksX8_read_1 0 rfl rfl)
theorem dX8_read_25 : decode cX8_read 25 = .ok (.iconst 0, 1) := dk_3 (dk_at dksX8_read_1 1 rfl rfl)
theorem dX8_read_26 : decode cX8_read 26 = .ok (.putfield 172, 3) := dk_181 0 172 (dk_at dksX8_read_1 2 rfl rfl)
theorem dX8_read_29 : decode cX8_read 29 = .ok (.aload_n 0, 1) := dk_42 (dk_at dksX8_read_1 5 rfl rfl)
theorem dX8_read_30 : decode cX8_read 30 = .ok (.iconst 0, 1) := dk_3 (dk_at dksX8_read_1 6 rfl rfl)
theorem dX8_read_31 : decode cX8_read 31 = .ok (.putfield 162, 3) := dk_181 0 162 (dk_at dksX8_read_1 7 rfl rfl)
theorem dX8_read_34 : decode cX8_read 34 = .ok (.aload_n 0, 1) := dk_42 (dk_at dksX8_read_1 10 rfl rfl)
theorem dX8_read_35 : decode cX8_read 35 = .ok (.invokevirtual 178, 3) := dk_182 0 178 (dk_at dksX8_read_1 11 rfl rfl)
theorem dX8_read_38 : decode cX8_read 38 = .ok (.aload_n 0, 1) := dk_42 (dk_at dksX8_read_1 14 rfl rfl)
theorem dX8_read_39 : decode cX8_read 39 = .ok (.aload_n 0, 1) := dk_42 (dk_at dksX8_read_1 15 rfl rfl)
theorem dX8_read_40 : decode cX8_read 40 = .ok (.bipush 114, 2) := dk_16 114 (dk_at dksX8_read_1 16 rfl rfl)
theorem dX8_read_42 : decode cX8_read 42 = .ok (.bipush 111, 2) := dk_16 111 (dk_at dksX8_read_1 18 rfl rfl)
theorem dX8_read_44 : decode cX8_read 44 = .ok (.bipush 116, 2) := dk_16 116 (dk_at dksX8_read_1 20 rfl rfl)
theorem dX8_read_46 : decode cX8_read 46 = .ok (.bipush 115, 2) := dk_16 115 (dk_at dksX8_read_1 22 rfl rfl)
theorem dX8_read_48 : decode cX8_read 48 = .ok (.iconst 0, 1) := dk_3 (dk_at dksX8_read_2 0 rfl rfl)
theorem dX8_read_49 : decode cX8_read 49 = .ok (.iconst 0, 1) := dk_3 (dk_at dksX8_read_2 1 rfl rfl)
theorem dX8_read_50 : decode cX8_read 50 = .ok (.iconst 0, 1) := dk_3 (dk_at dksX8_read_2 2 rfl rfl)
theorem dX8_read_51 : decode cX8_read 51 = .ok (.iconst 0, 1) := dk_3 (dk_at dksX8_read_2 3 rfl rfl)
theorem dX8_read_52 : decode cX8_read 52 = .ok (.invokevirtual 181, 3) := dk_182 0 181 (dk_at dksX8_read_2 4 rfl rfl)
theorem dX8_read_55 : decode cX8_read 55 = .ok (.invokevirtual 326, 3) := dk_182 1 70 (dk_at dksX8_read_2 7 rfl rfl)
theorem dX8_read_58 : decode cX8_read 58 = .ok (.istore_n 3, 1) := dk_62 (dk_at dksX8_read_2 10 rfl rfl)
theorem dX8_read_59 : decode cX8_read 59 = .ok (.aload_n 0, 1) := dk_42 (dk_at dksX8_read_2 11 rfl rfl)
theorem dX8_read_60 : decode cX8_read 60 = .ok (.getfield 162, 3) := dk_180 0 162 (dk_at dksX8_read_2 12 rfl rfl)
theorem dX8_read_63 : decode cX8_read 63 = .ok (.ifCond .eq 7, 3) := dk_153 0 7 (dk_at dksX8_read_2 15 rfl rfl)
theorem dX8_read_66 : decode cX8_read 66 = .ok (.iconst 0, 1) := dk_3 (dk_at dksX8_read_2 18 rfl rfl)
theorem dX8_read_67 : decode cX8_read 67 = .ok (.goto 23, 3) := dk_167 0 23 (dk_at dksX8_read_2 19 rfl rfl)
theorem dX8_read_70 : decode cX8_read 70 = .ok (.aload_n 0, 1) := dk_42 (dk_at dksX8_read_2 22 rfl rfl)
theorem dX8_read_71 : decode cX8_read 71 = .ok (.aload_n 0, 1) := dk_42 (dk_at dksX8_read_2 23 rfl rfl)
theorem dX8_read_72 : decode cX8_read 72 = .ok (.bipush 112, 2) := dk_16 112 (dk_at dksX8_read_3 0 rfl rfl)
theorem dX8_read_74 : decode cX8_read 74 = .ok (.bipush 97, 2) := dk_16 97 (dk_at dksX8_read_3 2 rfl rfl)
theorem dX8_read_76 : decode cX8_read 76 = .ok (.bipush 121, 2) := dk_16 121 (dk_at dksX8_read_3 4 rfl rfl)
theorem dX8_read_78 : decode cX8_read 78 = .ok (.bipush 115, 2) := dk_16 115 (dk_at dksX8_read_3 6 rfl rfl)
theorem dX8_read_80 : decode cX8_read 80 = .ok (.iconst 0, 1) := dk_3 (dk_at dksX8_read_3 8 rfl rfl)
theorem dX8_read_81 : decode cX8_read 81 = .ok (.iconst 0, 1) := dk_3 (dk_at dksX8_read_3 9 rfl rfl)
theorem dX8_read_82 : decode cX8_read 82 = .ok (.iconst 0, 1) := dk_3 (dk_at dksX8_read_3 10 rfl rfl)
theorem dX8_read_83 : decode cX8_read 83 = .ok (.iconst 0, 1) := dk_3 (dk_at dksX8_read_3 11 rfl rfl)
theorem dX8_read_84 : decode cX8_read 84 = .ok (.invokevirtual 181, 3) := dk_182 0 181 (dk_at dksX8_read_3 12 rfl rfl)
theorem dX8_read_87 : decode cX8_read 87 = .ok (.invokevirtual 326, 3) := dk_182 1 70 (dk_at dksX8_read_3 15 rfl rfl)
theorem dX8_read_90 : decode cX8_read 90 = .ok (.istore 4, 2) := dk_54 4 (dk_at dksX8_read_3 18 rfl rfl)
theorem dX8_read_92 : decode cX8_read 92 = .ok (.aload_n 0, 1) := dk_42 (dk_at dksX8_read_3 20 rfl rfl)
theorem dX8_read_93 : decode cX8_read 93 = .ok (.getfield 162, 3) := dk_180 0 162 (dk_at dksX8_read_3 21 rfl rfl)
theorem dX8_read_96 : decode cX8_read 96 = .ok (.ifCond .eq 7, 3) := dk_153 0 7 (dk_at dksX8_read_4 0 rfl rfl)
theorem dX8_read_99 : decode cX8_read 99 = .ok (.iconst 0, 1) := dk_3 (dk_at dksX8_read_4 3 rfl rfl)
theorem dX8_read_100 : decode cX8_read 100 = .ok (.goto 24, 3) := dk_167 0 24 (dk_at dksX8_read_4 4 rfl rfl)
theorem dX8_read_103 : decode cX8_read 103 = .ok (.aload_n 0, 1) := dk_42 (dk_at dksX8_read_4 7 rfl rfl)
theorem dX8_read_104 : decode cX8_read 104 = .ok (.aload_n 0, 1) := dk_42 (dk_at dksX8_read_4 8 rfl rfl)
theorem dX8_read_105 : decode cX8_read 105 = .ok (.bipush 102, 2) := dk_16 102 (dk_at dksX8_read_4 9 rfl rfl)
theorem dX8_read_107 : decode cX8_read 107 = .ok (.bipush 105, 2) := dk_16 105 (dk_at dksX8_read_4 11 rfl rfl)
theorem dX8_read_109 : decode cX8_read 109 = .ok (.bipush 110, 2) := dk_16 110 (dk_at dksX8_read_4 13 rfl rfl)
theorem dX8_read_111 : decode cX8_read 111 = .ok (.bipush 100, 2) := dk_16 100 (dk_at dksX8_read_4 15 rfl rfl)
theorem dX8_read_113 : decode cX8_read 113 = .ok (.bipush 115, 2) := dk_16 115 (dk_at dksX8_read_4 17 rfl rfl)
theorem dX8_read_115 : decode cX8_read 115 = .ok (.iconst 0, 1) := dk_3 (dk_at dksX8_read_4 19 rfl rfl)
theorem dX8_read_116 : decode cX8_read 116 = .ok (.iconst 0, 1) := dk_3 (dk_at dksX8_read_4 20 rfl rfl)
theorem dX8_read_117 : decode cX8_read 117 = .ok (.iconst 0, 1) := dk_3 (dk_at dksX8_read_4 21 rfl rfl)
theorem dX8_read_118 : decode cX8_read 118 = .ok (.invokevirtual 181, 3) := dk_182 0 181 (dk_at dksX8_read_5 0 rfl rfl)
theorem dX8_read_121 : decode cX8_read 121 = .ok (.invokevirtual 326, 3) := dk_182 1 70 (dk_at dksX8_read_5 3 rfl rfl)
theorem dX8_read_124 : decode cX8_read 124 = .ok (.istore 5, 2) := dk_54 5 (dk_at dksX8_read_5 6 rfl rfl)
theorem dX8_read_126 : decode cX8_read 126 = .ok (.aload_n 0, 1) := dk_42 (dk_at dksX8_read_5 8 rfl rfl)
theorem dX8_read_127 : decode cX8_read 127 = .ok (.getfield 162, 3) := dk_180 0 162 (dk_at dksX8_read_5 9 rfl rfl)
theorem dX8_read_130 : decode cX8_read 130 = .ok (.ifCond .ne 14, 3) := dk_154 0 14 (dk_at dksX8_read_5 12 rfl rfl)
theorem dX8_read_133 : decode cX8_read 133 = .ok (.aload_n 0, 1) := dk_42 (dk_at dksX8_read_5 15 rfl rfl)
theorem dX8_read_134 : decode cX8_read 134 = .ok (.getfield 147, 3) := dk_180 0 147 (dk_at dksX8_read_5 16 rfl rfl)
theorem dX8_read_137 : decode cX8_read 137 = .ok (.ifCond .eq 7, 3) := dk_153 0 7 (dk_at dksX8_read_5 19 rfl rfl)
theorem dX8_read_140 : decode cX8_read 140 = .ok (.aload_n 0, 1) := dk_42 (dk_at dksX8_read_5 22 rfl rfl)
theorem dX8_read_141 : decode cX8_read 141 = .ok (.invokevirtual 175, 3) := dk_182 0 175 (dk_at dksX8_read_6 0 rfl rfl)
theorem dX8_read_144 : decode cX8_read 144 = .ok (.iload_n 2, 1) := dk_28 (dk_at dksX8_read_6 3 rfl rfl)
theorem dX8_read_145 : decode cX8_read 145 = .ok (.ifCond .ne 7, 3) := dk_154 0 7 (dk_at dksX8_read_6 4 rfl rfl)
theorem dX8_read_148 : decode cX8_read 148 = .ok (.iload_n 3, 1) := dk_29 (dk_at dksX8_read_6 7 rfl rfl)
theorem dX8_read_149 : decode cX8_read 149 = .ok (.goto 15, 3) := dk_167 0 15 (dk_at dksX8_read_6 8 rfl rfl)
theorem dX8_read_152 : decode cX8_read 152 = .ok (.iload_n 2, 1) := dk_28 (dk_at dksX8_read_6 11 rfl rfl)
theorem dX8_read_153 : decode cX8_read 153 = .ok (.iconst 1, 1) := dk_4 (dk_at dksX8_read_6 12 rfl rfl)
theorem dX8_read_154 : decode cX8_read 154 = .ok (.if_icmp .ne 8, 3) := dk_160 0 8 (dk_at dksX8_read_6 13 rfl rfl)
theorem dX8_read_157 : decode cX8_read 157 = .ok (.iload 4, 2) := dk_21 4 (dk_at dksX8_read_6 16 rfl rfl)
theorem dX8_read_159 : decode cX8_read 159 = .ok (.goto 5, 3) := dk_167 0 5 (dk_at dksX8_read_6 18 rfl rfl)
theorem dX8_read_162 : decode cX8_read 162 = .ok (.iload 5, 2) := dk_21 5 (dk_at dksX8_read_6 21 rfl rfl)
theorem dX8_read_164 : decode cX8_read 164 = .ok (.ireturn, 1) := dk_172 (dk_at dksX8_read_6 23 rfl rfl)
def dkwX8_next_13 : List UInt8 := [181, 0, 147, 42, 27, 133, 181, 0, 158, 42, 89, 180, 0, 138, 4, 96, 181, 0, 138, 177]
abbrev dktX8_next_13 : List UInt8 := dkwX8_next_13 ++ []
def dkwX8_next_12 : List UInt8 := [159, 0, 21, 27, 16, 42, 159, 0, 15, 27, 16, 60, 159, 0, 9, 27, 16, 61, 160, 0, 24, 42, 6]
abbrev dktX8_next_12 : List UInt8 := dkwX8_next_12 ++ dktX8_next_13
def dkwX8_next_11 : List UInt8 := [159, 0, 45, 27, 16, 41, 159, 0, 39, 27, 16, 59, 159, 0, 33, 27, 16, 43, 159, 0, 27, 27, 16, 45]
abbrev dktX8_next_11 : List UInt8 := dkwX8_next_11 ++ dktX8_next_12
def dkwX8_next_10 : List UInt8 := [167, 255, 184, 42, 28, 7, 164, 0, 7, 7, 167, 0, 4, 5, 181, 0, 147, 167, 0, 72, 27, 16, 40]
abbrev dktX8_next_10 : List UInt8 := dkwX8_next_10 ++ dktX8_next_11
def dkwX8_next_9 : List UInt8 := [167, 0, 7, 42, 180, 0, 158, 181, 0, 158, 132, 2, 1, 42, 89, 180, 0, 138, 4, 96, 181, 0, 138]
abbrev dktX8_next_9 : List UInt8 := dkwX8_next_9 ++ dktX8_next_10
def dkwX8_next_8 : List UInt8 := [20, 0, 113, 42, 180, 0, 158, 105, 42, 42, 180, 0, 138, 182, 0, 141, 133, 97, 20, 0, 154, 101]
abbrev dktX8_next_8 : List UInt8 := dkwX8_next_8 ++ dktX8_next_9
def dkwX8_next_7 : List UInt8 := [182, 0, 141, 133, 20, 0, 154, 20, 0, 156, 184, 0, 70, 153, 0, 57, 42, 28, 7, 162, 0, 28]
abbrev dktX8_next_7 : List UInt8 := dkwX8_next_7 ++ dktX8_next_8
def dkwX8_next_6 : List UInt8 := [184, 0, 70, 153, 0, 107, 42, 5, 181, 0, 147, 42, 9, 181, 0, 158, 3, 61, 42, 42, 180, 0, 138]
abbrev dktX8_next_6 : List UInt8 := dkwX8_next_6 ++ dktX8_next_7
def dkwX8_next_5 : List UInt8 := [153, 0, 203, 42, 89, 180, 0, 138, 4, 96, 181, 0, 138, 167, 255, 225, 27, 133, 20, 0, 154, 20, 0, 156]
abbrev dktX8_next_5 : List UInt8 := dkwX8_next_5 ++ dktX8_next_6
def dkwX8_next_4 : List UInt8 := [42, 4, 181, 0, 147, 42, 42, 180, 0, 138, 182, 0, 141, 133, 20, 0, 150, 20, 0, 152, 184, 0, 70]
abbrev dktX8_next_4 : List UInt8 := dkwX8_next_4 ++ dktX8_next_5
def dkwX8_next_3 : List UInt8 := [42, 180, 0, 132, 181, 0, 144, 167, 0, 243, 27, 133, 20, 0, 150, 20, 0, 152, 184, 0, 70, 153, 0, 42]
abbrev dktX8_next_3 : List UInt8 := dkwX8_next_3 ++ dktX8_next_4
def dkwX8_next_2 : List UInt8 := [42, 42, 180, 0, 138, 182, 0, 141, 60, 42, 7, 181, 0, 147, 27, 156, 0, 19, 42, 3, 181, 0, 147, 42]
abbrev dktX8_next_2 : List UInt8 := dkwX8_next_2 ++ dktX8_next_3
def dkwX8_next_1 : List UInt8 := [160, 0, 16, 42, 89, 180, 0, 138, 4, 96, 181, 0, 138, 167, 255, 220, 42, 42, 180, 0, 138, 181, 0, 144]
abbrev dktX8_next_1 : List UInt8 := dkwX8_next_1 ++ dktX8_next_2
def dkwX8_next_0 : List UInt8 := [42, 42, 180, 0, 138, 182, 0, 141, 16, 32, 159, 0, 16, 42, 42, 180, 0, 138, 182, 0, 141, 16, 10]
abbrev dktX8_next_0 : List UInt8 := dkwX8_next_0 ++ dktX8_next_1
theorem dksX8_next_0 : cX8_next.data.toList.drop 0 = dktX8_next_0 := by decide +kernel
theorem dksX8_next_1 : cX8_next.data.toList.drop 23 = dktX8_next_1 := dk_seg dksX8_next_0 23 rfl rfl
theorem dksX8_next_2 : cX8_next.data.toList.drop 47 = dktX8_next_2 := dk_seg dksX8_next_1 24 rfl rfl
theorem dksX8_next_3 : cX8_next.data.toList.drop 71 = dktX8_next_3 := dk_seg dksX8_next_2 24 rfl rfl
theorem dksX8_next_4 : cX8_next.data.toList.drop 95 = dktX8_next_4 := dk_seg dksX8_next_3 24 rfl rfl
theorem dksX8_next_5 : cX8_next.data.toList.drop 118 = dktX8_next_5 := dk_seg dksX8_next_4 23 rfl rfl
theorem dksX8_next_6 : cX8_next.data.toList.drop 142 = dktX8_next_6 := dk_seg dksX8_next_5 24 rfl rfl
theorem dksX8_next_7 : cX8_next.data.toList.drop 165 = dktX8_next_7 := dk_seg dksX8_next_6 23 rfl rfl
theorem dksX8_next_8 : cX8_next.data.toList.drop 187 = dktX8_next_8 := dk_seg dksX8_next_7 22 rfl rfl
theorem dksX8_next_9 : cX8_next.data.toList.drop 209 = dktX8_next_9 := dk_seg dksX8_next_8 22 rfl rfl
theorem dksX8_next_10 : cX8_next.data.toList.drop 232 = dktX8_next_10 := dk_seg dksX8_next_9 23 rfl rfl
theorem dksX8_next_11 : cX8_next.data.toList.drop 255 = dktX8_next_11 := dk_seg dksX8_next_10 23 rfl rfl
theorem dksX8_next_12 : cX8_next.data.toList.drop 279 = dktX8_next_12 := dk_seg dksX8_next_11 24 rfl rfl
theorem dksX8_next_13 : cX8_next.data.toList.drop 302 = dktX8_next_13 := dk_seg dksX8_next_12 23 rfl rfl
theorem dX8_next_0 : decode cX8_next 0 = .ok (.aload_n 0, 1) := dk_42 (dk_at dksX8_next_0 0 rfl rfl)
theorem dX8_next_1 : decode cX8_next 1 = .ok (.aload_n 0, 1) := dk_42 (dk_at dksX8_next_0 1 rfl rfl)
theorem dX8_next_2 : decode cX8_next 2 = .ok (.getfield 138, 3) := dk_180 0 138 (dk_at dksX8_next_0 2 rfl rfl)
theorem dX8_next_5 : decode cX8_next 5 = .ok (.invokevirtual 141, 3) := dk_182 0 141 (dk_at dksX8_next_0 5 rfl rfl)
theorem dX8_next_8 : decode cX8_next 8 = .ok (.bipush 32, 2) := dk_16 32 (dk_at dksX8_next_0 8 rfl rfl)
theorem dX8_next_10 : decode cX8_next 10 = .ok (.if_icmp .eq 16, 3) := dk_159 0 16 (dk_at dksX8_next_0 10 rfl rfl)
theorem dX8_next_13 : decode cX8_next 13 = .ok (.aload_n 0, 1) := dk_42 (dk_at dksX8_next_0 13 rfl rfl)
theorem dX8_next_14 : decode cX8_next 14 = .ok (.aload_n 0, 1) := dk_42 (dk_at dksX8_next_0 14 rfl rfl)
theorem dX8_next_15 : decode cX8_next 15 = .ok (.getfield 138, 3) := dk_180 0 138 (dk_at dksX8_next_0 15 rfl rfl)
theorem dX8_next_18 : decode cX8_next 18 = .ok (.invokevirtual 141, 3) := dk_182 0 141 (dk_at dksX8_next_0 18 rfl rfl)
theorem dX8_next_21 : decode cX8_next 21 = .ok (.bipush 10, 2) := dk_16 10 (dk_at dksX8_next_0 21 rfl rfl)
theorem dX8_next_23 : decode cX8_next 23 = .ok (.if_icmp .ne 16, 3) := dk_160 0 16 (dk_at dksX8_next_1 0 rfl rfl)
theorem dX8_next_26 : decode cX8_next 26 = .ok (.aload_n 0, 1) := dk_42 (dk_at dksX8_next_1 3 rfl rfl)
theorem dX8_next_27 : decode cX8_next 27 = .ok (.dup, 1) := dk_89 (dk_at dksX8_next_1 4 rfl rfl)
theorem dX8_next_28 : decode cX8_next 28 = .ok (.getfield 138, 3) := dk_180 0 138 (dk_at dksX8_next_1 5 rfl rfl)
theorem dX8_next_31 : decode cX8_next 31 = .ok (.iconst 1, 1) := dk_4 (dk_at dksX8_next_1 8 rfl rfl)
theorem dX8_next_32 : decode cX8_next 32 = .ok (.iadd, 1) := dk_96 (dk_at dksX8_next_1 9 rfl rfl)
theorem dX8_next_33 : decode cX8_next 33 = .ok (.putfield 138, 3) := dk_181 0 138 (dk_at dksX8_next_1 10 rfl rfl)
theorem dX8_next_36 : decode cX8_next 36 = .ok (.goto (-36), 3) := dk_167 255 220 (dk_at dksX8_next_1 13 rfl rfl)
theorem dX8_next_39 : decode cX8_next 39 = .ok (.aload_n 0, 1) := dk_42 (dk_at dksX8_next_1 16 rfl rfl)
theorem dX8_next_40 : decode cX8_next 40 = .ok (.aload_n 0, 1) := dk_42 (dk_at dksX8_next_1 17 rfl rfl)
theorem dX8_next_41 : decode cX8_next 41 = .ok (.getfield 138, 3) := dk_180 0 138 (dk_at dksX8_next_1 18 rfl rfl)
theorem dX8_next_44 : decode cX8_next 44 = .ok (.putfield 144, 3) := dk_181 0 144 (dk_at dksX8_next_1 21 rfl rfl)
theorem dX8_next_47 : decode cX8_next 47 = .ok (.aload_n 0, 1) := dk_42 (dk_at dksX8_next_2 0 rfl rfl)
theorem dX8_next_48 : decode cX8_next 48 = .ok (.aload_n 0, 1) := dk_42 (dk_at dksX8_next_2 1 rfl rfl)
theorem dX8_next_49 : decode cX8_next 49 = .ok (.getfield 138, 3) := dk_180 0 138 (dk_at dksX8_next_2 2 rfl rfl)
theorem dX8_next_52 : decode cX8_next 52 = .ok (.invokevirtual 141, 3) := dk_182 0 141 (dk_at dksX8_next_2 5 rfl rfl)
theorem dX8_next_55 : decode cX8_next 55 = .ok (.istore_n 1, 1) := dk_60 (dk_at dksX8_next_2 8 rfl rfl)
theorem dX8_next_56 : decode cX8_next 56 = .ok (.aload_n 0, 1) := dk_42 (dk_at dksX8_next_2 9 rfl rfl)
theorem dX8_next_57 : decode cX8_next 57 = .ok (.iconst 4, 1) := dk_7 (dk_at dksX8_next_2 10 rfl rfl)
theorem dX8_next_58 : decode cX8_next 58 = .ok (.putfield 147, 3) := dk_181 0 147 (dk_at dksX8_next_2 11 rfl rfl)
theorem dX8_next_61 : decode cX8_next 61 = .ok (.iload_n 1, 1) := dk_27 (dk_at dksX8_next_2 14 rfl rfl)
theorem dX8_next_62 : decode cX8_next 62 = .ok (.ifCond .ge 19, 3) := dk_156 0 19 (dk_at dksX8_next_2 15 rfl rfl)
theorem dX8_next_65 : decode cX8_next 65 = .ok (.aload_n 0, 1) := dk_42 (dk_at dksX8_next_2 18 rfl rfl)
theorem dX8_next_66 : decode cX8_next 66 = .ok (.iconst 0, 1) := dk_3 (dk_at dksX8_next_2 19 rfl rfl)
theorem dX8_next_67 : decode cX8_next 67 = .ok (.putfield 147, 3) := dk_181 0 147 (dk_at dksX8_next_2 20 rfl rfl)
theorem dX8_next_70 : decode cX8_next 70 = .ok (.aload_n 0, 1) := dk_42 (dk_at dksX8_next_2 23 rfl rfl)
theorem dX8_next_71 : decode cX8_next 71 = .ok (.aload_n 0, 1) := dk_42 (dk_at dksX8_next_3 0 rfl rfl)
theorem dX8_next_72 : decode cX8_next 72 = .ok (.getfield 132, 3) := dk_180 0 132 (dk_at dksX8_next_3 1 rfl rfl)
theorem dX8_next_75 : decode cX8_next 75 = .ok (.putfield 144, 3) := dk_181 0 144 (dk_at dksX8_next_3 4 rfl rfl)
theorem dX8_next_78 : decode cX8_next 78 = .ok (.goto 243, 3) := dk_167 0 243 (dk_at dksX8_next_3 7 rfl rfl)
theorem dX8_next_81 : decode cX8_next 81 = .ok (.iload_n 1, 1) := dk_27 (dk_at dksX8_next_3 10 rfl rfl)
theorem dX8_next_82 : decode cX8_next 82 = .ok (.i2l, 1) := dk_133 (dk_at dksX8_next_3 11 rfl rfl)
theorem dX8_next_83 : decode cX8_next 83 = .ok (.ldc2_w 150, 3) := dk_20 0 150 (dk_at dksX8_next_3 12 rfl rfl)
theorem dX8_next_86 : decode cX8_next 86 = .ok (.ldc2_w 152, 3) := dk_20 0 152 (dk_at dksX8_next_3 15 rfl rfl)
theorem dX8_next_89 : decode cX8_next 89 = .ok (.invokestatic 70, 3) := dk_184 0 70 (dk_at dksX8_next_3 18 rfl rfl)
theorem dX8_next_92 : decode cX8_next 92 = .ok (.ifCond .eq 42, 3) := dk_153 0 42 (dk_at dksX8_next_3 21 rfl rfl)
theorem dX8_next_95 : decode cX8_next 95 = .ok (.aload_n 0, 1) := dk_42 (dk_at dksX8_next_4 0 rfl rfl)
theorem dX8_next_96 : decode cX8_next 96 = .ok (.iconst 1, 1) := dk_4 (dk_at dksX8_next_4 1 rfl rfl)
theorem dX8_next_97 : decode cX8_next 97 = .ok (.putfield 147, 3) := dk_181 0 147 (dk_at dksX8_next_4 2 rfl rfl)
theorem dX8_next_100 : decode cX8_next 100 = .ok (.aload_n 0, 1) := dk_42 (dk_at dksX8_next_4 5 rfl rfl)
theorem dX8_next_101 : decode cX8_next 101 = .ok (.aload_n 0, 1) := dk_42 (dk_at dksX8_next_4 6 rfl rfl)
theorem dX8_next_102 : decode cX8_next 102 = .ok (.getfield 138, 3) := dk_180 0 138 (dk_at dksX8_next_4 7 rfl rfl)
theorem dX8_next_105 : decode cX8_next 105 = .ok (.invokevirtual 141, 3) := dk_182 0 141 (dk_at dksX8_next_4 10 rfl rfl)
theorem dX8_next_108 : decode cX8_next 108 = .ok (.i2l, 1) := dk_133 (dk_at dksX8_next_4 13 rfl rfl)
theorem dX8_next_109 : decode cX8_next 109 = .ok (.ldc2_w 150, 3) := dk_20 0 150 (dk_at dksX8_next_4 14 rfl rfl)
theorem dX8_next_112 : decode cX8_next 112 = .ok (.ldc2_w 152, 3) := dk_20 0 152 (dk_at dksX8_next_4 17 rfl rfl)
theorem dX8_next_115 : decode cX8_next 115 = .ok (.invokestatic 70, 3) := dk_184 0 70 (dk_at dksX8_next_4 20 rfl rfl)
theorem dX8_next_118 : decode cX8_next 118 = .ok (.ifCond .eq 203, 3) := dk_153 0 203 (dk_at dksX8_next_5 0 rfl rfl)
theorem dX8_next_121 : decode cX8_next 121 = .ok (.aload_n 0, 1) := dk_42 (dk_at dksX8_next_5 3 rfl rfl)
theorem dX8_next_122 : decode cX8_next 122 = .ok (.dup, 1) := dk_89 (dk_at dksX8_next_5 4 rfl rfl)
theorem dX8_next_123 : decode cX8_next 123 = .ok (.getfield 138, 3) := dk_180 0 138 (dk_at dksX8_next_5 5 rfl rfl)
theorem dX8_next_126 : decode cX8_next 126 = .ok (.iconst 1, 1) := dk_4 (dk_at dksX8_next_5 8 rfl rfl)
theorem dX8_next_127 : decode cX8_next 127 = .ok (.iadd, 1) := dk_96 (dk_at dksX8_next_5 9 rfl rfl)
theorem dX8_next_128 : decode cX8_next 128 = .ok (.putfield 138, 3) := dk_181 0 138 (dk_at dksX8_next_5 10 rfl rfl)
theorem dX8_next_131 : decode cX8_next 131 = .ok (.goto (-31), 3) := dk_167 255 225 (dk_at dksX8_next_5 13 rfl rfl)
theorem dX8_next_134 : decode cX8_next 134 = .ok (.iload_n 1, 1) := dk_27 (dk_at dksX8_next_5 16 rfl rfl)
theorem dX8_next_135 : decode cX8_next 135 = .ok (.i2l, 1) := dk_133 (dk_at dksX8_next_5 17 rfl rfl)
theorem dX8_next_136 : decode cX8_next 136 = .ok (.ldc2_w 154, 3) := dk_20 0 154 (dk_at dksX8_next_5 18 rfl rfl)
theorem dX8_next_139 : decode cX8_next 139 = .ok (.ldc2_w 156, 3) := dk_20 0 156 (dk_at dksX8_next_5 21 rfl rfl)
theorem dX8_next_142 : decode cX8_next 142 = .ok (.invokestatic 70, 3) := dk_184 0 70 (dk_at dksX8_next_6 0 rfl rfl)
theorem dX8_next_145 : decode cX8_next 145 = .ok (.ifCond .eq 107, 3) := dk_153 0 107 (dk_at dksX8_next_6 3 rfl rfl)
theorem dX8_next_148 : decode cX8_next 148 = .ok (.aload_n 0, 1) := dk_42 (dk_at dksX8_next_6 6 rfl rfl)
theorem dX8_next_149 : decode cX8_next 149 = .ok (.iconst 2, 1) := dk_5 (dk_at dksX8_next_6 7 rfl rfl)
theorem dX8_next_150 : decode cX8_next 150 = .ok (.putfield 147, 3) := dk_181 0 147 (dk_at dksX8_next_6 8 rfl rfl)
theorem dX8_next_153 : decode cX8_next 153 = .ok (.aload_n 0, 1) := dk_42 (dk_at dksX8_next_6 11 rfl rfl)
theorem dX8_next_154 : decode cX8_next 154 = .ok (.lconst 0, 1) := dk_9 (dk_at dksX8_next_6 12 rfl rfl)
theorem dX8_next_155 : decode cX8_next 155 = .ok (.putfield 158, 3) := dk_181 0 158 (dk_at dksX8_next_6 13 rfl rfl)
theorem dX8_next_158 : decode cX8_next 158 = .ok (.iconst 0, 1) := dk_3 (dk_at dksX8_next_6 16 rfl rfl)
theorem dX8_next_159 : decode cX8_next 159 = .ok (.istore_n 2, 1) := dk_61 (dk_at dksX8_next_6 17 rfl rfl)
theorem dX8_next_160 : decode cX8_next 160 = .ok (.aload_n 0, 1) := dk_42 (dk_at dksX8_next_6 18 rfl rfl)
theorem dX8_next_161 : decode cX8_next 161 = .ok (.aload_n 0, 1) := dk_42 (dk_at dksX8_next_6 19 rfl rfl)
theorem dX8_next_162 : decode cX8_next 162 = .ok (.getfield 138, 3) := dk_180 0 138 (dk_at dksX8_next_6 20 rfl rfl)
theorem dX8_next_165 : decode cX8_next 165 = .ok (.invokevirtual 141, 3) := dk_182 0 141 (dk_at dksX8_next_7 0 rfl rfl)
theorem dX8_next_168 : decode cX8_next 168 = .ok (.i2l, 1) := dk_133 (dk_at dksX8_next_7 3 rfl rfl)
theorem dX8_next_169 : decode cX8_next 169 = .ok (.ldc2_w 154, 3) := dk_20 0 154 (dk_at dksX8_next_7 4 rfl rfl)
theorem dX8_next_172 : decode cX8_next 172 = .ok (.ldc2_w 156, 3) := dk_20 0 156 (dk_at dksX8_next_7 7 rfl rfl)
theorem dX8_next_175 : decode cX8_next 175 = .ok (.invokestatic 70, 3) := dk_184 0 70 (dk_at dksX8_next_7 10 rfl rfl)
theorem dX8_next_178 : decode cX8_next 178 = .ok (.ifCond .eq 57, 3) := dk_153 0 57 (dk_at dksX8_next_7 13 rfl rfl)
theorem dX8_next_181 : decode cX8_next 181 = .ok (.aload_n 0, 1) := dk_42 (dk_at dksX8_next_7 16 rfl rfl)
theorem dX8_next_182 : decode cX8_next 182 = .ok (.iload_n 2, 1) := dk_28 (dk_at dksX8_next_7 17 rfl rfl)
theorem dX8_next_183 : decode cX8_next 183 = .ok (.iconst 4, 1) := dk_7 (dk_at dksX8_next_7 18 rfl rfl)
theorem dX8_next_184 : decode cX8_next 184 = .ok (.if_icmp .ge 28, 3) := dk_162 0 28 (dk_at dksX8_next_7 19 rfl rfl)
theorem dX8_next_187 : decode cX8_next 187 = .ok (.ldc2_w 113, 3) := dk_20 0 113 (dk_at dksX8_next_8 0 rfl rfl)
theorem dX8_next_190 : decode cX8_next 190 = .ok (.aload_n 0, 1) := dk_42 (dk_at dksX8_next_8 3 rfl rfl)
theorem dX8_next_191 : decode cX8_next 191 = .ok (.getfield 158, 3) := dk_180 0 158 (dk_at dksX8_next_8 4 rfl rfl)
theorem dX8_next_194 : decode cX8_next 194 = .ok (.lmul, 1) := dk_105 (dk_at dksX8_next_8 7 rfl rfl)
theorem dX8_next_195 : decode cX8_next 195 = .ok (.aload_n 0, 1) := dk_42 (dk_at dksX8_next_8 8 rfl rfl)
theorem dX8_next_196 : decode cX8_next 196 = .ok (.aload_n 0, 1) := dk_42 (dk_at dksX8_next_8 9 rfl rfl)
theorem dX8_next_197 : decode cX8_next 197 = .ok (.getfield 138, 3) := dk_180 0 138 (dk_at dksX8_next_8 10 rfl rfl)
theorem dX8_next_200 : decode cX8_next 200 = .ok (.invokevirtual 141, 3) := dk_182 0 141 (dk_at dksX8_next_8 13 rfl rfl)
theorem dX8_next_203 : decode cX8_next 203 = .ok (.i2l, 1) := dk_133 (dk_at dksX8_next_8 16 rfl rfl)
theorem dX8_next_204 : decode cX8_next 204 = .ok (.ladd, 1) := dk_97 (dk_at dksX8_next_8 17 rfl rfl)
theorem dX8_next_205 : decode cX8_next 205 = .ok (.ldc2_w 154, 3) := dk_20 0 154 (dk_at dksX8_next_8 18 rfl rfl)
theorem dX8_next_208 : decode cX8_next 208 = .ok (.lsub, 1) := dk_101 (dk_at dksX8_next_8 21 rfl rfl)
theorem dX8_next_209 : decode cX8_next 209 = .ok (.goto 7, 3) := dk_167 0 7 (dk_at dksX8_next_9 0 rfl rfl)
theorem dX8_next_212 : decode cX8_next 212 = .ok (.aload_n 0, 1) := dk_42 (dk_at dksX8_next_9 3 rfl rfl)
theorem dX8_next_213 : decode cX8_next 213 = .ok (.getfield 158, 3) := dk_180 0 158 (dk_at dksX8_next_9 4 rfl rfl)
theorem dX8_next_216 : decode cX8_next 216 = .ok (.putfield 158, 3) := dk_181 0 158 (dk_at dksX8_next_9 7 rfl rfl)
theorem dX8_next_219 : decode cX8_next 219 = .ok (.iinc 2 1, 3) := dk_132 2 1 (dk_at dksX8_next_9 10 rfl rfl)
theorem dX8_next_222 : decode cX8_next 222 = .ok (.aload_n 0, 1) := dk_42 (dk_at dksX8_next_9 13 rfl rfl)
theorem dX8_next_223 : decode cX8_next 223 = .ok (.dup, 1) := dk_89 (dk_at dksX8_next_9 14 rfl rfl)
theorem dX8_next_224 : decode cX8_next 224 = .ok (.getfield 138, 3) := dk_180 0 138 (dk_at dksX8_next_9 15 rfl rfl)
theorem dX8_next_227 : decode cX8_next 227 = .ok (.iconst 1, 1) := dk_4 (dk_at dksX8_next_9 18 rfl rfl)
theorem dX8_next_228 : decode cX8_next 228 = .ok (.iadd, 1) := dk_96 (dk_at dksX8_next_9 19 rfl rfl)
theorem dX8_next_229 : decode cX8_next 229 = .ok (.putfield 138, 3) := dk_181 0 138 (dk_at dksX8_next_9 20 rfl rfl)
theorem dX8_next_232 : decode cX8_next 232 = .ok (.goto (-72), 3) := dk_167 255 184 (dk_at dksX8_next_10 0 rfl rfl)
theorem dX8_next_235 : decode cX8_next 235 = .ok (.aload_n 0, 1) := dk_42 (dk_at dksX8_next_10 3 rfl rfl)
theorem dX8_next_236 : decode cX8_next 236 = .ok (.iload_n 2, 1) := dk_28 (dk_at dksX8_next_10 4 rfl rfl)
theorem dX8_next_237 : decode cX8_next 237 = .ok (.iconst 4, 1) := dk_7 (dk_at dksX8_next_10 5 rfl rfl)
theorem dX8_next_238 : decode cX8_next 238 = .ok (.if_icmp .le 7, 3) := dk_164 0 7 (dk_at dksX8_next_10 6 rfl rfl)
theorem dX8_next_241 : decode cX8_next 241 = .ok (.iconst 4, 1) := dk_7 (dk_at dksX8_next_10 9 rfl rfl)
theorem dX8_next_242 : decode cX8_next 242 = .ok (.goto 4, 3) := dk_167 0 4 (dk_at dksX8_next_10 10 rfl rfl)
theorem dX8_next_245 : decode cX8_next 245 = .ok (.iconst 2, 1) := dk_5 (dk_at dksX8_next_10 13 rfl rfl)
theorem dX8_next_246 : decode cX8_next 246 = .ok (.putfield 147, 3) := dk_181 0 147 (dk_at dksX8_next_10 14 rfl rfl)
theorem dX8_next_249 : decode cX8_next 249 = .ok (.goto 72, 3) := dk_167 0 72 (dk_at dksX8_next_10 17 rfl rfl)
theorem dX8_next_252 : decode cX8_next 252 = .ok (.iload_n 1, 1) := dk_27 (dk_at dksX8_next_10 20 rfl rfl)
theorem dX8_next_253 : decode cX8_next 253 = .ok (.bipush 40, 2) := dk_16 40 (dk_at dksX8_next_10 21 rfl rfl)
theorem dX8_next_255 : decode cX8_next 255 = .ok (.if_icmp .eq 45, 3) := dk_159 0 45 (dk_at dksX8_next_11 0 rfl rfl)
theorem dX8_next_258 : decode cX8_next 258 = .ok (.iload_n 1, 1) := dk_27 (dk_at dksX8_next_11 3 rfl rfl)
theorem dX8_next_259 : decode cX8_next 259 = .ok (.bipush 41, 2) := dk_16 41 (dk_at dksX8_next_11 4 rfl rfl)
theorem dX8_next_261 : decode cX8_next 261 = .ok (.if_icmp .eq 39, 3) := dk_159 0 39 (dk_at dksX8_next_11 6 rfl rfl)
theorem dX8_next_264 : decode cX8_next 264 = .ok (.iload_n 1, 1) := dk_27 (dk_at dksX8_next_11 9 rfl rfl)
theorem dX8_next_265 : decode cX8_next 265 = .ok (.bipush 59, 2) := dk_16 59 (dk_at dksX8_next_11 10 rfl rfl)
theorem dX8_next_267 : decode cX8_next 267 = .ok (.if_icmp .eq 33, 3) := dk_159 0 33 (dk_at dksX8_next_11 12 rfl rfl)
theorem dX8_next_270 : decode cX8_next 270 = .ok (.iload_n 1, 1) := dk_27 (dk_at dksX8_next_11 15 rfl rfl)
theorem dX8_next_271 : decode cX8_next 271 = .ok (.bipush 43, 2) := dk_16 43 (dk_at dksX8_next_11 16 rfl rfl)
theorem dX8_next_273 : decode cX8_next 273 = .ok (.if_icmp .eq 27, 3) := dk_159 0 27 (dk_at dksX8_next_11 18 rfl rfl)
theorem dX8_next_276 : decode cX8_next 276 = .ok (.iload_n 1, 1) := dk_27 (dk_at dksX8_next_11 21 rfl rfl)
theorem dX8_next_277 : decode cX8_next 277 = .ok (.bipush 45, 2) := dk_16 45 (dk_at dksX8_next_11 22 rfl rfl)
theorem dX8_next_279 : decode cX8_next 279 = .ok (.if_icmp .eq 21, 3) := dk_159 0 21 (dk_at dksX8_next_12 0 rfl rfl)
theorem dX8_next_282 : decode cX8_next 282 = .ok (.iload_n 1, 1) := dk_27 (dk_at dksX8_next_12 3 rfl rfl)
theorem dX8_next_283 : decode cX8_next 283 = .ok (.bipush 42, 2) := dk_16 42 (dk_at dksX8_next_12 4 rfl rfl)
theorem dX8_next_285 : decode cX8_next 285 = .ok (.if_icmp .eq 15, 3) := dk_159 0 15 (dk_at dksX8_next_12 6 rfl rfl)
theorem dX8_next_288 : decode cX8_next 288 = .ok (.iload_n 1, 1) := dk_27 (dk_at dksX8_next_12 9 rfl rfl)
theorem dX8_next_289 : decode cX8_next 289 = .ok (.bipush 60, 2) := dk_16 60 (dk_at dksX8_next_12 10 rfl rfl)
theorem dX8_next_291 : decode cX8_next 291 = .ok (.if_icmp .eq 9, 3) := dk_159 0 9 (dk_at dksX8_next_12 12 rfl rfl)
theorem dX8_next_294 : decode cX8_next 294 = .ok (.iload_n 1, 1) := dk_27 (dk_at dksX8_next_12 15 rfl rfl)
theorem dX8_next_295 : decode cX8_next 295 = .ok (.bipush 61, 2) := dk_16 61 (dk_at dksX8_next_12 16 rfl rfl)
theorem dX8_next_297 : decode cX8_next 297 = .ok (.if_icmp .ne 24, 3) := dk_160 0 24 (dk_at dksX8_next_12 18 rfl rfl)
theorem dX8_next_300 : decode cX8_next 300 = .ok (.aload_n 0, 1) := dk_42 (dk_at dksX8_next_12 21 rfl rfl)
theorem dX8_next_301 : decode cX8_next 301 = .ok (.iconst 3, 1) := dk_6 (dk_at dksX8_next_12 22 rfl rfl)
theorem dX8_next_302 : decode cX8_next 302 = .ok (.putfield 147, 3) := dk_181 0 147 (dk_at dksX8_next_13 0 rfl rfl)
theorem dX8_next_305 : decode cX8_next 305 = .ok (.aload_n 0, 1) := dk_42 (dk_at dksX8_next_13 3 rfl rfl)
theorem dX8_next_306 : decode cX8_next 306 = .ok (.iload_n 1, 1) := dk_27 (dk_at dksX8_next_13 4 rfl rfl)
theorem dX8_next_307 : decode cX8_next 307 = .ok (.i2l, 1) := dk_133 (dk_at dksX8_next_13 5 rfl rfl)
theorem dX8_next_308 : decode cX8_next 308 = .ok (.putfield 158, 3) := dk_181 0 158 (dk_at dksX8_next_13 6 rfl rfl)
theorem dX8_next_311 : decode cX8_next 311 = .ok (.aload_n 0, 1) := dk_42 (dk_at dksX8_next_13 9 rfl rfl)
theorem dX8_next_312 : decode cX8_next 312 = .ok (.dup, 1) := dk_89 (dk_at dksX8_next_13 10 rfl rfl)
theorem dX8_next_313 : decode cX8_next 313 = .ok (.getfield 138, 3) := dk_180 0 138 (dk_at dksX8_next_13 11 rfl rfl)
theorem dX8_next_316 : decode cX8_next 316 = .ok (.iconst 1, 1) := dk_4 (dk_at dksX8_next_13 14 rfl rfl)
theorem dX8_next_317 : decode cX8_next 317 = .ok (.iadd, 1) := dk_96 (dk_at dksX8_next_13 15 rfl rfl)
theorem dX8_next_318 : decode cX8_next 318 = .ok (.putfield 138, 3) := dk_181 0 138 (dk_at dksX8_next_13 16 rfl rfl)
theorem dX8_next_321 : decode cX8_next 321 = .ok (.return_, 1) := dk_177 (dk_at dksX8_next_13 19 rfl rfl)
def dkwX8_byteAt_0 : List UInt8 := [27, 42, 180, 0, 132, 162, 0, 17, 42, 180, 0, 13, 42, 180, 0, 135, 27, 96, 46, 167, 0, 4, 2, 172]
abbrev dktX8_byteAt_0 : List UInt8 := dkwX8_byteAt_0 ++ []
theorem dksX8_byteAt_0 : cX8_byteAt.data.toList.drop 0 = dktX8_byteAt_0 := by decide +kernel
theorem dX8_byteAt_0 : decode cX8_byteAt 0 = .ok (.iload_n 1, 1) := dk_27 (dk_at dksX8_byteAt_0 0 rfl rfl)
theorem dX8_byteAt_1 : decode cX8_byteAt 1 = .ok (.aload_n 0, 1) := dk_42 (dk_at dksX8_byteAt_0 1 rfl rfl)
theorem dX8_byteAt_2 : decode cX8_byteAt 2 = .ok (.getfield 132, 3) := dk_180 0 132 (dk_at dksX8_byteAt_0 2 rfl rfl)
theorem dX8_byteAt_5 : decode cX8_byteAt 5 = .ok (.if_icmp .ge 17, 3) := dk_162 0 17 (dk_at dksX8_byteAt_0 5 rfl rfl)
theorem dX8_byteAt_8 : decode cX8_byteAt 8 = .ok (.aload_n 0, 1) := dk_42 (dk_at dksX8_byteAt_0 8 rfl rfl)
theorem dX8_byteAt_9 : decode cX8_byteAt 9 = .ok (.getfield 13, 3) := dk_180 0 13 (dk_at dksX8_byteAt_0 9 rfl rfl)
theorem dX8_byteAt_12 : decode cX8_byteAt 12 = .ok (.aload_n 0, 1) := dk_42 (dk_at dksX8_byteAt_0 12 rfl rfl)
theorem dX8_byteAt_13 : decode cX8_byteAt 13 = .ok (.getfield 135, 3) := dk_180 0 135 (dk_at dksX8_byteAt_0 13 rfl rfl)
theorem dX8_byteAt_16 : decode cX8_byteAt 16 = .ok (.iload_n 1, 1) := dk_27 (dk_at dksX8_byteAt_0 16 rfl rfl)
theorem dX8_byteAt_17 : decode cX8_byteAt 17 = .ok (.iadd, 1) := dk_96 (dk_at dksX8_byteAt_0 17 rfl rfl)
theorem dX8_byteAt_18 : decode cX8_byteAt 18 = .ok (.iaload, 1) := dk_46 (dk_at dksX8_byteAt_0 18 rfl rfl)
theorem dX8_byteAt_19 : decode cX8_byteAt 19 = .ok (.goto 4, 3) := dk_167 0 4 (dk_at dksX8_byteAt_0 19 rfl rfl)
theorem dX8_byteAt_22 : decode cX8_byteAt 22 = .ok (.iconst (-1), 1) := dk_2 (dk_at dksX8_byteAt_0 22 rfl rfl)
theorem dX8_byteAt_23 : decode cX8_byteAt 23 = .ok (.ireturn, 1) := dk_172 (dk_at dksX8_byteAt_0 23 rfl rfl)
def dkwX8_isWord_4 : List UInt8 := [153, 0, 18, 42, 16, 7, 21, 8, 182, 0, 169, 153, 0, 7, 4, 167, 0, 4, 3, 172]
abbrev dktX8_isWord_4 : List UInt8 := dkwX8_isWord_4 ++ []
def dkwX8_isWord_3 : List UInt8 := [182, 0, 169, 153, 0, 39, 42, 8, 21, 6, 182, 0, 169, 153, 0, 29, 42, 16, 6, 21, 7, 182, 0, 169]
abbrev dktX8_isWord_3 : List UInt8 := dkwX8_isWord_3 ++ dktX8_isWord_4
def dkwX8_isWord_2 : List UInt8 := [42, 5, 29, 182, 0, 169, 153, 0, 59, 42, 6, 21, 4, 182, 0, 169, 153, 0, 49, 42, 7, 21, 5]
abbrev dktX8_isWord_2 : List UInt8 := dkwX8_isWord_2 ++ dktX8_isWord_3
def dkwX8_isWord_1 : List UInt8 := [16, 8, 96, 163, 0, 86, 42, 3, 27, 182, 0, 169, 153, 0, 77, 42, 4, 28, 182, 0, 169, 153, 0, 68]
abbrev dktX8_isWord_1 : List UInt8 := dkwX8_isWord_1 ++ dktX8_isWord_2
def dkwX8_isWord_0 : List UInt8 := [42, 180, 0, 162, 154, 0, 108, 42, 180, 0, 147, 4, 160, 0, 100, 42, 180, 0, 138, 42, 180, 0, 144]
abbrev dktX8_isWord_0 : List UInt8 := dkwX8_isWord_0 ++ dktX8_isWord_1
theorem dksX8_isWord_0 : cX8_isWord.data.toList.drop 0 = dktX8_isWord_0 := by decide +kernel
theorem dksX8_isWord_1 : cX8_isWord.data.toList.drop 23 = dktX8_isWord_1 := dk_seg dksX8_isWord_0 23 rfl rfl
theorem dksX8_isWord_2 : cX8_isWord.data.toList.drop 47 = dktX8_isWord_2 := dk_seg dksX8_isWord_1 24 rfl rfl
theorem dksX8_isWord_3 : cX8_isWord.data.toList.drop 70 = dktX8_isWord_3 := dk_seg dksX8_isWord_2 23 rfl rfl
theorem dksX8_isWord_4 : cX8_isWord.data.toList.drop 94 = dktX8_isWord_4 := dk_seg dksX8_isWord_3 24 rfl rfl
theorem dX8_isWord_0 : decode cX8_isWord 0 = .ok (.aload_n 0, 1) := dk_42 (dk_at dksX8_isWord_0 0 rfl rfl)
theorem dX8_isWord_1 : decode cX8_isWord 1 = .ok (.getfield 162, 3) := dk_180 0 162 (dk_at dksX8_isWord_0 1 rfl rfl)
theorem dX8_isWord_4 : decode cX8_isWord 4 = .ok (.ifCond .ne 108, 3) := dk_154 0 108 (dk_at dksX8_isWord_0 4 rfl rfl)
theorem dX8_isWord_7 : decode cX8_isWord 7 = .ok (.aload_n 0, 1) := dk_42 (dk_at dksX8_isWord_0 7 rfl rfl)
theorem dX8_isWord_8 : decode cX8_isWord 8 = .ok (.getfield 147, 3) := dk_180 0 147 (dk_at dksX8_isWord_0 8 rfl rfl)
theorem dX8_isWord_11 : decode cX8_isWord 11 = .ok (.iconst 1, 1) := dk_4 (dk_at dksX8_isWord_0 11 rfl rfl)
theorem dX8_isWord_12 : decode cX8_isWord 12 = .ok (.if_icmp .ne 100, 3) := dk_160 0 100 (dk_at dksX8_isWord_0 12 rfl rfl)
theorem dX8_isWord_15 : decode cX8_isWord 15 = .ok (.aload_n 0, 1) := dk_42 (dk_at dksX8_isWord_0 15 rfl rfl)
theorem dX8_isWord_16 : decode cX8_isWord 16 = .ok (.getfield 138, 3) := dk_180 0 138 (dk_at dksX8_isWord_0 16 rfl rfl)
theorem dX8_isWord_19 : decode cX8_isWord 19 = .ok (.aload_n 0, 1) := dk_42 (dk_at dksX8_isWord_0 19 rfl rfl)
theorem dX8_isWord_20 : decode cX8_isWord 20 = .ok (.getfield 144, 3) := dk_180 0 144 (dk_at dksX8_isWord_0 20 rfl rfl)
theorem dX8_isWord_23 : decode cX8_isWord 23 = .ok (.bipush 8, 2) := dk_16 8 (dk_at dksX8_isWord_1 0 rfl rfl)
theorem dX8_isWord_25 : decode cX8_isWord 25 = .ok (.iadd, 1) := dk_96 (dk_at dksX8_isWord_1 2 rfl rfl)
theorem dX8_isWord_26 : decode cX8_isWord 26 = .ok (.if_icmp .gt 86, 3) := dk_163 0 86 (dk_at dksX8_isWord_1 3 rfl rfl)
theorem dX8_isWord_29 : decode cX8_isWord 29 = .ok (.aload_n 0, 1) := dk_42 (dk_at dksX8_isWord_1 6 rfl rfl)
theorem dX8_isWord_30 : decode cX8_isWord 30 = .ok (.iconst 0, 1) := dk_3 (dk_at dksX8_isWord_1 7 rfl rfl)
theorem dX8_isWord_31 : decode cX8_isWord 31 = .ok (.iload_n 1, 1) := dk_27 (dk_at dksX8_isWord_1 8 rfl rfl)
theorem dX8_isWord_32 : decode cX8_isWord 32 = .ok (.invokevirtual 169, 3) := dk_182 0 169 (dk_at dksX8_isWord_1 9 rfl rfl)
theorem dX8_isWord_35 : decode cX8_isWord 35 = .ok (.ifCond .eq 77, 3) := dk_153 0 77 (dk_at dksX8_isWord_1 12 rfl rfl)
theorem dX8_isWord_38 : decode cX8_isWord 38 = .ok (.aload_n 0, 1) := dk_42 (dk_at dksX8_isWord_1 15 rfl rfl)
theorem dX8_isWord_39 : decode cX8_isWord 39 = .ok (.iconst 1, 1) := dk_4 (dk_at dksX8_isWord_1 16 rfl rfl)
theorem dX8_isWord_40 : decode cX8_isWord 40 = .ok (.iload_n 2, 1) := dk_28 (dk_at dksX8_isWord_1 17 rfl rfl)
theorem dX8_isWord_41 : decode cX8_isWord 41 = .ok (.invokevirtual 169, 3) := dk_182 0 169 (dk_at dksX8_isWord_1 18 rfl rfl)
theorem dX8_isWord_44 : decode cX8_isWord 44 = .ok (.ifCond .eq 68, 3) := dk_153 0 68 (dk_at dksX8_isWord_1 21 rfl rfl)
theorem dX8_isWord_47 : decode cX8_isWord 47 = .ok (.aload_n 0, 1) := dk_42 (dk_at dksX8_isWord_2 0 rfl rfl)
theorem dX8_isWord_48 : decode cX8_isWord 48 = .ok (.iconst 2, 1) := dk_5 (dk_at dksX8_isWord_2 1 rfl rfl)
theorem dX8_isWord_49 : decode cX8_isWord 49 = .ok (.iload_n 3, 1) := dk_29 (dk_at dksX8_isWord_2 2 rfl rfl)
theorem dX8_isWord_50 : decode cX8_isWord 50 = .ok (.invokevirtual 169, 3) := dk_182 0 169 (dk_at dksX8_isWord_2 3 rfl rfl)
theorem dX8_isWord_53 : decode cX8_isWord 53 = .ok (.ifCond .eq 59, 3) := dk_153 0 59 (dk_at dksX8_isWord_2 6 rfl rfl)
theorem dX8_isWord_56 : decode cX8_isWord 56 = .ok (.aload_n 0, 1) := dk_42 (dk_at dksX8_isWord_2 9 rfl rfl)
theorem dX8_isWord_57 : decode cX8_isWord 57 = .ok (.iconst 3, 1) := dk_6 (dk_at dksX8_isWord_2 10 rfl rfl)
theorem dX8_isWord_58 : decode cX8_isWord 58 = .ok (.iload 4, 2) := dk_21 4 (dk_at dksX8_isWord_2 11 rfl rfl)
theorem dX8_isWord_60 : decode cX8_isWord 60 = .ok (.invokevirtual 169, 3) := dk_182 0 169 (dk_at dksX8_isWord_2 13 rfl rfl)
theorem dX8_isWord_63 : decode cX8_isWord 63 = .ok (.ifCond .eq 49, 3) := dk_153 0 49 (dk_at dksX8_isWord_2 16 rfl rfl)
theorem dX8_isWord_66 : decode cX8_isWord 66 = .ok (.aload_n 0, 1) := dk_42 (dk_at dksX8_isWord_2 19 rfl rfl)
theorem dX8_isWord_67 : decode cX8_isWord 67 = .ok (.iconst 4, 1) := dk_7 (dk_at dksX8_isWord_2 20 rfl rfl)
theorem dX8_isWord_68 : decode cX8_isWord 68 = .ok (.iload 5, 2) := dk_21 5 (dk_at dksX8_isWord_2 21 rfl rfl)
theorem dX8_isWord_70 : decode cX8_isWord 70 = .ok (.invokevirtual 169, 3) := dk_182 0 169 (dk_at dksX8_isWord_3 0 rfl rfl)
theorem dX8_isWord_73 : decode cX8_isWord 73 = .ok (.ifCond .eq 39, 3) := dk_153 0 39 (dk_at dksX8_isWord_3 3 rfl rfl)
theorem dX8_isWord_76 : decode cX8_isWord 76 = .ok (.aload_n 0, 1) := dk_42 (dk_at dksX8_isWord_3 6 rfl rfl)
theorem dX8_isWord_77 : decode cX8_isWord 77 = .ok (.iconst 5, 1) := dk_8 (dk_at dksX8_isWord_3 7 rfl rfl)
theorem dX8_isWord_78 : decode cX8_isWord 78 = .ok (.iload 6, 2) := dk_21 6 (dk_at dksX8_isWord_3 8 rfl rfl)
theorem dX8_isWord_80 : decode cX8_isWord 80 = .ok (.invokevirtual 169, 3) := dk_182 0 169 (dk_at dksX8_isWord_3 10 rfl rfl)
theorem dX8_isWord_83 : decode cX8_isWord 83 = .ok (.ifCond .eq 29, 3) := dk_153 0 29 (dk_at dksX8_isWord_3 13 rfl rfl)
theorem dX8_isWord_86 : decode cX8_isWord 86 = .ok (.aload_n 0, 1) := dk_42 (dk_at dksX8_isWord_3 16 rfl rfl)
theorem dX8_isWord_87 : decode cX8_isWord 87 = .ok (.bipush 6, 2) := dk_16 6 (dk_at dksX8_isWord_3 17 rfl rfl)
theorem dX8_isWord_89 : decode cX8_isWord 89 = .ok (.iload 7, 2) := dk_21 7 (dk_at dksX8_isWord_3 19 rfl rfl)
theorem dX8_isWord_91 : decode cX8_isWord 91 = .ok (.invokevirtual 169, 3) := dk_182 0 169 (dk_at dksX8_isWord_3 21 rfl rfl)
theorem dX8_isWord_94 : decode cX8_isWord 94 = .ok (.ifCond .eq 18, 3) := dk_153 0 18 (dk_at dksX8_isWord_4 0 rfl rfl)
theorem dX8_isWord_97 : decode cX8_isWord 97 = .ok (.aload_n 0, 1) := dk_42 (dk_at dksX8_isWord_4 3 rfl rfl)
theorem dX8_isWord_98 : decode cX8_isWord 98 = .ok (.bipush 7, 2) := dk_16 7 (dk_at dksX8_isWord_4 4 rfl rfl)
theorem dX8_isWord_100 : decode cX8_isWord 100 = .ok (.iload 8, 2) := dk_21 8 (dk_at dksX8_isWord_4 6 rfl rfl)
theorem dX8_isWord_102 : decode cX8_isWord 102 = .ok (.invokevirtual 169, 3) := dk_182 0 169 (dk_at dksX8_isWord_4 8 rfl rfl)
theorem dX8_isWord_105 : decode cX8_isWord 105 = .ok (.ifCond .eq 7, 3) := dk_153 0 7 (dk_at dksX8_isWord_4 11 rfl rfl)
theorem dX8_isWord_108 : decode cX8_isWord 108 = .ok (.iconst 1, 1) := dk_4 (dk_at dksX8_isWord_4 14 rfl rfl)
theorem dX8_isWord_109 : decode cX8_isWord 109 = .ok (.goto 4, 3) := dk_167 0 4 (dk_at dksX8_isWord_4 15 rfl rfl)
theorem dX8_isWord_112 : decode cX8_isWord 112 = .ok (.iconst 0, 1) := dk_3 (dk_at dksX8_isWord_4 18 rfl rfl)
theorem dX8_isWord_113 : decode cX8_isWord 113 = .ok (.ireturn, 1) := dk_172 (dk_at dksX8_isWord_4 19 rfl rfl)
def dkwX8_isLetter_1 : List UInt8 := [160, 0, 7, 4, 167, 0, 16, 3, 167, 0, 12, 28, 154, 0, 7, 4, 167, 0, 4, 3, 172]
abbrev dktX8_isLetter_1 : List UInt8 := dkwX8_isLetter_1 ++ []
def dkwX8_isLetter_0 : List UInt8 := [42, 180, 0, 144, 27, 96, 42, 180, 0, 138, 162, 0, 25, 42, 42, 180, 0, 144, 27, 96, 182, 0, 141, 28]
abbrev dktX8_isLetter_0 : List UInt8 := dkwX8_isLetter_0 ++ dktX8_isLetter_1
theorem dksX8_isLetter_0 : cX8_isLetter.data.toList.drop 0 = dktX8_isLetter_0 := by decide +kernel
theorem dksX8_isLetter_1 : cX8_isLetter.data.toList.drop 24 = dktX8_isLetter_1 := dk_seg dksX8_isLetter_0 24 rfl rfl
theorem dX8_isLetter_0 : decode cX8_isLetter 0 = .ok (.aload_n 0, 1) := dk_42 (dk_at dksX8_isLetter_0 0 rfl rfl)
theorem dX8_isLetter_1 : decode cX8_isLetter 1 = .ok (.getfield 144, 3) := dk_180 0 144 (dk_at dksX8_isLetter_0 1 rfl rfl)
theorem dX8_isLetter_4 : decode cX8_isLetter 4 = .ok (.iload_n 1, 1) := dk_27 (dk_at dksX8_isLetter_0 4 rfl rfl)
theorem dX8_isLetter_5 : decode cX8_isLetter 5 = .ok (.iadd, 1) := dk_96 (dk_at dksX8_isLetter_0 5 rfl rfl)
theorem dX8_isLetter_6 : decode cX8_isLetter 6 = .ok (.aload_n 0, 1) := dk_42 (dk_at dksX8_isLetter_0 6 rfl rfl)
theorem dX8_isLetter_7 : decode cX8_isLetter 7 = .ok (.getfield 138, 3) := dk_180 0 138 (dk_at dksX8_isLetter_0 7 rfl rfl)
theorem dX8_isLetter_10 : decode cX8_isLetter 10 = .ok (.if_icmp .ge 25, 3) := dk_162 0 25 (dk_at dksX8_isLetter_0 10 rfl rfl)
theorem dX8_isLetter_13 : decode cX8_isLetter 13 = .ok (.aload_n 0, 1) := dk_42 (dk_at dksX8_isLetter_0 13 rfl rfl)
theorem dX8_isLetter_14 : decode cX8_isLetter 14 = .ok (.aload_n 0, 1) := dk_42 (dk_at dksX8_isLetter_0 14 rfl rfl)
theorem dX8_isLetter_15 : decode cX8_isLetter 15 = .ok (.getfield 144, 3) := dk_180 0 144 (dk_at dksX8_isLetter_0 15 rfl rfl)
theorem dX8_isLetter_18 : decode cX8_isLetter 18 = .ok (.iload_n 1, 1) := dk_27 (dk_at dksX8_isLetter_0 18 rfl rfl)
theorem dX8_isLetter_19 : decode cX8_isLetter 19 = .ok (.iadd, 1) := dk_96 (dk_at dksX8_isLetter_0 19 rfl rfl)
theorem dX8_isLetter_20 : decode cX8_isLetter 20 = .ok (.invokevirtual 141, 3) := dk_182 0 141 (dk_at dksX8_isLetter_0 20 rfl rfl)
theorem dX8_isLetter_23 : decode cX8_isLetter 23 = .ok (.iload_n 2, 1) := dk_28 (dk_at dksX8_isLetter_0 23 rfl rfl)
theorem dX8_isLetter_24 : decode cX8_isLetter 24 = .ok (.if_icmp .ne 7, 3) := dk_160 0 7 (dk_at dksX8_isLetter_1 0 rfl rfl)
theorem dX8_isLetter_27 : decode cX8_isLetter 27 = .ok (.iconst 1, 1) := dk_4 (dk_at dksX8_isLetter_1 3 rfl rfl)
theorem dX8_isLetter_28 : decode cX8_isLetter 28 = .ok (.goto 16, 3) := dk_167 0 16 (dk_at dksX8_isLetter_1 4 rfl rfl)
theorem dX8_isLetter_31 : decode cX8_isLetter 31 = .ok (.iconst 0, 1) := dk_3 (dk_at dksX8_isLetter_1 7 rfl rfl)
theorem dX8_isLetter_32 : decode cX8_isLetter 32 = .ok (.goto 12, 3) := dk_167 0 12 (dk_at dksX8_isLetter_1 8 rfl rfl)
theorem dX8_isLetter_35 : decode cX8_isLetter 35 = .ok (.iload_n 2, 1) := dk_28 (dk_at dksX8_isLetter_1 11 rfl rfl)
theorem dX8_isLetter_36 : decode cX8_isLetter 36 = .ok (.ifCond .ne 7, 3) := dk_154 0 7 (dk_at dksX8_isLetter_1 12 rfl rfl)
theorem dX8_isLetter_39 : decode cX8_isLetter 39 = .ok (.iconst 1, 1) := dk_4 (dk_at dksX8_isLetter_1 15 rfl rfl)
theorem dX8_isLetter_40 : decode cX8_isLetter 40 = .ok (.goto 4, 3) := dk_167 0 4 (dk_at dksX8_isLetter_1 16 rfl rfl)
theorem dX8_isLetter_43 : decode cX8_isLetter 43 = .ok (.iconst 0, 1) := dk_3 (dk_at dksX8_isLetter_1 19 rfl rfl)
theorem dX8_isLetter_44 : decode cX8_isLetter 44 = .ok (.ireturn, 1) := dk_172 (dk_at dksX8_isLetter_1 20 rfl rfl)
def dkwX8_part_2 : List UInt8 := [182, 0, 175, 42, 180, 0, 162, 154, 0, 7, 42, 182, 0, 178, 28, 172]
abbrev dktX8_part_2 : List UInt8 := dkwX8_part_2 ++ []
def dkwX8_part_1 : List UInt8 := [153, 0, 7, 3, 167, 0, 7, 42, 182, 1, 67, 61, 42, 16, 59, 182, 0, 203, 154, 0, 7, 42]
abbrev dktX8_part_1 : List UInt8 := dkwX8_part_1 ++ dktX8_part_2
def dkwX8_part_0 : List UInt8 := [27, 154, 0, 7, 42, 182, 0, 175, 42, 180, 0, 162, 154, 0, 7, 42, 182, 0, 178, 42, 180, 0, 162]
abbrev dktX8_part_0 : List UInt8 := dkwX8_part_0 ++ dktX8_part_1
theorem dksX8_part_0 : cX8_part.data.toList.drop 0 = dktX8_part_0 := by decide +kernel
theorem dksX8_part_1 : cX8_part.data.toList.drop 23 = dktX8_part_1 := dk_seg dksX8_part_0 23 rfl rfl
theorem dksX8_part_2 : cX8_part.data.toList.drop 45 = dktX8_part_2 := dk_seg dksX8_part_1 22 rfl rfl
theorem dX8_part_0 : decode cX8_part 0 = .ok (.iload_n 1, 1) := dk_27 (dk_at dksX8_part_0 0 rfl rfl)
theorem dX8_part_1 : decode cX8_part 1 = .ok (.ifCond .ne 7, 3) := dk_154 0 7 (dk_at dksX8_part_0 1 rfl rfl)
theorem dX8_part_4 : decode cX8_part 4 = .ok (.aload_n 0, 1) := dk_42 (dk_at dksX8_part_0 4 rfl rfl)
theorem dX8_part_5 : decode cX8_part 5 = .ok (.invokevirtual 175, 3) := dk_182 0 175 (dk_at dksX8_part_0 5 rfl rfl)
theorem dX8_part_8 : decode cX8_part 8 = .ok (.aload_n 0, 1) := dk_42 (dk_at dksX8_part_0 8 rfl rfl)
theorem dX8_part_9 : decode cX8_part 9 = .ok (.getfield 162, 3) := dk_180 0 162 (dk_at dksX8_part_0 9 rfl rfl)
theorem dX8_part_12 : decode cX8_part 12 = .ok (.ifCond .ne 7, 3) := dk_154 0 7 (dk_at dksX8_part_0 12 rfl rfl)
theorem dX8_part_15 : decode cX8_part 15 = .ok (.aload_n 0, 1) := dk_42 (dk_at dksX8_part_0 15 rfl rfl)
theorem dX8_part_16 : decode cX8_part 16 = .ok (.invokevirtual 178, 3) := dk_182 0 178 (dk_at dksX8_part_0 16 rfl rfl)
theorem dX8_part_19 : decode cX8_part 19 = .ok (.aload_n 0, 1) := dk_42 (dk_at dksX8_part_0 19 rfl rfl)
theorem dX8_part_20 : decode cX8_part 20 = .ok (.getfield 162, 3) := dk_180 0 162 (dk_at dksX8_part_0 20 rfl rfl)
theorem dX8_part_23 : decode cX8_part 23 = .ok (.ifCond .eq 7, 3) := dk_153 0 7 (dk_at dksX8_part_1 0 rfl rfl)
theorem dX8_part_26 : decode cX8_part 26 = .ok (.iconst 0, 1) := dk_3 (dk_at dksX8_part_1 3 rfl rfl)
theorem dX8_part_27 : decode cX8_part 27 = .ok (.goto 7, 3) := dk_167 0 7 (dk_at dksX8_part_1 4 rfl rfl)
theorem dX8_part_30 : decode cX8_part 30 = .ok (.aload_n 0, 1) := dk_42 (dk_at dksX8_part_1 7 rfl rfl)
theorem dX8_part_31 : decode cX8_part 31 = .ok (.invokevirtual 323, 3) := dk_182 1 67 (dk_at dksX8_part_1 8 rfl rfl)
theorem dX8_part_34 : decode cX8_part 34 = .ok (.istore_n 2, 1) := dk_61 (dk_at dksX8_part_1 11 rfl rfl)
theorem dX8_part_35 : decode cX8_part 35 = .ok (.aload_n 0, 1) := dk_42 (dk_at dksX8_part_1 12 rfl rfl)
theorem dX8_part_36 : decode cX8_part 36 = .ok (.bipush 59, 2) := dk_16 59 (dk_at dksX8_part_1 13 rfl rfl)
theorem dX8_part_38 : decode cX8_part 38 = .ok (.invokevirtual 203, 3) := dk_182 0 203 (dk_at dksX8_part_1 15 rfl rfl)
theorem dX8_part_41 : decode cX8_part 41 = .ok (.ifCond .ne 7, 3) := dk_154 0 7 (dk_at dksX8_part_1 18 rfl rfl)
theorem dX8_part_44 : decode cX8_part 44 = .ok (.aload_n 0, 1) := dk_42 (dk_at dksX8_part_1 21 rfl rfl)
theorem dX8_part_45 : decode cX8_part 45 = .ok (.invokevirtual 175, 3) := dk_182 0 175 (dk_at dksX8_part_2 0 rfl rfl)
theorem dX8_part_48 : decode cX8_part 48 = .ok (.aload_n 0, 1) := dk_42 (dk_at dksX8_part_2 3 rfl rfl)
theorem dX8_part_49 : decode cX8_part 49 = .ok (.getfield 162, 3) := dk_180 0 162 (dk_at dksX8_part_2 4 rfl rfl)
theorem dX8_part_52 : decode cX8_part 52 = .ok (.ifCond .ne 7, 3) := dk_154 0 7 (dk_at dksX8_part_2 7 rfl rfl)
theorem dX8_part_55 : decode cX8_part 55 = .ok (.aload_n 0, 1) := dk_42 (dk_at dksX8_part_2 10 rfl rfl)
theorem dX8_part_56 : decode cX8_part 56 = .ok (.invokevirtual 178, 3) := dk_182 0 178 (dk_at dksX8_part_2 11 rfl rfl)
theorem dX8_part_59 : decode cX8_part 59 = .ok (.iload_n 2, 1) := dk_28 (dk_at dksX8_part_2 14 rfl rfl)
theorem dX8_part_60 : decode cX8_part 60 = .ok (.ireturn, 1) := dk_172 (dk_at dksX8_part_2 15 rfl rfl)
def dkwX8_fail_0 : List UInt8 := [42, 180, 0, 162, 154, 0, 16, 42, 4, 181, 0, 162, 42, 42, 180, 0, 144, 181, 0, 166, 177]
abbrev dktX8_fail_0 : List UInt8 := dkwX8_fail_0 ++ []
theorem dksX8_fail_0 : cX8_fail.data.toList.drop 0 = dktX8_fail_0 := by decide +kernel
theorem dX8_fail_0 : decode cX8_fail 0 = .ok (.aload_n 0, 1) := dk_42 (dk_at dksX8_fail_0 0 rfl rfl)
theorem dX8_fail_1 : decode cX8_fail 1 = .ok (.getfield 162, 3) := dk_180 0 162 (dk_at dksX8_fail_0 1 rfl rfl)
theorem dX8_fail_4 : decode cX8_fail 4 = .ok (.ifCond .ne 16, 3) := dk_154 0 16 (dk_at dksX8_fail_0 4 rfl rfl)
theorem dX8_fail_7 : decode cX8_fail 7 = .ok (.aload_n 0, 1) := dk_42 (dk_at dksX8_fail_0 7 rfl rfl)
theorem dX8_fail_8 : decode cX8_fail 8 = .ok (.iconst 1, 1) := dk_4 (dk_at dksX8_fail_0 8 rfl rfl)
theorem dX8_fail_9 : decode cX8_fail 9 = .ok (.putfield 162, 3) := dk_181 0 162 (dk_at dksX8_fail_0 9 rfl rfl)
theorem dX8_fail_12 : decode cX8_fail 12 = .ok (.aload_n 0, 1) := dk_42 (dk_at dksX8_fail_0 12 rfl rfl)
theorem dX8_fail_13 : decode cX8_fail 13 = .ok (.aload_n 0, 1) := dk_42 (dk_at dksX8_fail_0 13 rfl rfl)
theorem dX8_fail_14 : decode cX8_fail 14 = .ok (.getfield 144, 3) := dk_180 0 144 (dk_at dksX8_fail_0 14 rfl rfl)
theorem dX8_fail_17 : decode cX8_fail 17 = .ok (.putfield 166, 3) := dk_181 0 166 (dk_at dksX8_fail_0 17 rfl rfl)
theorem dX8_fail_20 : decode cX8_fail 20 = .ok (.return_, 1) := dk_177 (dk_at dksX8_fail_0 20 rfl rfl)
def dkwX8_either0_2 : List UInt8 := [167, 255, 216, 27, 172]
abbrev dktX8_either0_2 : List UInt8 := dkwX8_either0_2 ++ []
def dkwX8_either0_1 : List UInt8 := [182, 0, 178, 42, 182, 1, 64, 61, 27, 154, 0, 7, 28, 153, 0, 7, 4, 167, 0, 4, 3, 60]
abbrev dktX8_either0_1 : List UInt8 := dkwX8_either0_1 ++ dktX8_either0_2
def dkwX8_either0_0 : List UInt8 := [42, 182, 1, 64, 60, 42, 16, 111, 16, 114, 3, 3, 3, 3, 3, 3, 182, 0, 181, 153, 0, 29, 42]
abbrev dktX8_either0_0 : List UInt8 := dkwX8_either0_0 ++ dktX8_either0_1
theorem dksX8_either0_0 : cX8_either0.data.toList.drop 0 = dktX8_either0_0 := by decide +kernel
theorem dksX8_either0_1 : cX8_either0.data.toList.drop 23 = dktX8_either0_1 := dk_seg dksX8_either0_0 23 rfl rfl
theorem dksX8_either0_2 : cX8_either0.data.toList.drop 45 = dktX8_either0_2 := dk_seg dksX8_either0_1 22 rfl rfl
theorem dX8_either0_0 : decode cX8_either0 0 = .ok (.aload_n 0, 1) := dk_42 (dk_at dksX8_either0_0 0 rfl rfl)
theorem dX8_either0_1 : decode cX8_either0 1 = .ok (.invokevirtual 320, 3) := dk_182 1 64 (dk_at dksX8_either0_0 1 rfl rfl)
theorem dX8_either0_4 : decode cX8_either0 4 = .ok (.istore_n 1, 1) := dk_60 (dk_at dksX8_either0_0 4 rfl rfl)
theorem dX8_either0_5 : decode cX8_either0 5 = .ok (.aload_n 0, 1) := dk_42 (dk_at dksX8_either0_0 5 rfl rfl)
theorem dX8_either0_6 : decode cX8_either0 6 = .ok (.bipush 111, 2) := dk_16 111 (dk_at dksX8_either0_0 6 rfl rfl)
theorem dX8_either0_8 : decode cX8_either0 8 = .ok (.bipush 114, 2) := dk_16 114 (dk_at dksX8_either0_0 8 rfl rfl)
theorem dX8_either0_10 : decode cX8_either0 10 = .ok (.iconst 0, 1) := dk_3 (dk_at dksX8_either0_0 10 rfl rfl)
theorem dX8_either0_11 : decode cX8_either0 11 = .ok (.iconst 0, 1) := dk_3 (dk_at dksX8_either0_0 11 rfl rfl)
theorem dX8_either0_12 : decode cX8_either0 12 = .ok (.iconst 0, 1) := dk_3 (dk_at dksX8_either0_0 12 rfl rfl)
theorem dX8_either0_13 : decode cX8_either0 13 = .ok (.iconst 0, 1) := dk_3 (dk_at dksX8_either0_0 13 rfl rfl)
theorem dX8_either0_14 : decode cX8_either0 14 = .ok (.iconst 0, 1) := dk_3 (dk_at dksX8_either0_0 14 rfl rfl)
theorem dX8_either0_15 : decode cX8_either0 15 = .ok (.iconst 0, 1) := dk_3 (dk_at dksX8_either0_0 15 rfl rfl)
theorem dX8_either0_16 : decode cX8_either0 16 = .ok (.invokevirtual 181, 3) := dk_182 0 181 (dk_at dksX8_either0_0 16 rfl rfl)
theorem dX8_either0_19 : decode cX8_either0 19 = .ok (.ifCond .eq 29, 3) := dk_153 0 29 (dk_at dksX8_either0_0 19 rfl rfl)
theorem dX8_either0_22 : decode cX8_either0 22 = .ok (.aload_n 0, 1) := dk_42 (dk_at dksX8_either0_0 22 rfl rfl)
theorem dX8_either0_23 : decode cX8_either0 23 = .ok (.invokevirtual 178, 3) := dk_182 0 178 (dk_at dksX8_either0_1 0 rfl rfl)
theorem dX8_either0_26 : decode cX8_either0 26 = .ok (.aload_n 0, 1) := dk_42 (dk_at dksX8_either0_1 3 rfl rfl)
theorem dX8_either0_27 : decode cX8_either0 27 = .ok (.invokevirtual 320, 3) := dk_182 1 64 (dk_at dksX8_either0_1 4 rfl rfl)
theorem dX8_either0_30 : decode cX8_either0 30 = .ok (.istore_n 2, 1) := dk_61 (dk_at dksX8_either0_1 7 rfl rfl)
theorem dX8_either0_31 : decode cX8_either0 31 = .ok (.iload_n 1, 1) := dk_27 (dk_at dksX8_either0_1 8 rfl rfl)
theorem dX8_either0_32 : decode cX8_either0 32 = .ok (.ifCond .ne 7, 3) := dk_154 0 7 (dk_at dksX8_either0_1 9 rfl rfl)
theorem dX8_either0_35 : decode cX8_either0 35 = .ok (.iload_n 2, 1) := dk_28 (dk_at dksX8_either0_1 12 rfl rfl)
theorem dX8_either0_36 : decode cX8_either0 36 = .ok (.ifCond .eq 7, 3) := dk_153 0 7 (dk_at dksX8_either0_1 13 rfl rfl)
theorem dX8_either0_39 : decode cX8_either0 39 = .ok (.iconst 1, 1) := dk_4 (dk_at dksX8_either0_1 16 rfl rfl)
theorem dX8_either0_40 : decode cX8_either0 40 = .ok (.goto 4, 3) := dk_167 0 4 (dk_at dksX8_either0_1 17 rfl rfl)
theorem dX8_either0_43 : decode cX8_either0 43 = .ok (.iconst 0, 1) := dk_3 (dk_at dksX8_either0_1 20 rfl rfl)
theorem dX8_either0_44 : decode cX8_either0 44 = .ok (.istore_n 1, 1) := dk_60 (dk_at dksX8_either0_1 21 rfl rfl)
theorem dX8_either0_45 : decode cX8_either0 45 = .ok (.goto (-40), 3) := dk_167 255 216 (dk_at dksX8_either0_2 0 rfl rfl)
theorem dX8_either0_48 : decode cX8_either0 48 = .ok (.iload_n 1, 1) := dk_27 (dk_at dksX8_either0_2 3 rfl rfl)
theorem dX8_either0_49 : decode cX8_either0 49 = .ok (.ireturn, 1) := dk_172 (dk_at dksX8_either0_2 4 rfl rfl)
def dkwX8_both0_2 : List UInt8 := [167, 255, 215, 27, 172]
abbrev dktX8_both0_2 : List UInt8 := dkwX8_both0_2 ++ []
def dkwX8_both0_1 : List UInt8 := [182, 0, 178, 42, 182, 1, 61, 61, 27, 153, 0, 11, 28, 153, 0, 7, 4, 167, 0, 4, 3, 60]
abbrev dktX8_both0_1 : List UInt8 := dkwX8_both0_1 ++ dktX8_both0_2
def dkwX8_both0_0 : List UInt8 := [42, 182, 1, 61, 60, 42, 16, 97, 16, 110, 16, 100, 3, 3, 3, 3, 3, 182, 0, 181, 153, 0, 29, 42]
abbrev dktX8_both0_0 : List UInt8 := dkwX8_both0_0 ++ dktX8_both0_1
theorem dksX8_both0_0 : cX8_both0.data.toList.drop 0 = dktX8_both0_0 := by decide +kernel
theorem dksX8_both0_1 : cX8_both0.data.toList.drop 24 = dktX8_both0_1 := dk_seg dksX8_both0_0 24 rfl rfl
theorem dksX8_both0_2 : cX8_both0.data.toList.drop 46 = dktX8_both0_2 := dk_seg dksX8_both0_1 22 rfl rfl
theorem dX8_both0_0 : decode cX8_both0 0 = .ok (.aload_n 0, 1) := dk_42 (dk_at dksX8_both0_0 0 rfl rfl)
theorem dX8_both0_1 : decode cX8_both0 1 = .ok (.invokevirtual 317, 3) := dk_182 1 61 (dk_at dksX8_both0_0 1 rfl rfl)
theorem dX8_both0_4 : decode cX8_both0 4 = .ok (.istore_n 1, 1) := dk_60 (dk_at dksX8_both0_0 4 rfl rfl)
theorem dX8_both0_5 : decode cX8_both0 5 = .ok (.aload_n 0, 1) := dk_42 (dk_at dksX8_both0_0 5 rfl rfl)
theorem dX8_both0_6 : decode cX8_both0 6 = .ok (.bipush 97, 2) := dk_16 97 (dk_at dksX8_both0_0 6 rfl rfl)
theorem dX8_both0_8 : decode cX8_both0 8 = .ok (.bipush 110, 2) := dk_16 110 (dk_at dksX8_both0_0 8 rfl rfl)
theorem dX8_both0_10 : decode cX8_both0 10 = .ok (.bipush 100, 2) := dk_16 100 (dk_at dksX8_both0_0 10 rfl rfl)
theorem dX8_both0_12 : decode cX8_both0 12 = .ok (.iconst 0, 1) := dk_3 (dk_at dksX8_both0_0 12 rfl rfl)
theorem dX8_both0_13 : decode cX8_both0 13 = .ok (.iconst 0, 1) := dk_3 (dk_at dksX8_both0_0 13 rfl rfl)
theorem dX8_both0_14 : decode cX8_both0 14 = .ok (.iconst 0, 1) := dk_3 (dk_at dksX8_both0_0 14 rfl rfl)
theorem dX8_both0_15 : decode cX8_both0 15 = .ok (.iconst 0, 1) := dk_3 (dk_at dksX8_both0_0 15 rfl rfl)
theorem dX8_both0_16 : decode cX8_both0 16 = .ok (.iconst 0, 1) := dk_3 (dk_at dksX8_both0_0 16 rfl rfl)
theorem dX8_both0_17 : decode cX8_both0 17 = .ok (.invokevirtual 181, 3) := dk_182 0 181 (dk_at dksX8_both0_0 17 rfl rfl)
theorem dX8_both0_20 : decode cX8_both0 20 = .ok (.ifCond .eq 29, 3) := dk_153 0 29 (dk_at dksX8_both0_0 20 rfl rfl)
theorem dX8_both0_23 : decode cX8_both0 23 = .ok (.aload_n 0, 1) := dk_42 (dk_at dksX8_both0_0 23 rfl rfl)
theorem dX8_both0_24 : decode cX8_both0 24 = .ok (.invokevirtual 178, 3) := dk_182 0 178 (dk_at dksX8_both0_1 0 rfl rfl)
theorem dX8_both0_27 : decode cX8_both0 27 = .ok (.aload_n 0, 1) := dk_42 (dk_at dksX8_both0_1 3 rfl rfl)
theorem dX8_both0_28 : decode cX8_both0 28 = .ok (.invokevirtual 317, 3) := dk_182 1 61 (dk_at dksX8_both0_1 4 rfl rfl)
theorem dX8_both0_31 : decode cX8_both0 31 = .ok (.istore_n 2, 1) := dk_61 (dk_at dksX8_both0_1 7 rfl rfl)
theorem dX8_both0_32 : decode cX8_both0 32 = .ok (.iload_n 1, 1) := dk_27 (dk_at dksX8_both0_1 8 rfl rfl)
theorem dX8_both0_33 : decode cX8_both0 33 = .ok (.ifCond .eq 11, 3) := dk_153 0 11 (dk_at dksX8_both0_1 9 rfl rfl)
theorem dX8_both0_36 : decode cX8_both0 36 = .ok (.iload_n 2, 1) := dk_28 (dk_at dksX8_both0_1 12 rfl rfl)
theorem dX8_both0_37 : decode cX8_both0 37 = .ok (.ifCond .eq 7, 3) := dk_153 0 7 (dk_at dksX8_both0_1 13 rfl rfl)
theorem dX8_both0_40 : decode cX8_both0 40 = .ok (.iconst 1, 1) := dk_4 (dk_at dksX8_both0_1 16 rfl rfl)
theorem dX8_both0_41 : decode cX8_both0 41 = .ok (.goto 4, 3) := dk_167 0 4 (dk_at dksX8_both0_1 17 rfl rfl)
theorem dX8_both0_44 : decode cX8_both0 44 = .ok (.iconst 0, 1) := dk_3 (dk_at dksX8_both0_1 20 rfl rfl)
theorem dX8_both0_45 : decode cX8_both0 45 = .ok (.istore_n 1, 1) := dk_60 (dk_at dksX8_both0_1 21 rfl rfl)
theorem dX8_both0_46 : decode cX8_both0 46 = .ok (.goto (-41), 3) := dk_167 255 215 (dk_at dksX8_both0_2 0 rfl rfl)
theorem dX8_both0_49 : decode cX8_both0 49 = .ok (.iload_n 1, 1) := dk_27 (dk_at dksX8_both0_2 3 rfl rfl)
theorem dX8_both0_50 : decode cX8_both0 50 = .ok (.ireturn, 1) := dk_172 (dk_at dksX8_both0_2 4 rfl rfl)
def dkwX8_not0_5 : List UInt8 := [160, 0, 7, 4, 167, 0, 4, 3, 172]
abbrev dktX8_not0_5 : List UInt8 := dkwX8_not0_5 ++ []
def dkwX8_not0_4 : List UInt8 := [61, 42, 182, 0, 178, 42, 182, 1, 58, 62, 28, 153, 0, 11, 27, 29, 162, 0, 15, 167, 0, 8, 27, 29]
abbrev dktX8_not0_4 : List UInt8 := dkwX8_not0_4 ++ dktX8_not0_5
def dkwX8_not0_3 : List UInt8 := [182, 0, 203, 154, 0, 5, 27, 172, 42, 180, 0, 158, 20, 0, 225, 148, 154, 0, 7, 4, 167, 0, 4, 3]
abbrev dktX8_not0_3 : List UInt8 := dkwX8_not0_3 ++ dktX8_not0_4
def dkwX8_not0_2 : List UInt8 := [4, 167, 0, 4, 3, 172, 42, 182, 1, 58, 60, 42, 16, 60, 182, 0, 203, 154, 0, 14, 42, 16, 61]
abbrev dktX8_not0_2 : List UInt8 := dkwX8_not0_2 ++ dktX8_not0_3
def dkwX8_not0_1 : List UInt8 := [154, 0, 5, 3, 172, 42, 182, 1, 43, 60, 42, 89, 180, 0, 172, 4, 100, 181, 0, 172, 27, 154, 0, 7]
abbrev dktX8_not0_1 : List UInt8 := dkwX8_not0_1 ++ dktX8_not0_2
def dkwX8_not0_0 : List UInt8 := [42, 16, 110, 16, 111, 16, 116, 3, 3, 3, 3, 3, 182, 0, 181, 153, 0, 37, 42, 182, 0, 206]
abbrev dktX8_not0_0 : List UInt8 := dkwX8_not0_0 ++ dktX8_not0_1
theorem dksX8_not0_0 : cX8_not0.data.toList.drop 0 = dktX8_not0_0 := by decide +kernel
theorem dksX8_not0_1 : cX8_not0.data.toList.drop 22 = dktX8_not0_1 := dk_seg dksX8_not0_0 22 rfl rfl
theorem dksX8_not0_2 : cX8_not0.data.toList.drop 46 = dktX8_not0_2 := dk_seg dksX8_not0_1 24 rfl rfl
theorem dksX8_not0_3 : cX8_not0.data.toList.drop 69 = dktX8_not0_3 := dk_seg dksX8_not0_2 23 rfl rfl
theorem dksX8_not0_4 : cX8_not0.data.toList.drop 93 = dktX8_not0_4 := dk_seg dksX8_not0_3 24 rfl rfl
theorem dksX8_not0_5 : cX8_not0.data.toList.drop 117 = dktX8_not0_5 := dk_seg dksX8_not0_4 24 rfl rfl
theorem dX8_not0_0 : decode cX8_not0 0 = .ok (.aload_n 0, 1) := dk_42 (dk_at dksX8_not0_0 0 rfl rfl)
theorem dX8_not0_1 : decode cX8_not0 1 = .ok (.bipush 110, 2) := dk_16 110 (dk_at dksX8_not0_0 1 rfl rfl)
theorem dX8_not0_3 : decode cX8_not0 3 = .ok (.bipush 111, 2) := dk_16 111 (dk_at dksX8_not0_0 3 rfl rfl)
theorem dX8_not0_5 : decode cX8_not0 5 = .ok (.bipush 116, 2) := dk_16 116 (dk_at dksX8_not0_0 5 rfl rfl)
theorem dX8_not0_7 : decode cX8_not0 7 = .ok (.iconst 0, 1) := dk_3 (dk_at dksX8_not0_0 7 rfl rfl)
theorem dX8_not0_8 : decode cX8_not0 8 = .ok (.iconst 0, 1) := dk_3 (dk_at dksX8_not0_0 8 rfl rfl)
theorem dX8_not0_9 : decode cX8_not0 9 = .ok (.iconst 0, 1) := dk_3 (dk_at dksX8_not0_0 9 rfl rfl)
theorem dX8_not0_10 : decode cX8_not0 10 = .ok (.iconst 0, 1) := dk_3 (dk_at dksX8_not0_0 10 rfl rfl)
theorem dX8_not0_11 : decode cX8_not0 11 = .ok (.iconst 0, 1) := dk_3 (dk_at dksX8_not0_0 11 rfl rfl)
theorem dX8_not0_12 : decode cX8_not0 12 = .ok (.invokevirtual 181, 3) := dk_182 0 181 (dk_at dksX8_not0_0 12 rfl rfl)
theorem dX8_not0_15 : decode cX8_not0 15 = .ok (.ifCond .eq 37, 3) := dk_153 0 37 (dk_at dksX8_not0_0 15 rfl rfl)
theorem dX8_not0_18 : decode cX8_not0 18 = .ok (.aload_n 0, 1) := dk_42 (dk_at dksX8_not0_0 18 rfl rfl)
theorem dX8_not0_19 : decode cX8_not0 19 = .ok (.invokevirtual 206, 3) := dk_182 0 206 (dk_at dksX8_not0_0 19 rfl rfl)
theorem dX8_not0_22 : decode cX8_not0 22 = .ok (.ifCond .ne 5, 3) := dk_154 0 5 (dk_at dksX8_not0_1 0 rfl rfl)
theorem dX8_not0_25 : decode cX8_not0 25 = .ok (.iconst 0, 1) := dk_3 (dk_at dksX8_not0_1 3 rfl rfl)
theorem dX8_not0_26 : decode cX8_not0 26 = .ok (.ireturn, 1) := dk_172 (dk_at dksX8_not0_1 4 rfl rfl)
theorem dX8_not0_27 : decode cX8_not0 27 = .ok (.aload_n 0, 1) := dk_42 (dk_at dksX8_not0_1 5 rfl rfl)
theorem dX8_not0_28 : decode cX8_not0 28 = .ok (.invokevirtual 299, 3) := dk_182 1 43 (dk_at dksX8_not0_1 6 rfl rfl)
theorem dX8_not0_31 : decode cX8_not0 31 = .ok (.istore_n 1, 1) := dk_60 (dk_at dksX8_not0_1 9 rfl rfl)
theorem dX8_not0_32 : decode cX8_not0 32 = .ok (.aload_n 0, 1) := dk_42 (dk_at dksX8_not0_1 10 rfl rfl)
theorem dX8_not0_33 : decode cX8_not0 33 = .ok (.dup, 1) := dk_89 (dk_at dksX8_not0_1 11 rfl rfl)
theorem dX8_not0_34 : decode cX8_not0 34 = .ok (.getfield 172, 3) := dk_180 0 172 (dk_at dksX8_not0_1 12 rfl rfl)
theorem dX8_not0_37 : decode cX8_not0 37 = .ok (.iconst 1, 1) := dk_4 (dk_at dksX8_not0_1 15 rfl rfl)
theorem dX8_not0_38 : decode cX8_not0 38 = .ok (.isub, 1) := dk_100 (dk_at dksX8_not0_1 16 rfl rfl)
theorem dX8_not0_39 : decode cX8_not0 39 = .ok (.putfield 172, 3) := dk_181 0 172 (dk_at dksX8_not0_1 17 rfl rfl)
theorem dX8_not0_42 : decode cX8_not0 42 = .ok (.iload_n 1, 1) := dk_27 (dk_at dksX8_not0_1 20 rfl rfl)
theorem dX8_not0_43 : decode cX8_not0 43 = .ok (.ifCond .ne 7, 3) := dk_154 0 7 (dk_at dksX8_not0_1 21 rfl rfl)
theorem dX8_not0_46 : decode cX8_not0 46 = .ok (.iconst 1, 1) := dk_4 (dk_at dksX8_not0_2 0 rfl rfl)
theorem dX8_not0_47 : decode cX8_not0 47 = .ok (.goto 4, 3) := dk_167 0 4 (dk_at dksX8_not0_2 1 rfl rfl)
theorem dX8_not0_50 : decode cX8_not0 50 = .ok (.iconst 0, 1) := dk_3 (dk_at dksX8_not0_2 4 rfl rfl)
theorem dX8_not0_51 : decode cX8_not0 51 = .ok (.ireturn, 1) := dk_172 (dk_at dksX8_not0_2 5 rfl rfl)
theorem dX8_not0_52 : decode cX8_not0 52 = .ok (.aload_n 0, 1) := dk_42 (dk_at dksX8_not0_2 6 rfl rfl)
theorem dX8_not0_53 : decode cX8_not0 53 = .ok (.invokevirtual 314, 3) := dk_182 1 58 (dk_at dksX8_not0_2 7 rfl rfl)
theorem dX8_not0_56 : decode cX8_not0 56 = .ok (.istore_n 1, 1) := dk_60 (dk_at dksX8_not0_2 10 rfl rfl)
theorem dX8_not0_57 : decode cX8_not0 57 = .ok (.aload_n 0, 1) := dk_42 (dk_at dksX8_not0_2 11 rfl rfl)
theorem dX8_not0_58 : decode cX8_not0 58 = .ok (.bipush 60, 2) := dk_16 60 (dk_at dksX8_not0_2 12 rfl rfl)
theorem dX8_not0_60 : decode cX8_not0 60 = .ok (.invokevirtual 203, 3) := dk_182 0 203 (dk_at dksX8_not0_2 14 rfl rfl)
theorem dX8_not0_63 : decode cX8_not0 63 = .ok (.ifCond .ne 14, 3) := dk_154 0 14 (dk_at dksX8_not0_2 17 rfl rfl)
theorem dX8_not0_66 : decode cX8_not0 66 = .ok (.aload_n 0, 1) := dk_42 (dk_at dksX8_not0_2 20 rfl rfl)
theorem dX8_not0_67 : decode cX8_not0 67 = .ok (.bipush 61, 2) := dk_16 61 (dk_at dksX8_not0_2 21 rfl rfl)
theorem dX8_not0_69 : decode cX8_not0 69 = .ok (.invokevirtual 203, 3) := dk_182 0 203 (dk_at dksX8_not0_3 0 rfl rfl)
theorem dX8_not0_72 : decode cX8_not0 72 = .ok (.ifCond .ne 5, 3) := dk_154 0 5 (dk_at dksX8_not0_3 3 rfl rfl)
theorem dX8_not0_75 : decode cX8_not0 75 = .ok (.iload_n 1, 1) := dk_27 (dk_at dksX8_not0_3 6 rfl rfl)
theorem dX8_not0_76 : decode cX8_not0 76 = .ok (.ireturn, 1) := dk_172 (dk_at dksX8_not0_3 7 rfl rfl)
theorem dX8_not0_77 : decode cX8_not0 77 = .ok (.aload_n 0, 1) := dk_42 (dk_at dksX8_not0_3 8 rfl rfl)
theorem dX8_not0_78 : decode cX8_not0 78 = .ok (.getfield 158, 3) := dk_180 0 158 (dk_at dksX8_not0_3 9 rfl rfl)
theorem dX8_not0_81 : decode cX8_not0 81 = .ok (.ldc2_w 225, 3) := dk_20 0 225 (dk_at dksX8_not0_3 12 rfl rfl)
theorem dX8_not0_84 : decode cX8_not0 84 = .ok (.lcmp, 1) := dk_148 (dk_at dksX8_not0_3 15 rfl rfl)
theorem dX8_not0_85 : decode cX8_not0 85 = .ok (.ifCond .ne 7, 3) := dk_154 0 7 (dk_at dksX8_not0_3 16 rfl rfl)
theorem dX8_not0_88 : decode cX8_not0 88 = .ok (.iconst 1, 1) := dk_4 (dk_at dksX8_not0_3 19 rfl rfl)
theorem dX8_not0_89 : decode cX8_not0 89 = .ok (.goto 4, 3) := dk_167 0 4 (dk_at dksX8_not0_3 20 rfl rfl)
theorem dX8_not0_92 : decode cX8_not0 92 = .ok (.iconst 0, 1) := dk_3 (dk_at dksX8_not0_3 23 rfl rfl)
theorem dX8_not0_93 : decode cX8_not0 93 = .ok (.istore_n 2, 1) := dk_61 (dk_at dksX8_not0_4 0 rfl rfl)
theorem dX8_not0_94 : decode cX8_not0 94 = .ok (.aload_n 0, 1) := dk_42 (dk_at dksX8_not0_4 1 rfl rfl)
theorem dX8_not0_95 : decode cX8_not0 95 = .ok (.invokevirtual 178, 3) := dk_182 0 178 (dk_at dksX8_not0_4 2 rfl rfl)
theorem dX8_not0_98 : decode cX8_not0 98 = .ok (.aload_n 0, 1) := dk_42 (dk_at dksX8_not0_4 5 rfl rfl)
theorem dX8_not0_99 : decode cX8_not0 99 = .ok (.invokevirtual 314, 3) := dk_182 1 58 (dk_at dksX8_not0_4 6 rfl rfl)
theorem dX8_not0_102 : decode cX8_not0 102 = .ok (.istore_n 3, 1) := dk_62 (dk_at dksX8_not0_4 9 rfl rfl)
theorem dX8_not0_103 : decode cX8_not0 103 = .ok (.iload_n 2, 1) := dk_28 (dk_at dksX8_not0_4 10 rfl rfl)
theorem dX8_not0_104 : decode cX8_not0 104 = .ok (.ifCond .eq 11, 3) := dk_153 0 11 (dk_at dksX8_not0_4 11 rfl rfl)
theorem dX8_not0_107 : decode cX8_not0 107 = .ok (.iload_n 1, 1) := dk_27 (dk_at dksX8_not0_4 14 rfl rfl)
theorem dX8_not0_108 : decode cX8_not0 108 = .ok (.iload_n 3, 1) := dk_29 (dk_at dksX8_not0_4 15 rfl rfl)
theorem dX8_not0_109 : decode cX8_not0 109 = .ok (.if_icmp .ge 15, 3) := dk_162 0 15 (dk_at dksX8_not0_4 16 rfl rfl)
theorem dX8_not0_112 : decode cX8_not0 112 = .ok (.goto 8, 3) := dk_167 0 8 (dk_at dksX8_not0_4 19 rfl rfl)
theorem dX8_not0_115 : decode cX8_not0 115 = .ok (.iload_n 1, 1) := dk_27 (dk_at dksX8_not0_4 22 rfl rfl)
theorem dX8_not0_116 : decode cX8_not0 116 = .ok (.iload_n 3, 1) := dk_29 (dk_at dksX8_not0_4 23 rfl rfl)
theorem dX8_not0_117 : decode cX8_not0 117 = .ok (.if_icmp .ne 7, 3) := dk_160 0 7 (dk_at dksX8_not0_5 0 rfl rfl)
theorem dX8_not0_120 : decode cX8_not0 120 = .ok (.iconst 1, 1) := dk_4 (dk_at dksX8_not0_5 3 rfl rfl)
theorem dX8_not0_121 : decode cX8_not0 121 = .ok (.goto 4, 3) := dk_167 0 4 (dk_at dksX8_not0_5 4 rfl rfl)
theorem dX8_not0_124 : decode cX8_not0 124 = .ok (.iconst 0, 1) := dk_3 (dk_at dksX8_not0_5 7 rfl rfl)
theorem dX8_not0_125 : decode cX8_not0 125 = .ok (.ireturn, 1) := dk_172 (dk_at dksX8_not0_5 8 rfl rfl)
def dkwX8_opens_1 : List UInt8 := [42, 182, 0, 178, 4, 172]
abbrev dktX8_opens_1 : List UInt8 := dkwX8_opens_1 ++ []
def dkwX8_opens_0 : List UInt8 := [42, 180, 0, 172, 8, 160, 0, 9, 42, 182, 0, 175, 3, 172, 42, 89, 180, 0, 172, 4, 96, 181, 0, 172]
abbrev dktX8_opens_0 : List UInt8 := dkwX8_opens_0 ++ dktX8_opens_1
theorem dksX8_opens_0 : cX8_opens.data.toList.drop 0 = dktX8_opens_0 := by decide +kernel
theorem dksX8_opens_1 : cX8_opens.data.toList.drop 24 = dktX8_opens_1 := dk_seg dksX8_opens_0 24 rfl rfl
theorem dX8_opens_0 : decode cX8_opens 0 = .ok (.aload_n 0, 1) := dk_42 (dk_at dksX8_opens_0 0 rfl rfl)
theorem dX8_opens_1 : decode cX8_opens 1 = .ok (.getfield 172, 3) := dk_180 0 172 (dk_at dksX8_opens_0 1 rfl rfl)
theorem dX8_opens_4 : decode cX8_opens 4 = .ok (.iconst 5, 1) := dk_8 (dk_at dksX8_opens_0 4 rfl rfl)
theorem dX8_opens_5 : decode cX8_opens 5 = .ok (.if_icmp .ne 9, 3) := dk_160 0 9 (dk_at dksX8_opens_0 5 rfl rfl)
theorem dX8_opens_8 : decode cX8_opens 8 = .ok (.aload_n 0, 1) := dk_42 (dk_at dksX8_opens_0 8 rfl rfl)
theorem dX8_opens_9 : decode cX8_opens 9 = .ok (.invokevirtual 175, 3) := dk_182 0 175 (dk_at dksX8_opens_0 9 rfl rfl)
theorem dX8_opens_12 : decode cX8_opens 12 = .ok (.iconst 0, 1) := dk_3 (dk_at dksX8_opens_0 12 rfl rfl)
theorem dX8_opens_13 : decode cX8_opens 13 = .ok (.ireturn, 1) := dk_172 (dk_at dksX8_opens_0 13 rfl rfl)
theorem dX8_opens_14 : decode cX8_opens 14 = .ok (.aload_n 0, 1) := dk_42 (dk_at dksX8_opens_0 14 rfl rfl)
theorem dX8_opens_15 : decode cX8_opens 15 = .ok (.dup, 1) := dk_89 (dk_at dksX8_opens_0 15 rfl rfl)
theorem dX8_opens_16 : decode cX8_opens 16 = .ok (.getfield 172, 3) := dk_180 0 172 (dk_at dksX8_opens_0 16 rfl rfl)
theorem dX8_opens_19 : decode cX8_opens 19 = .ok (.iconst 1, 1) := dk_4 (dk_at dksX8_opens_0 19 rfl rfl)
theorem dX8_opens_20 : decode cX8_opens 20 = .ok (.iadd, 1) := dk_96 (dk_at dksX8_opens_0 20 rfl rfl)
theorem dX8_opens_21 : decode cX8_opens 21 = .ok (.putfield 172, 3) := dk_181 0 172 (dk_at dksX8_opens_0 21 rfl rfl)
theorem dX8_opens_24 : decode cX8_opens 24 = .ok (.aload_n 0, 1) := dk_42 (dk_at dksX8_opens_1 0 rfl rfl)
theorem dX8_opens_25 : decode cX8_opens 25 = .ok (.invokevirtual 178, 3) := dk_182 0 178 (dk_at dksX8_opens_1 1 rfl rfl)
theorem dX8_opens_28 : decode cX8_opens 28 = .ok (.iconst 1, 1) := dk_4 (dk_at dksX8_opens_1 4 rfl rfl)
theorem dX8_opens_29 : decode cX8_opens 29 = .ok (.ireturn, 1) := dk_172 (dk_at dksX8_opens_1 5 rfl rfl)
def dkwX8_not1_5 : List UInt8 := [160, 0, 7, 4, 167, 0, 4, 3, 172]
abbrev dktX8_not1_5 : List UInt8 := dkwX8_not1_5 ++ []
def dkwX8_not1_4 : List UInt8 := [61, 42, 182, 0, 178, 42, 182, 1, 40, 62, 28, 153, 0, 11, 27, 29, 162, 0, 15, 167, 0, 8, 27, 29]
abbrev dktX8_not1_4 : List UInt8 := dkwX8_not1_4 ++ dktX8_not1_5
def dkwX8_not1_3 : List UInt8 := [182, 0, 203, 154, 0, 5, 27, 172, 42, 180, 0, 158, 20, 0, 225, 148, 154, 0, 7, 4, 167, 0, 4, 3]
abbrev dktX8_not1_3 : List UInt8 := dkwX8_not1_3 ++ dktX8_not1_4
def dkwX8_not1_2 : List UInt8 := [4, 167, 0, 4, 3, 172, 42, 182, 1, 40, 60, 42, 16, 60, 182, 0, 203, 154, 0, 14, 42, 16, 61]
abbrev dktX8_not1_2 : List UInt8 := dkwX8_not1_2 ++ dktX8_not1_3
def dkwX8_not1_1 : List UInt8 := [154, 0, 5, 3, 172, 42, 182, 1, 25, 60, 42, 89, 180, 0, 172, 4, 100, 181, 0, 172, 27, 154, 0, 7]
abbrev dktX8_not1_1 : List UInt8 := dkwX8_not1_1 ++ dktX8_not1_2
def dkwX8_not1_0 : List UInt8 := [42, 16, 110, 16, 111, 16, 116, 3, 3, 3, 3, 3, 182, 0, 181, 153, 0, 37, 42, 182, 0, 206]
abbrev dktX8_not1_0 : List UInt8 := dkwX8_not1_0 ++ dktX8_not1_1
theorem dksX8_not1_0 : cX8_not1.data.toList.drop 0 = dktX8_not1_0 := by decide +kernel
theorem dksX8_not1_1 : cX8_not1.data.toList.drop 22 = dktX8_not1_1 := dk_seg dksX8_not1_0 22 rfl rfl
theorem dksX8_not1_2 : cX8_not1.data.toList.drop 46 = dktX8_not1_2 := dk_seg dksX8_not1_1 24 rfl rfl
theorem dksX8_not1_3 : cX8_not1.data.toList.drop 69 = dktX8_not1_3 := dk_seg dksX8_not1_2 23 rfl rfl
theorem dksX8_not1_4 : cX8_not1.data.toList.drop 93 = dktX8_not1_4 := dk_seg dksX8_not1_3 24 rfl rfl
theorem dksX8_not1_5 : cX8_not1.data.toList.drop 117 = dktX8_not1_5 := dk_seg dksX8_not1_4 24 rfl rfl
theorem dX8_not1_0 : decode cX8_not1 0 = .ok (.aload_n 0, 1) := dk_42 (dk_at dksX8_not1_0 0 rfl rfl)
theorem dX8_not1_1 : decode cX8_not1 1 = .ok (.bipush 110, 2) := dk_16 110 (dk_at dksX8_not1_0 1 rfl rfl)
theorem dX8_not1_3 : decode cX8_not1 3 = .ok (.bipush 111, 2) := dk_16 111 (dk_at dksX8_not1_0 3 rfl rfl)
theorem dX8_not1_5 : decode cX8_not1 5 = .ok (.bipush 116, 2) := dk_16 116 (dk_at dksX8_not1_0 5 rfl rfl)
theorem dX8_not1_7 : decode cX8_not1 7 = .ok (.iconst 0, 1) := dk_3 (dk_at dksX8_not1_0 7 rfl rfl)
theorem dX8_not1_8 : decode cX8_not1 8 = .ok (.iconst 0, 1) := dk_3 (dk_at dksX8_not1_0 8 rfl rfl)
theorem dX8_not1_9 : decode cX8_not1 9 = .ok (.iconst 0, 1) := dk_3 (dk_at dksX8_not1_0 9 rfl rfl)
theorem dX8_not1_10 : decode cX8_not1 10 = .ok (.iconst 0, 1) := dk_3 (dk_at dksX8_not1_0 10 rfl rfl)
theorem dX8_not1_11 : decode cX8_not1 11 = .ok (.iconst 0, 1) := dk_3 (dk_at dksX8_not1_0 11 rfl rfl)
theorem dX8_not1_12 : decode cX8_not1 12 = .ok (.invokevirtual 181, 3) := dk_182 0 181 (dk_at dksX8_not1_0 12 rfl rfl)
theorem dX8_not1_15 : decode cX8_not1 15 = .ok (.ifCond .eq 37, 3) := dk_153 0 37 (dk_at dksX8_not1_0 15 rfl rfl)
theorem dX8_not1_18 : decode cX8_not1 18 = .ok (.aload_n 0, 1) := dk_42 (dk_at dksX8_not1_0 18 rfl rfl)
theorem dX8_not1_19 : decode cX8_not1 19 = .ok (.invokevirtual 206, 3) := dk_182 0 206 (dk_at dksX8_not1_0 19 rfl rfl)
theorem dX8_not1_22 : decode cX8_not1 22 = .ok (.ifCond .ne 5, 3) := dk_154 0 5 (dk_at dksX8_not1_1 0 rfl rfl)
theorem dX8_not1_25 : decode cX8_not1 25 = .ok (.iconst 0, 1) := dk_3 (dk_at dksX8_not1_1 3 rfl rfl)
theorem dX8_not1_26 : decode cX8_not1 26 = .ok (.ireturn, 1) := dk_172 (dk_at dksX8_not1_1 4 rfl rfl)
theorem dX8_not1_27 : decode cX8_not1 27 = .ok (.aload_n 0, 1) := dk_42 (dk_at dksX8_not1_1 5 rfl rfl)
theorem dX8_not1_28 : decode cX8_not1 28 = .ok (.invokevirtual 281, 3) := dk_182 1 25 (dk_at dksX8_not1_1 6 rfl rfl)
theorem dX8_not1_31 : decode cX8_not1 31 = .ok (.istore_n 1, 1) := dk_60 (dk_at dksX8_not1_1 9 rfl rfl)
theorem dX8_not1_32 : decode cX8_not1 32 = .ok (.aload_n 0, 1) := dk_42 (dk_at dksX8_not1_1 10 rfl rfl)
theorem dX8_not1_33 : decode cX8_not1 33 = .ok (.dup, 1) := dk_89 (dk_at dksX8_not1_1 11 rfl rfl)
theorem dX8_not1_34 : decode cX8_not1 34 = .ok (.getfield 172, 3) := dk_180 0 172 (dk_at dksX8_not1_1 12 rfl rfl)
theorem dX8_not1_37 : decode cX8_not1 37 = .ok (.iconst 1, 1) := dk_4 (dk_at dksX8_not1_1 15 rfl rfl)
theorem dX8_not1_38 : decode cX8_not1 38 = .ok (.isub, 1) := dk_100 (dk_at dksX8_not1_1 16 rfl rfl)
theorem dX8_not1_39 : decode cX8_not1 39 = .ok (.putfield 172, 3) := dk_181 0 172 (dk_at dksX8_not1_1 17 rfl rfl)
theorem dX8_not1_42 : decode cX8_not1 42 = .ok (.iload_n 1, 1) := dk_27 (dk_at dksX8_not1_1 20 rfl rfl)
theorem dX8_not1_43 : decode cX8_not1 43 = .ok (.ifCond .ne 7, 3) := dk_154 0 7 (dk_at dksX8_not1_1 21 rfl rfl)
theorem dX8_not1_46 : decode cX8_not1 46 = .ok (.iconst 1, 1) := dk_4 (dk_at dksX8_not1_2 0 rfl rfl)
theorem dX8_not1_47 : decode cX8_not1 47 = .ok (.goto 4, 3) := dk_167 0 4 (dk_at dksX8_not1_2 1 rfl rfl)
theorem dX8_not1_50 : decode cX8_not1 50 = .ok (.iconst 0, 1) := dk_3 (dk_at dksX8_not1_2 4 rfl rfl)
theorem dX8_not1_51 : decode cX8_not1 51 = .ok (.ireturn, 1) := dk_172 (dk_at dksX8_not1_2 5 rfl rfl)
theorem dX8_not1_52 : decode cX8_not1 52 = .ok (.aload_n 0, 1) := dk_42 (dk_at dksX8_not1_2 6 rfl rfl)
theorem dX8_not1_53 : decode cX8_not1 53 = .ok (.invokevirtual 296, 3) := dk_182 1 40 (dk_at dksX8_not1_2 7 rfl rfl)
theorem dX8_not1_56 : decode cX8_not1 56 = .ok (.istore_n 1, 1) := dk_60 (dk_at dksX8_not1_2 10 rfl rfl)
theorem dX8_not1_57 : decode cX8_not1 57 = .ok (.aload_n 0, 1) := dk_42 (dk_at dksX8_not1_2 11 rfl rfl)
theorem dX8_not1_58 : decode cX8_not1 58 = .ok (.bipush 60, 2) := dk_16 60 (dk_at dksX8_not1_2 12 rfl rfl)
theorem dX8_not1_60 : decode cX8_not1 60 = .ok (.invokevirtual 203, 3) := dk_182 0 203 (dk_at dksX8_not1_2 14 rfl rfl)
theorem dX8_not1_63 : decode cX8_not1 63 = .ok (.ifCond .ne 14, 3) := dk_154 0 14 (dk_at dksX8_not1_2 17 rfl rfl)
theorem dX8_not1_66 : decode cX8_not1 66 = .ok (.aload_n 0, 1) := dk_42 (dk_at dksX8_not1_2 20 rfl rfl)
theorem dX8_not1_67 : decode cX8_not1 67 = .ok (.bipush 61, 2) := dk_16 61 (dk_at dksX8_not1_2 21 rfl rfl)
theorem dX8_not1_69 : decode cX8_not1 69 = .ok (.invokevirtual 203, 3) := dk_182 0 203 (dk_at dksX8_not1_3 0 rfl rfl)
theorem dX8_not1_72 : decode cX8_not1 72 = .ok (.ifCond .ne 5, 3) := dk_154 0 5 (dk_at dksX8_not1_3 3 rfl rfl)
theorem dX8_not1_75 : decode cX8_not1 75 = .ok (.iload_n 1, 1) := dk_27 (dk_at dksX8_not1_3 6 rfl rfl)
theorem dX8_not1_76 : decode cX8_not1 76 = .ok (.ireturn, 1) := dk_172 (dk_at dksX8_not1_3 7 rfl rfl)
theorem dX8_not1_77 : decode cX8_not1 77 = .ok (.aload_n 0, 1) := dk_42 (dk_at dksX8_not1_3 8 rfl rfl)
theorem dX8_not1_78 : decode cX8_not1 78 = .ok (.getfield 158, 3) := dk_180 0 158 (dk_at dksX8_not1_3 9 rfl rfl)
theorem dX8_not1_81 : decode cX8_not1 81 = .ok (.ldc2_w 225, 3) := dk_20 0 225 (dk_at dksX8_not1_3 12 rfl rfl)
theorem dX8_not1_84 : decode cX8_not1 84 = .ok (.lcmp, 1) := dk_148 (dk_at dksX8_not1_3 15 rfl rfl)
theorem dX8_not1_85 : decode cX8_not1 85 = .ok (.ifCond .ne 7, 3) := dk_154 0 7 (dk_at dksX8_not1_3 16 rfl rfl)
theorem dX8_not1_88 : decode cX8_not1 88 = .ok (.iconst 1, 1) := dk_4 (dk_at dksX8_not1_3 19 rfl rfl)
theorem dX8_not1_89 : decode cX8_not1 89 = .ok (.goto 4, 3) := dk_167 0 4 (dk_at dksX8_not1_3 20 rfl rfl)
theorem dX8_not1_92 : decode cX8_not1 92 = .ok (.iconst 0, 1) := dk_3 (dk_at dksX8_not1_3 23 rfl rfl)
theorem dX8_not1_93 : decode cX8_not1 93 = .ok (.istore_n 2, 1) := dk_61 (dk_at dksX8_not1_4 0 rfl rfl)
theorem dX8_not1_94 : decode cX8_not1 94 = .ok (.aload_n 0, 1) := dk_42 (dk_at dksX8_not1_4 1 rfl rfl)
theorem dX8_not1_95 : decode cX8_not1 95 = .ok (.invokevirtual 178, 3) := dk_182 0 178 (dk_at dksX8_not1_4 2 rfl rfl)
theorem dX8_not1_98 : decode cX8_not1 98 = .ok (.aload_n 0, 1) := dk_42 (dk_at dksX8_not1_4 5 rfl rfl)
theorem dX8_not1_99 : decode cX8_not1 99 = .ok (.invokevirtual 296, 3) := dk_182 1 40 (dk_at dksX8_not1_4 6 rfl rfl)
theorem dX8_not1_102 : decode cX8_not1 102 = .ok (.istore_n 3, 1) := dk_62 (dk_at dksX8_not1_4 9 rfl rfl)
theorem dX8_not1_103 : decode cX8_not1 103 = .ok (.iload_n 2, 1) := dk_28 (dk_at dksX8_not1_4 10 rfl rfl)
theorem dX8_not1_104 : decode cX8_not1 104 = .ok (.ifCond .eq 11, 3) := dk_153 0 11 (dk_at dksX8_not1_4 11 rfl rfl)
theorem dX8_not1_107 : decode cX8_not1 107 = .ok (.iload_n 1, 1) := dk_27 (dk_at dksX8_not1_4 14 rfl rfl)
theorem dX8_not1_108 : decode cX8_not1 108 = .ok (.iload_n 3, 1) := dk_29 (dk_at dksX8_not1_4 15 rfl rfl)
theorem dX8_not1_109 : decode cX8_not1 109 = .ok (.if_icmp .ge 15, 3) := dk_162 0 15 (dk_at dksX8_not1_4 16 rfl rfl)
theorem dX8_not1_112 : decode cX8_not1 112 = .ok (.goto 8, 3) := dk_167 0 8 (dk_at dksX8_not1_4 19 rfl rfl)
theorem dX8_not1_115 : decode cX8_not1 115 = .ok (.iload_n 1, 1) := dk_27 (dk_at dksX8_not1_4 22 rfl rfl)
theorem dX8_not1_116 : decode cX8_not1 116 = .ok (.iload_n 3, 1) := dk_29 (dk_at dksX8_not1_4 23 rfl rfl)
theorem dX8_not1_117 : decode cX8_not1 117 = .ok (.if_icmp .ne 7, 3) := dk_160 0 7 (dk_at dksX8_not1_5 0 rfl rfl)
theorem dX8_not1_120 : decode cX8_not1 120 = .ok (.iconst 1, 1) := dk_4 (dk_at dksX8_not1_5 3 rfl rfl)
theorem dX8_not1_121 : decode cX8_not1 121 = .ok (.goto 4, 3) := dk_167 0 4 (dk_at dksX8_not1_5 4 rfl rfl)
theorem dX8_not1_124 : decode cX8_not1 124 = .ok (.iconst 0, 1) := dk_3 (dk_at dksX8_not1_5 7 rfl rfl)
theorem dX8_not1_125 : decode cX8_not1 125 = .ok (.ireturn, 1) := dk_172 (dk_at dksX8_not1_5 8 rfl rfl)
def dkwX8_not2_5 : List UInt8 := [160, 0, 7, 4, 167, 0, 4, 3, 172]
abbrev dktX8_not2_5 : List UInt8 := dkwX8_not2_5 ++ []
def dkwX8_not2_4 : List UInt8 := [61, 42, 182, 0, 178, 42, 182, 1, 22, 62, 28, 153, 0, 11, 27, 29, 162, 0, 15, 167, 0, 8, 27, 29]
abbrev dktX8_not2_4 : List UInt8 := dkwX8_not2_4 ++ dktX8_not2_5
def dkwX8_not2_3 : List UInt8 := [182, 0, 203, 154, 0, 5, 27, 172, 42, 180, 0, 158, 20, 0, 225, 148, 154, 0, 7, 4, 167, 0, 4, 3]
abbrev dktX8_not2_3 : List UInt8 := dkwX8_not2_3 ++ dktX8_not2_4
def dkwX8_not2_2 : List UInt8 := [4, 167, 0, 4, 3, 172, 42, 182, 1, 22, 60, 42, 16, 60, 182, 0, 203, 154, 0, 14, 42, 16, 61]
abbrev dktX8_not2_2 : List UInt8 := dkwX8_not2_2 ++ dktX8_not2_3
def dkwX8_not2_1 : List UInt8 := [154, 0, 5, 3, 172, 42, 182, 1, 7, 60, 42, 89, 180, 0, 172, 4, 100, 181, 0, 172, 27, 154, 0, 7]
abbrev dktX8_not2_1 : List UInt8 := dkwX8_not2_1 ++ dktX8_not2_2
def dkwX8_not2_0 : List UInt8 := [42, 16, 110, 16, 111, 16, 116, 3, 3, 3, 3, 3, 182, 0, 181, 153, 0, 37, 42, 182, 0, 206]
abbrev dktX8_not2_0 : List UInt8 := dkwX8_not2_0 ++ dktX8_not2_1
theorem dksX8_not2_0 : cX8_not2.data.toList.drop 0 = dktX8_not2_0 := by decide +kernel
theorem dksX8_not2_1 : cX8_not2.data.toList.drop 22 = dktX8_not2_1 := dk_seg dksX8_not2_0 22 rfl rfl
theorem dksX8_not2_2 : cX8_not2.data.toList.drop 46 = dktX8_not2_2 := dk_seg dksX8_not2_1 24 rfl rfl
theorem dksX8_not2_3 : cX8_not2.data.toList.drop 69 = dktX8_not2_3 := dk_seg dksX8_not2_2 23 rfl rfl
theorem dksX8_not2_4 : cX8_not2.data.toList.drop 93 = dktX8_not2_4 := dk_seg dksX8_not2_3 24 rfl rfl
theorem dksX8_not2_5 : cX8_not2.data.toList.drop 117 = dktX8_not2_5 := dk_seg dksX8_not2_4 24 rfl rfl
theorem dX8_not2_0 : decode cX8_not2 0 = .ok (.aload_n 0, 1) := dk_42 (dk_at dksX8_not2_0 0 rfl rfl)
theorem dX8_not2_1 : decode cX8_not2 1 = .ok (.bipush 110, 2) := dk_16 110 (dk_at dksX8_not2_0 1 rfl rfl)
theorem dX8_not2_3 : decode cX8_not2 3 = .ok (.bipush 111, 2) := dk_16 111 (dk_at dksX8_not2_0 3 rfl rfl)
theorem dX8_not2_5 : decode cX8_not2 5 = .ok (.bipush 116, 2) := dk_16 116 (dk_at dksX8_not2_0 5 rfl rfl)
theorem dX8_not2_7 : decode cX8_not2 7 = .ok (.iconst 0, 1) := dk_3 (dk_at dksX8_not2_0 7 rfl rfl)
theorem dX8_not2_8 : decode cX8_not2 8 = .ok (.iconst 0, 1) := dk_3 (dk_at dksX8_not2_0 8 rfl rfl)
theorem dX8_not2_9 : decode cX8_not2 9 = .ok (.iconst 0, 1) := dk_3 (dk_at dksX8_not2_0 9 rfl rfl)
theorem dX8_not2_10 : decode cX8_not2 10 = .ok (.iconst 0, 1) := dk_3 (dk_at dksX8_not2_0 10 rfl rfl)
theorem dX8_not2_11 : decode cX8_not2 11 = .ok (.iconst 0, 1) := dk_3 (dk_at dksX8_not2_0 11 rfl rfl)
theorem dX8_not2_12 : decode cX8_not2 12 = .ok (.invokevirtual 181, 3) := dk_182 0 181 (dk_at dksX8_not2_0 12 rfl rfl)
theorem dX8_not2_15 : decode cX8_not2 15 = .ok (.ifCond .eq 37, 3) := dk_153 0 37 (dk_at dksX8_not2_0 15 rfl rfl)
theorem dX8_not2_18 : decode cX8_not2 18 = .ok (.aload_n 0, 1) := dk_42 (dk_at dksX8_not2_0 18 rfl rfl)
theorem dX8_not2_19 : decode cX8_not2 19 = .ok (.invokevirtual 206, 3) := dk_182 0 206 (dk_at dksX8_not2_0 19 rfl rfl)
theorem dX8_not2_22 : decode cX8_not2 22 = .ok (.ifCond .ne 5, 3) := dk_154 0 5 (dk_at dksX8_not2_1 0 rfl rfl)
theorem dX8_not2_25 : decode cX8_not2 25 = .ok (.iconst 0, 1) := dk_3 (dk_at dksX8_not2_1 3 rfl rfl)
theorem dX8_not2_26 : decode cX8_not2 26 = .ok (.ireturn, 1) := dk_172 (dk_at dksX8_not2_1 4 rfl rfl)
theorem dX8_not2_27 : decode cX8_not2 27 = .ok (.aload_n 0, 1) := dk_42 (dk_at dksX8_not2_1 5 rfl rfl)
theorem dX8_not2_28 : decode cX8_not2 28 = .ok (.invokevirtual 263, 3) := dk_182 1 7 (dk_at dksX8_not2_1 6 rfl rfl)
theorem dX8_not2_31 : decode cX8_not2 31 = .ok (.istore_n 1, 1) := dk_60 (dk_at dksX8_not2_1 9 rfl rfl)
theorem dX8_not2_32 : decode cX8_not2 32 = .ok (.aload_n 0, 1) := dk_42 (dk_at dksX8_not2_1 10 rfl rfl)
theorem dX8_not2_33 : decode cX8_not2 33 = .ok (.dup, 1) := dk_89 (dk_at dksX8_not2_1 11 rfl rfl)
theorem dX8_not2_34 : decode cX8_not2 34 = .ok (.getfield 172, 3) := dk_180 0 172 (dk_at dksX8_not2_1 12 rfl rfl)
theorem dX8_not2_37 : decode cX8_not2 37 = .ok (.iconst 1, 1) := dk_4 (dk_at dksX8_not2_1 15 rfl rfl)
theorem dX8_not2_38 : decode cX8_not2 38 = .ok (.isub, 1) := dk_100 (dk_at dksX8_not2_1 16 rfl rfl)
theorem dX8_not2_39 : decode cX8_not2 39 = .ok (.putfield 172, 3) := dk_181 0 172 (dk_at dksX8_not2_1 17 rfl rfl)
theorem dX8_not2_42 : decode cX8_not2 42 = .ok (.iload_n 1, 1) := dk_27 (dk_at dksX8_not2_1 20 rfl rfl)
theorem dX8_not2_43 : decode cX8_not2 43 = .ok (.ifCond .ne 7, 3) := dk_154 0 7 (dk_at dksX8_not2_1 21 rfl rfl)
theorem dX8_not2_46 : decode cX8_not2 46 = .ok (.iconst 1, 1) := dk_4 (dk_at dksX8_not2_2 0 rfl rfl)
theorem dX8_not2_47 : decode cX8_not2 47 = .ok (.goto 4, 3) := dk_167 0 4 (dk_at dksX8_not2_2 1 rfl rfl)
theorem dX8_not2_50 : decode cX8_not2 50 = .ok (.iconst 0, 1) := dk_3 (dk_at dksX8_not2_2 4 rfl rfl)
theorem dX8_not2_51 : decode cX8_not2 51 = .ok (.ireturn, 1) := dk_172 (dk_at dksX8_not2_2 5 rfl rfl)
theorem dX8_not2_52 : decode cX8_not2 52 = .ok (.aload_n 0, 1) := dk_42 (dk_at dksX8_not2_2 6 rfl rfl)
theorem dX8_not2_53 : decode cX8_not2 53 = .ok (.invokevirtual 278, 3) := dk_182 1 22 (dk_at dksX8_not2_2 7 rfl rfl)
theorem dX8_not2_56 : decode cX8_not2 56 = .ok (.istore_n 1, 1) := dk_60 (dk_at dksX8_not2_2 10 rfl rfl)
theorem dX8_not2_57 : decode cX8_not2 57 = .ok (.aload_n 0, 1) := dk_42 (dk_at dksX8_not2_2 11 rfl rfl)
theorem dX8_not2_58 : decode cX8_not2 58 = .ok (.bipush 60, 2) := dk_16 60 (dk_at dksX8_not2_2 12 rfl rfl)
theorem dX8_not2_60 : decode cX8_not2 60 = .ok (.invokevirtual 203, 3) := dk_182 0 203 (dk_at dksX8_not2_2 14 rfl rfl)
theorem dX8_not2_63 : decode cX8_not2 63 = .ok (.ifCond .ne 14, 3) := dk_154 0 14 (dk_at dksX8_not2_2 17 rfl rfl)
theorem dX8_not2_66 : decode cX8_not2 66 = .ok (.aload_n 0, 1) := dk_42 (dk_at dksX8_not2_2 20 rfl rfl)
theorem dX8_not2_67 : decode cX8_not2 67 = .ok (.bipush 61, 2) := dk_16 61 (dk_at dksX8_not2_2 21 rfl rfl)
theorem dX8_not2_69 : decode cX8_not2 69 = .ok (.invokevirtual 203, 3) := dk_182 0 203 (dk_at dksX8_not2_3 0 rfl rfl)
theorem dX8_not2_72 : decode cX8_not2 72 = .ok (.ifCond .ne 5, 3) := dk_154 0 5 (dk_at dksX8_not2_3 3 rfl rfl)
theorem dX8_not2_75 : decode cX8_not2 75 = .ok (.iload_n 1, 1) := dk_27 (dk_at dksX8_not2_3 6 rfl rfl)
theorem dX8_not2_76 : decode cX8_not2 76 = .ok (.ireturn, 1) := dk_172 (dk_at dksX8_not2_3 7 rfl rfl)
theorem dX8_not2_77 : decode cX8_not2 77 = .ok (.aload_n 0, 1) := dk_42 (dk_at dksX8_not2_3 8 rfl rfl)
theorem dX8_not2_78 : decode cX8_not2 78 = .ok (.getfield 158, 3) := dk_180 0 158 (dk_at dksX8_not2_3 9 rfl rfl)
theorem dX8_not2_81 : decode cX8_not2 81 = .ok (.ldc2_w 225, 3) := dk_20 0 225 (dk_at dksX8_not2_3 12 rfl rfl)
theorem dX8_not2_84 : decode cX8_not2 84 = .ok (.lcmp, 1) := dk_148 (dk_at dksX8_not2_3 15 rfl rfl)
theorem dX8_not2_85 : decode cX8_not2 85 = .ok (.ifCond .ne 7, 3) := dk_154 0 7 (dk_at dksX8_not2_3 16 rfl rfl)
theorem dX8_not2_88 : decode cX8_not2 88 = .ok (.iconst 1, 1) := dk_4 (dk_at dksX8_not2_3 19 rfl rfl)
theorem dX8_not2_89 : decode cX8_not2 89 = .ok (.goto 4, 3) := dk_167 0 4 (dk_at dksX8_not2_3 20 rfl rfl)
theorem dX8_not2_92 : decode cX8_not2 92 = .ok (.iconst 0, 1) := dk_3 (dk_at dksX8_not2_3 23 rfl rfl)
theorem dX8_not2_93 : decode cX8_not2 93 = .ok (.istore_n 2, 1) := dk_61 (dk_at dksX8_not2_4 0 rfl rfl)
theorem dX8_not2_94 : decode cX8_not2 94 = .ok (.aload_n 0, 1) := dk_42 (dk_at dksX8_not2_4 1 rfl rfl)
theorem dX8_not2_95 : decode cX8_not2 95 = .ok (.invokevirtual 178, 3) := dk_182 0 178 (dk_at dksX8_not2_4 2 rfl rfl)
theorem dX8_not2_98 : decode cX8_not2 98 = .ok (.aload_n 0, 1) := dk_42 (dk_at dksX8_not2_4 5 rfl rfl)
theorem dX8_not2_99 : decode cX8_not2 99 = .ok (.invokevirtual 278, 3) := dk_182 1 22 (dk_at dksX8_not2_4 6 rfl rfl)
theorem dX8_not2_102 : decode cX8_not2 102 = .ok (.istore_n 3, 1) := dk_62 (dk_at dksX8_not2_4 9 rfl rfl)
theorem dX8_not2_103 : decode cX8_not2 103 = .ok (.iload_n 2, 1) := dk_28 (dk_at dksX8_not2_4 10 rfl rfl)
theorem dX8_not2_104 : decode cX8_not2 104 = .ok (.ifCond .eq 11, 3) := dk_153 0 11 (dk_at dksX8_not2_4 11 rfl rfl)
theorem dX8_not2_107 : decode cX8_not2 107 = .ok (.iload_n 1, 1) := dk_27 (dk_at dksX8_not2_4 14 rfl rfl)
theorem dX8_not2_108 : decode cX8_not2 108 = .ok (.iload_n 3, 1) := dk_29 (dk_at dksX8_not2_4 15 rfl rfl)
theorem dX8_not2_109 : decode cX8_not2 109 = .ok (.if_icmp .ge 15, 3) := dk_162 0 15 (dk_at dksX8_not2_4 16 rfl rfl)
theorem dX8_not2_112 : decode cX8_not2 112 = .ok (.goto 8, 3) := dk_167 0 8 (dk_at dksX8_not2_4 19 rfl rfl)
theorem dX8_not2_115 : decode cX8_not2 115 = .ok (.iload_n 1, 1) := dk_27 (dk_at dksX8_not2_4 22 rfl rfl)
theorem dX8_not2_116 : decode cX8_not2 116 = .ok (.iload_n 3, 1) := dk_29 (dk_at dksX8_not2_4 23 rfl rfl)
theorem dX8_not2_117 : decode cX8_not2 117 = .ok (.if_icmp .ne 7, 3) := dk_160 0 7 (dk_at dksX8_not2_5 0 rfl rfl)
theorem dX8_not2_120 : decode cX8_not2 120 = .ok (.iconst 1, 1) := dk_4 (dk_at dksX8_not2_5 3 rfl rfl)
theorem dX8_not2_121 : decode cX8_not2 121 = .ok (.goto 4, 3) := dk_167 0 4 (dk_at dksX8_not2_5 4 rfl rfl)
theorem dX8_not2_124 : decode cX8_not2 124 = .ok (.iconst 0, 1) := dk_3 (dk_at dksX8_not2_5 7 rfl rfl)
theorem dX8_not2_125 : decode cX8_not2 125 = .ok (.ireturn, 1) := dk_172 (dk_at dksX8_not2_5 8 rfl rfl)
def dkwX8_not3_5 : List UInt8 := [160, 0, 7, 4, 167, 0, 4, 3, 172]
abbrev dktX8_not3_5 : List UInt8 := dkwX8_not3_5 ++ []
def dkwX8_not3_4 : List UInt8 := [61, 42, 182, 0, 178, 42, 182, 1, 4, 62, 28, 153, 0, 11, 27, 29, 162, 0, 15, 167, 0, 8, 27, 29]
abbrev dktX8_not3_4 : List UInt8 := dkwX8_not3_4 ++ dktX8_not3_5
def dkwX8_not3_3 : List UInt8 := [182, 0, 203, 154, 0, 5, 27, 172, 42, 180, 0, 158, 20, 0, 225, 148, 154, 0, 7, 4, 167, 0, 4, 3]
abbrev dktX8_not3_3 : List UInt8 := dkwX8_not3_3 ++ dktX8_not3_4
def dkwX8_not3_2 : List UInt8 := [4, 167, 0, 4, 3, 172, 42, 182, 1, 4, 60, 42, 16, 60, 182, 0, 203, 154, 0, 14, 42, 16, 61]
abbrev dktX8_not3_2 : List UInt8 := dkwX8_not3_2 ++ dktX8_not3_3
def dkwX8_not3_1 : List UInt8 := [154, 0, 5, 3, 172, 42, 182, 0, 245, 60, 42, 89, 180, 0, 172, 4, 100, 181, 0, 172, 27, 154, 0, 7]
abbrev dktX8_not3_1 : List UInt8 := dkwX8_not3_1 ++ dktX8_not3_2
def dkwX8_not3_0 : List UInt8 := [42, 16, 110, 16, 111, 16, 116, 3, 3, 3, 3, 3, 182, 0, 181, 153, 0, 37, 42, 182, 0, 206]
abbrev dktX8_not3_0 : List UInt8 := dkwX8_not3_0 ++ dktX8_not3_1
theorem dksX8_not3_0 : cX8_not3.data.toList.drop 0 = dktX8_not3_0 := by decide +kernel
theorem dksX8_not3_1 : cX8_not3.data.toList.drop 22 = dktX8_not3_1 := dk_seg dksX8_not3_0 22 rfl rfl
theorem dksX8_not3_2 : cX8_not3.data.toList.drop 46 = dktX8_not3_2 := dk_seg dksX8_not3_1 24 rfl rfl
theorem dksX8_not3_3 : cX8_not3.data.toList.drop 69 = dktX8_not3_3 := dk_seg dksX8_not3_2 23 rfl rfl
theorem dksX8_not3_4 : cX8_not3.data.toList.drop 93 = dktX8_not3_4 := dk_seg dksX8_not3_3 24 rfl rfl
theorem dksX8_not3_5 : cX8_not3.data.toList.drop 117 = dktX8_not3_5 := dk_seg dksX8_not3_4 24 rfl rfl
theorem dX8_not3_0 : decode cX8_not3 0 = .ok (.aload_n 0, 1) := dk_42 (dk_at dksX8_not3_0 0 rfl rfl)
theorem dX8_not3_1 : decode cX8_not3 1 = .ok (.bipush 110, 2) := dk_16 110 (dk_at dksX8_not3_0 1 rfl rfl)
theorem dX8_not3_3 : decode cX8_not3 3 = .ok (.bipush 111, 2) := dk_16 111 (dk_at dksX8_not3_0 3 rfl rfl)
theorem dX8_not3_5 : decode cX8_not3 5 = .ok (.bipush 116, 2) := dk_16 116 (dk_at dksX8_not3_0 5 rfl rfl)
theorem dX8_not3_7 : decode cX8_not3 7 = .ok (.iconst 0, 1) := dk_3 (dk_at dksX8_not3_0 7 rfl rfl)
theorem dX8_not3_8 : decode cX8_not3 8 = .ok (.iconst 0, 1) := dk_3 (dk_at dksX8_not3_0 8 rfl rfl)
theorem dX8_not3_9 : decode cX8_not3 9 = .ok (.iconst 0, 1) := dk_3 (dk_at dksX8_not3_0 9 rfl rfl)
theorem dX8_not3_10 : decode cX8_not3 10 = .ok (.iconst 0, 1) := dk_3 (dk_at dksX8_not3_0 10 rfl rfl)
theorem dX8_not3_11 : decode cX8_not3 11 = .ok (.iconst 0, 1) := dk_3 (dk_at dksX8_not3_0 11 rfl rfl)
theorem dX8_not3_12 : decode cX8_not3 12 = .ok (.invokevirtual 181, 3) := dk_182 0 181 (dk_at dksX8_not3_0 12 rfl rfl)
theorem dX8_not3_15 : decode cX8_not3 15 = .ok (.ifCond .eq 37, 3) := dk_153 0 37 (dk_at dksX8_not3_0 15 rfl rfl)
theorem dX8_not3_18 : decode cX8_not3 18 = .ok (.aload_n 0, 1) := dk_42 (dk_at dksX8_not3_0 18 rfl rfl)
theorem dX8_not3_19 : decode cX8_not3 19 = .ok (.invokevirtual 206, 3) := dk_182 0 206 (dk_at dksX8_not3_0 19 rfl rfl)
theorem dX8_not3_22 : decode cX8_not3 22 = .ok (.ifCond .ne 5, 3) := dk_154 0 5 (dk_at dksX8_not3_1 0 rfl rfl)
theorem dX8_not3_25 : decode cX8_not3 25 = .ok (.iconst 0, 1) := dk_3 (dk_at dksX8_not3_1 3 rfl rfl)
theorem dX8_not3_26 : decode cX8_not3 26 = .ok (.ireturn, 1) := dk_172 (dk_at dksX8_not3_1 4 rfl rfl)
theorem dX8_not3_27 : decode cX8_not3 27 = .ok (.aload_n 0, 1) := dk_42 (dk_at dksX8_not3_1 5 rfl rfl)
theorem dX8_not3_28 : decode cX8_not3 28 = .ok (.invokevirtual 245, 3) := dk_182 0 245 (dk_at dksX8_not3_1 6 rfl rfl)
theorem dX8_not3_31 : decode cX8_not3 31 = .ok (.istore_n 1, 1) := dk_60 (dk_at dksX8_not3_1 9 rfl rfl)
theorem dX8_not3_32 : decode cX8_not3 32 = .ok (.aload_n 0, 1) := dk_42 (dk_at dksX8_not3_1 10 rfl rfl)
theorem dX8_not3_33 : decode cX8_not3 33 = .ok (.dup, 1) := dk_89 (dk_at dksX8_not3_1 11 rfl rfl)
theorem dX8_not3_34 : decode cX8_not3 34 = .ok (.getfield 172, 3) := dk_180 0 172 (dk_at dksX8_not3_1 12 rfl rfl)
theorem dX8_not3_37 : decode cX8_not3 37 = .ok (.iconst 1, 1) := dk_4 (dk_at dksX8_not3_1 15 rfl rfl)
theorem dX8_not3_38 : decode cX8_not3 38 = .ok (.isub, 1) := dk_100 (dk_at dksX8_not3_1 16 rfl rfl)
theorem dX8_not3_39 : decode cX8_not3 39 = .ok (.putfield 172, 3) := dk_181 0 172 (dk_at dksX8_not3_1 17 rfl rfl)
theorem dX8_not3_42 : decode cX8_not3 42 = .ok (.iload_n 1, 1) := dk_27 (dk_at dksX8_not3_1 20 rfl rfl)
theorem dX8_not3_43 : decode cX8_not3 43 = .ok (.ifCond .ne 7, 3) := dk_154 0 7 (dk_at dksX8_not3_1 21 rfl rfl)
theorem dX8_not3_46 : decode cX8_not3 46 = .ok (.iconst 1, 1) := dk_4 (dk_at dksX8_not3_2 0 rfl rfl)
theorem dX8_not3_47 : decode cX8_not3 47 = .ok (.goto 4, 3) := dk_167 0 4 (dk_at dksX8_not3_2 1 rfl rfl)
theorem dX8_not3_50 : decode cX8_not3 50 = .ok (.iconst 0, 1) := dk_3 (dk_at dksX8_not3_2 4 rfl rfl)
theorem dX8_not3_51 : decode cX8_not3 51 = .ok (.ireturn, 1) := dk_172 (dk_at dksX8_not3_2 5 rfl rfl)
theorem dX8_not3_52 : decode cX8_not3 52 = .ok (.aload_n 0, 1) := dk_42 (dk_at dksX8_not3_2 6 rfl rfl)
theorem dX8_not3_53 : decode cX8_not3 53 = .ok (.invokevirtual 260, 3) := dk_182 1 4 (dk_at dksX8_not3_2 7 rfl rfl)
theorem dX8_not3_56 : decode cX8_not3 56 = .ok (.istore_n 1, 1) := dk_60 (dk_at dksX8_not3_2 10 rfl rfl)
theorem dX8_not3_57 : decode cX8_not3 57 = .ok (.aload_n 0, 1) := dk_42 (dk_at dksX8_not3_2 11 rfl rfl)
theorem dX8_not3_58 : decode cX8_not3 58 = .ok (.bipush 60, 2) := dk_16 60 (dk_at dksX8_not3_2 12 rfl rfl)
theorem dX8_not3_60 : decode cX8_not3 60 = .ok (.invokevirtual 203, 3) := dk_182 0 203 (dk_at dksX8_not3_2 14 rfl rfl)
theorem dX8_not3_63 : decode cX8_not3 63 = .ok (.ifCond .ne 14, 3) := dk_154 0 14 (dk_at dksX8_not3_2 17 rfl rfl)
theorem dX8_not3_66 : decode cX8_not3 66 = .ok (.aload_n 0, 1) := dk_42 (dk_at dksX8_not3_2 20 rfl rfl)
theorem dX8_not3_67 : decode cX8_not3 67 = .ok (.bipush 61, 2) := dk_16 61 (dk_at dksX8_not3_2 21 rfl rfl)
theorem dX8_not3_69 : decode cX8_not3 69 = .ok (.invokevirtual 203, 3) := dk_182 0 203 (dk_at dksX8_not3_3 0 rfl rfl)
theorem dX8_not3_72 : decode cX8_not3 72 = .ok (.ifCond .ne 5, 3) := dk_154 0 5 (dk_at dksX8_not3_3 3 rfl rfl)
theorem dX8_not3_75 : decode cX8_not3 75 = .ok (.iload_n 1, 1) := dk_27 (dk_at dksX8_not3_3 6 rfl rfl)
theorem dX8_not3_76 : decode cX8_not3 76 = .ok (.ireturn, 1) := dk_172 (dk_at dksX8_not3_3 7 rfl rfl)
theorem dX8_not3_77 : decode cX8_not3 77 = .ok (.aload_n 0, 1) := dk_42 (dk_at dksX8_not3_3 8 rfl rfl)
theorem dX8_not3_78 : decode cX8_not3 78 = .ok (.getfield 158, 3) := dk_180 0 158 (dk_at dksX8_not3_3 9 rfl rfl)
theorem dX8_not3_81 : decode cX8_not3 81 = .ok (.ldc2_w 225, 3) := dk_20 0 225 (dk_at dksX8_not3_3 12 rfl rfl)
theorem dX8_not3_84 : decode cX8_not3 84 = .ok (.lcmp, 1) := dk_148 (dk_at dksX8_not3_3 15 rfl rfl)
theorem dX8_not3_85 : decode cX8_not3 85 = .ok (.ifCond .ne 7, 3) := dk_154 0 7 (dk_at dksX8_not3_3 16 rfl rfl)
theorem dX8_not3_88 : decode cX8_not3 88 = .ok (.iconst 1, 1) := dk_4 (dk_at dksX8_not3_3 19 rfl rfl)
theorem dX8_not3_89 : decode cX8_not3 89 = .ok (.goto 4, 3) := dk_167 0 4 (dk_at dksX8_not3_3 20 rfl rfl)
theorem dX8_not3_92 : decode cX8_not3 92 = .ok (.iconst 0, 1) := dk_3 (dk_at dksX8_not3_3 23 rfl rfl)
theorem dX8_not3_93 : decode cX8_not3 93 = .ok (.istore_n 2, 1) := dk_61 (dk_at dksX8_not3_4 0 rfl rfl)
theorem dX8_not3_94 : decode cX8_not3 94 = .ok (.aload_n 0, 1) := dk_42 (dk_at dksX8_not3_4 1 rfl rfl)
theorem dX8_not3_95 : decode cX8_not3 95 = .ok (.invokevirtual 178, 3) := dk_182 0 178 (dk_at dksX8_not3_4 2 rfl rfl)
theorem dX8_not3_98 : decode cX8_not3 98 = .ok (.aload_n 0, 1) := dk_42 (dk_at dksX8_not3_4 5 rfl rfl)
theorem dX8_not3_99 : decode cX8_not3 99 = .ok (.invokevirtual 260, 3) := dk_182 1 4 (dk_at dksX8_not3_4 6 rfl rfl)
theorem dX8_not3_102 : decode cX8_not3 102 = .ok (.istore_n 3, 1) := dk_62 (dk_at dksX8_not3_4 9 rfl rfl)
theorem dX8_not3_103 : decode cX8_not3 103 = .ok (.iload_n 2, 1) := dk_28 (dk_at dksX8_not3_4 10 rfl rfl)
theorem dX8_not3_104 : decode cX8_not3 104 = .ok (.ifCond .eq 11, 3) := dk_153 0 11 (dk_at dksX8_not3_4 11 rfl rfl)
theorem dX8_not3_107 : decode cX8_not3 107 = .ok (.iload_n 1, 1) := dk_27 (dk_at dksX8_not3_4 14 rfl rfl)
theorem dX8_not3_108 : decode cX8_not3 108 = .ok (.iload_n 3, 1) := dk_29 (dk_at dksX8_not3_4 15 rfl rfl)
theorem dX8_not3_109 : decode cX8_not3 109 = .ok (.if_icmp .ge 15, 3) := dk_162 0 15 (dk_at dksX8_not3_4 16 rfl rfl)
theorem dX8_not3_112 : decode cX8_not3 112 = .ok (.goto 8, 3) := dk_167 0 8 (dk_at dksX8_not3_4 19 rfl rfl)
theorem dX8_not3_115 : decode cX8_not3 115 = .ok (.iload_n 1, 1) := dk_27 (dk_at dksX8_not3_4 22 rfl rfl)
theorem dX8_not3_116 : decode cX8_not3 116 = .ok (.iload_n 3, 1) := dk_29 (dk_at dksX8_not3_4 23 rfl rfl)
theorem dX8_not3_117 : decode cX8_not3 117 = .ok (.if_icmp .ne 7, 3) := dk_160 0 7 (dk_at dksX8_not3_5 0 rfl rfl)
theorem dX8_not3_120 : decode cX8_not3 120 = .ok (.iconst 1, 1) := dk_4 (dk_at dksX8_not3_5 3 rfl rfl)
theorem dX8_not3_121 : decode cX8_not3 121 = .ok (.goto 4, 3) := dk_167 0 4 (dk_at dksX8_not3_5 4 rfl rfl)
theorem dX8_not3_124 : decode cX8_not3 124 = .ok (.iconst 0, 1) := dk_3 (dk_at dksX8_not3_5 7 rfl rfl)
theorem dX8_not3_125 : decode cX8_not3 125 = .ok (.ireturn, 1) := dk_172 (dk_at dksX8_not3_5 8 rfl rfl)
def dkwX8_not4_5 : List UInt8 := [160, 0, 7, 4, 167, 0, 4, 3, 172]
abbrev dktX8_not4_5 : List UInt8 := dkwX8_not4_5 ++ []
def dkwX8_not4_4 : List UInt8 := [61, 42, 182, 0, 178, 42, 182, 0, 242, 62, 28, 153, 0, 11, 27, 29, 162, 0, 15, 167, 0, 8, 27, 29]
abbrev dktX8_not4_4 : List UInt8 := dkwX8_not4_4 ++ dktX8_not4_5
def dkwX8_not4_3 : List UInt8 := [182, 0, 203, 154, 0, 5, 27, 172, 42, 180, 0, 158, 20, 0, 225, 148, 154, 0, 7, 4, 167, 0, 4, 3]
abbrev dktX8_not4_3 : List UInt8 := dkwX8_not4_3 ++ dktX8_not4_4
def dkwX8_not4_2 : List UInt8 := [4, 167, 0, 4, 3, 172, 42, 182, 0, 242, 60, 42, 16, 60, 182, 0, 203, 154, 0, 14, 42, 16, 61]
abbrev dktX8_not4_2 : List UInt8 := dkwX8_not4_2 ++ dktX8_not4_3
def dkwX8_not4_1 : List UInt8 := [154, 0, 5, 3, 172, 42, 182, 0, 227, 60, 42, 89, 180, 0, 172, 4, 100, 181, 0, 172, 27, 154, 0, 7]
abbrev dktX8_not4_1 : List UInt8 := dkwX8_not4_1 ++ dktX8_not4_2
def dkwX8_not4_0 : List UInt8 := [42, 16, 110, 16, 111, 16, 116, 3, 3, 3, 3, 3, 182, 0, 181, 153, 0, 37, 42, 182, 0, 206]
abbrev dktX8_not4_0 : List UInt8 := dkwX8_not4_0 ++ dktX8_not4_1
theorem dksX8_not4_0 : cX8_not4.data.toList.drop 0 = dktX8_not4_0 := by decide +kernel
theorem dksX8_not4_1 : cX8_not4.data.toList.drop 22 = dktX8_not4_1 := dk_seg dksX8_not4_0 22 rfl rfl
theorem dksX8_not4_2 : cX8_not4.data.toList.drop 46 = dktX8_not4_2 := dk_seg dksX8_not4_1 24 rfl rfl
theorem dksX8_not4_3 : cX8_not4.data.toList.drop 69 = dktX8_not4_3 := dk_seg dksX8_not4_2 23 rfl rfl
theorem dksX8_not4_4 : cX8_not4.data.toList.drop 93 = dktX8_not4_4 := dk_seg dksX8_not4_3 24 rfl rfl
theorem dksX8_not4_5 : cX8_not4.data.toList.drop 117 = dktX8_not4_5 := dk_seg dksX8_not4_4 24 rfl rfl
theorem dX8_not4_0 : decode cX8_not4 0 = .ok (.aload_n 0, 1) := dk_42 (dk_at dksX8_not4_0 0 rfl rfl)
theorem dX8_not4_1 : decode cX8_not4 1 = .ok (.bipush 110, 2) := dk_16 110 (dk_at dksX8_not4_0 1 rfl rfl)
theorem dX8_not4_3 : decode cX8_not4 3 = .ok (.bipush 111, 2) := dk_16 111 (dk_at dksX8_not4_0 3 rfl rfl)
theorem dX8_not4_5 : decode cX8_not4 5 = .ok (.bipush 116, 2) := dk_16 116 (dk_at dksX8_not4_0 5 rfl rfl)
theorem dX8_not4_7 : decode cX8_not4 7 = .ok (.iconst 0, 1) := dk_3 (dk_at dksX8_not4_0 7 rfl rfl)
theorem dX8_not4_8 : decode cX8_not4 8 = .ok (.iconst 0, 1) := dk_3 (dk_at dksX8_not4_0 8 rfl rfl)
theorem dX8_not4_9 : decode cX8_not4 9 = .ok (.iconst 0, 1) := dk_3 (dk_at dksX8_not4_0 9 rfl rfl)
theorem dX8_not4_10 : decode cX8_not4 10 = .ok (.iconst 0, 1) := dk_3 (dk_at dksX8_not4_0 10 rfl rfl)
theorem dX8_not4_11 : decode cX8_not4 11 = .ok (.iconst 0, 1) := dk_3 (dk_at dksX8_not4_0 11 rfl rfl)
theorem dX8_not4_12 : decode cX8_not4 12 = .ok (.invokevirtual 181, 3) := dk_182 0 181 (dk_at dksX8_not4_0 12 rfl rfl)
theorem dX8_not4_15 : decode cX8_not4 15 = .ok (.ifCond .eq 37, 3) := dk_153 0 37 (dk_at dksX8_not4_0 15 rfl rfl)
theorem dX8_not4_18 : decode cX8_not4 18 = .ok (.aload_n 0, 1) := dk_42 (dk_at dksX8_not4_0 18 rfl rfl)
theorem dX8_not4_19 : decode cX8_not4 19 = .ok (.invokevirtual 206, 3) := dk_182 0 206 (dk_at dksX8_not4_0 19 rfl rfl)
theorem dX8_not4_22 : decode cX8_not4 22 = .ok (.ifCond .ne 5, 3) := dk_154 0 5 (dk_at dksX8_not4_1 0 rfl rfl)
theorem dX8_not4_25 : decode cX8_not4 25 = .ok (.iconst 0, 1) := dk_3 (dk_at dksX8_not4_1 3 rfl rfl)
theorem dX8_not4_26 : decode cX8_not4 26 = .ok (.ireturn, 1) := dk_172 (dk_at dksX8_not4_1 4 rfl rfl)
theorem dX8_not4_27 : decode cX8_not4 27 = .ok (.aload_n 0, 1) := dk_42 (dk_at dksX8_not4_1 5 rfl rfl)
theorem dX8_not4_28 : decode cX8_not4 28 = .ok (.invokevirtual 227, 3) := dk_182 0 227 (dk_at dksX8_not4_1 6 rfl rfl)
theorem dX8_not4_31 : decode cX8_not4 31 = .ok (.istore_n 1, 1) := dk_60 (dk_at dksX8_not4_1 9 rfl rfl)
theorem dX8_not4_32 : decode cX8_not4 32 = .ok (.aload_n 0, 1) := dk_42 (dk_at dksX8_not4_1 10 rfl rfl)
theorem dX8_not4_33 : decode cX8_not4 33 = .ok (.dup, 1) := dk_89 (dk_at dksX8_not4_1 11 rfl rfl)
theorem dX8_not4_34 : decode cX8_not4 34 = .ok (.getfield 172, 3) := dk_180 0 172 (dk_at dksX8_not4_1 12 rfl rfl)
theorem dX8_not4_37 : decode cX8_not4 37 = .ok (.iconst 1, 1) := dk_4 (dk_at dksX8_not4_1 15 rfl rfl)
theorem dX8_not4_38 : decode cX8_not4 38 = .ok (.isub, 1) := dk_100 (dk_at dksX8_not4_1 16 rfl rfl)
theorem dX8_not4_39 : decode cX8_not4 39 = .ok (.putfield 172, 3) := dk_181 0 172 (dk_at dksX8_not4_1 17 rfl rfl)
theorem dX8_not4_42 : decode cX8_not4 42 = .ok (.iload_n 1, 1) := dk_27 (dk_at dksX8_not4_1 20 rfl rfl)
theorem dX8_not4_43 : decode cX8_not4 43 = .ok (.ifCond .ne 7, 3) := dk_154 0 7 (dk_at dksX8_not4_1 21 rfl rfl)
theorem dX8_not4_46 : decode cX8_not4 46 = .ok (.iconst 1, 1) := dk_4 (dk_at dksX8_not4_2 0 rfl rfl)
theorem dX8_not4_47 : decode cX8_not4 47 = .ok (.goto 4, 3) := dk_167 0 4 (dk_at dksX8_not4_2 1 rfl rfl)
theorem dX8_not4_50 : decode cX8_not4 50 = .ok (.iconst 0, 1) := dk_3 (dk_at dksX8_not4_2 4 rfl rfl)
theorem dX8_not4_51 : decode cX8_not4 51 = .ok (.ireturn, 1) := dk_172 (dk_at dksX8_not4_2 5 rfl rfl)
theorem dX8_not4_52 : decode cX8_not4 52 = .ok (.aload_n 0, 1) := dk_42 (dk_at dksX8_not4_2 6 rfl rfl)
theorem dX8_not4_53 : decode cX8_not4 53 = .ok (.invokevirtual 242, 3) := dk_182 0 242 (dk_at dksX8_not4_2 7 rfl rfl)
theorem dX8_not4_56 : decode cX8_not4 56 = .ok (.istore_n 1, 1) := dk_60 (dk_at dksX8_not4_2 10 rfl rfl)
theorem dX8_not4_57 : decode cX8_not4 57 = .ok (.aload_n 0, 1) := dk_42 (dk_at dksX8_not4_2 11 rfl rfl)
theorem dX8_not4_58 : decode cX8_not4 58 = .ok (.bipush 60, 2) := dk_16 60 (dk_at dksX8_not4_2 12 rfl rfl)
theorem dX8_not4_60 : decode cX8_not4 60 = .ok (.invokevirtual 203, 3) := dk_182 0 203 (dk_at dksX8_not4_2 14 rfl rfl)
theorem dX8_not4_63 : decode cX8_not4 63 = .ok (.ifCond .ne 14, 3) := dk_154 0 14 (dk_at dksX8_not4_2 17 rfl rfl)
theorem dX8_not4_66 : decode cX8_not4 66 = .ok (.aload_n 0, 1) := dk_42 (dk_at dksX8_not4_2 20 rfl rfl)
theorem dX8_not4_67 : decode cX8_not4 67 = .ok (.bipush 61, 2) := dk_16 61 (dk_at dksX8_not4_2 21 rfl rfl)
theorem dX8_not4_69 : decode cX8_not4 69 = .ok (.invokevirtual 203, 3) := dk_182 0 203 (dk_at dksX8_not4_3 0 rfl rfl)
theorem dX8_not4_72 : decode cX8_not4 72 = .ok (.ifCond .ne 5, 3) := dk_154 0 5 (dk_at dksX8_not4_3 3 rfl rfl)
theorem dX8_not4_75 : decode cX8_not4 75 = .ok (.iload_n 1, 1) := dk_27 (dk_at dksX8_not4_3 6 rfl rfl)
theorem dX8_not4_76 : decode cX8_not4 76 = .ok (.ireturn, 1) := dk_172 (dk_at dksX8_not4_3 7 rfl rfl)
theorem dX8_not4_77 : decode cX8_not4 77 = .ok (.aload_n 0, 1) := dk_42 (dk_at dksX8_not4_3 8 rfl rfl)
theorem dX8_not4_78 : decode cX8_not4 78 = .ok (.getfield 158, 3) := dk_180 0 158 (dk_at dksX8_not4_3 9 rfl rfl)
theorem dX8_not4_81 : decode cX8_not4 81 = .ok (.ldc2_w 225, 3) := dk_20 0 225 (dk_at dksX8_not4_3 12 rfl rfl)
theorem dX8_not4_84 : decode cX8_not4 84 = .ok (.lcmp, 1) := dk_148 (dk_at dksX8_not4_3 15 rfl rfl)
theorem dX8_not4_85 : decode cX8_not4 85 = .ok (.ifCond .ne 7, 3) := dk_154 0 7 (dk_at dksX8_not4_3 16 rfl rfl)
theorem dX8_not4_88 : decode cX8_not4 88 = .ok (.iconst 1, 1) := dk_4 (dk_at dksX8_not4_3 19 rfl rfl)
theorem dX8_not4_89 : decode cX8_not4 89 = .ok (.goto 4, 3) := dk_167 0 4 (dk_at dksX8_not4_3 20 rfl rfl)
theorem dX8_not4_92 : decode cX8_not4 92 = .ok (.iconst 0, 1) := dk_3 (dk_at dksX8_not4_3 23 rfl rfl)
theorem dX8_not4_93 : decode cX8_not4 93 = .ok (.istore_n 2, 1) := dk_61 (dk_at dksX8_not4_4 0 rfl rfl)
theorem dX8_not4_94 : decode cX8_not4 94 = .ok (.aload_n 0, 1) := dk_42 (dk_at dksX8_not4_4 1 rfl rfl)
theorem dX8_not4_95 : decode cX8_not4 95 = .ok (.invokevirtual 178, 3) := dk_182 0 178 (dk_at dksX8_not4_4 2 rfl rfl)
theorem dX8_not4_98 : decode cX8_not4 98 = .ok (.aload_n 0, 1) := dk_42 (dk_at dksX8_not4_4 5 rfl rfl)
theorem dX8_not4_99 : decode cX8_not4 99 = .ok (.invokevirtual 242, 3) := dk_182 0 242 (dk_at dksX8_not4_4 6 rfl rfl)
theorem dX8_not4_102 : decode cX8_not4 102 = .ok (.istore_n 3, 1) := dk_62 (dk_at dksX8_not4_4 9 rfl rfl)
theorem dX8_not4_103 : decode cX8_not4 103 = .ok (.iload_n 2, 1) := dk_28 (dk_at dksX8_not4_4 10 rfl rfl)
theorem dX8_not4_104 : decode cX8_not4 104 = .ok (.ifCond .eq 11, 3) := dk_153 0 11 (dk_at dksX8_not4_4 11 rfl rfl)
theorem dX8_not4_107 : decode cX8_not4 107 = .ok (.iload_n 1, 1) := dk_27 (dk_at dksX8_not4_4 14 rfl rfl)
theorem dX8_not4_108 : decode cX8_not4 108 = .ok (.iload_n 3, 1) := dk_29 (dk_at dksX8_not4_4 15 rfl rfl)
theorem dX8_not4_109 : decode cX8_not4 109 = .ok (.if_icmp .ge 15, 3) := dk_162 0 15 (dk_at dksX8_not4_4 16 rfl rfl)
theorem dX8_not4_112 : decode cX8_not4 112 = .ok (.goto 8, 3) := dk_167 0 8 (dk_at dksX8_not4_4 19 rfl rfl)
theorem dX8_not4_115 : decode cX8_not4 115 = .ok (.iload_n 1, 1) := dk_27 (dk_at dksX8_not4_4 22 rfl rfl)
theorem dX8_not4_116 : decode cX8_not4 116 = .ok (.iload_n 3, 1) := dk_29 (dk_at dksX8_not4_4 23 rfl rfl)
theorem dX8_not4_117 : decode cX8_not4 117 = .ok (.if_icmp .ne 7, 3) := dk_160 0 7 (dk_at dksX8_not4_5 0 rfl rfl)
theorem dX8_not4_120 : decode cX8_not4 120 = .ok (.iconst 1, 1) := dk_4 (dk_at dksX8_not4_5 3 rfl rfl)
theorem dX8_not4_121 : decode cX8_not4 121 = .ok (.goto 4, 3) := dk_167 0 4 (dk_at dksX8_not4_5 4 rfl rfl)
theorem dX8_not4_124 : decode cX8_not4 124 = .ok (.iconst 0, 1) := dk_3 (dk_at dksX8_not4_5 7 rfl rfl)
theorem dX8_not4_125 : decode cX8_not4 125 = .ok (.ireturn, 1) := dk_172 (dk_at dksX8_not4_5 8 rfl rfl)
def dkwX8_not5_4 : List UInt8 := [167, 0, 4, 3, 172]
abbrev dktX8_not5_4 : List UInt8 := dkwX8_not5_4 ++ []
def dkwX8_not5_3 : List UInt8 := [182, 0, 222, 62, 28, 153, 0, 11, 27, 29, 162, 0, 15, 167, 0, 8, 27, 29, 160, 0, 7, 4]
abbrev dktX8_not5_3 : List UInt8 := dkwX8_not5_3 ++ dktX8_not5_4
def dkwX8_not5_2 : List UInt8 := [27, 172, 42, 180, 0, 158, 20, 0, 225, 148, 154, 0, 7, 4, 167, 0, 4, 3, 61, 42, 182, 0, 178, 42]
abbrev dktX8_not5_2 : List UInt8 := dkwX8_not5_2 ++ dktX8_not5_3
def dkwX8_not5_1 : List UInt8 := [172, 42, 182, 0, 222, 60, 42, 16, 60, 182, 0, 203, 154, 0, 14, 42, 16, 61, 182, 0, 203, 154, 0, 5]
abbrev dktX8_not5_1 : List UInt8 := dkwX8_not5_1 ++ dktX8_not5_2
def dkwX8_not5_0 : List UInt8 := [42, 16, 110, 16, 111, 16, 116, 3, 3, 3, 3, 3, 182, 0, 181, 153, 0, 10, 42, 182, 0, 206, 87, 3]
abbrev dktX8_not5_0 : List UInt8 := dkwX8_not5_0 ++ dktX8_not5_1
theorem dksX8_not5_0 : cX8_not5.data.toList.drop 0 = dktX8_not5_0 := by decide +kernel
theorem dksX8_not5_1 : cX8_not5.data.toList.drop 24 = dktX8_not5_1 := dk_seg dksX8_not5_0 24 rfl rfl
theorem dksX8_not5_2 : cX8_not5.data.toList.drop 48 = dktX8_not5_2 := dk_seg dksX8_not5_1 24 rfl rfl
theorem dksX8_not5_3 : cX8_not5.data.toList.drop 72 = dktX8_not5_3 := dk_seg dksX8_not5_2 24 rfl rfl
theorem dksX8_not5_4 : cX8_not5.data.toList.drop 94 = dktX8_not5_4 := dk_seg dksX8_not5_3 22 rfl rfl
theorem dX8_not5_0 : decode cX8_not5 0 = .ok (.aload_n 0, 1) := dk_42 (dk_at dksX8_not5_0 0 rfl rfl)
theorem dX8_not5_1 : decode cX8_not5 1 = .ok (.bipush 110, 2) := dk_16 110 (dk_at dksX8_not5_0 1 rfl rfl)
theorem dX8_not5_3 : decode cX8_not5 3 = .ok (.bipush 111, 2) := dk_16 111 (dk_at dksX8_not5_0 3 rfl rfl)
theorem dX8_not5_5 : decode cX8_not5 5 = .ok (.bipush 116, 2) := dk_16 116 (dk_at dksX8_not5_0 5 rfl rfl)
theorem dX8_not5_7 : decode cX8_not5 7 = .ok (.iconst 0, 1) := dk_3 (dk_at dksX8_not5_0 7 rfl rfl)
theorem dX8_not5_8 : decode cX8_not5 8 = .ok (.iconst 0, 1) := dk_3 (dk_at dksX8_not5_0 8 rfl rfl)
theorem dX8_not5_9 : decode cX8_not5 9 = .ok (.iconst 0, 1) := dk_3 (dk_at dksX8_not5_0 9 rfl rfl)
theorem dX8_not5_10 : decode cX8_not5 10 = .ok (.iconst 0, 1) := dk_3 (dk_at dksX8_not5_0 10 rfl rfl)
theorem dX8_not5_11 : decode cX8_not5 11 = .ok (.iconst 0, 1) := dk_3 (dk_at dksX8_not5_0 11 rfl rfl)
theorem dX8_not5_12 : decode cX8_not5 12 = .ok (.invokevirtual 181, 3) := dk_182 0 181 (dk_at dksX8_not5_0 12 rfl rfl)
theorem dX8_not5_15 : decode cX8_not5 15 = .ok (.ifCond .eq 10, 3) := dk_153 0 10 (dk_at dksX8_not5_0 15 rfl rfl)
theorem dX8_not5_18 : decode cX8_not5 18 = .ok (.aload_n 0, 1) := dk_42 (dk_at dksX8_not5_0 18 rfl rfl)
theorem dX8_not5_19 : decode cX8_not5 19 = .ok (.invokevirtual 206, 3) := dk_182 0 206 (dk_at dksX8_not5_0 19 rfl rfl)
theorem dX8_not5_22 : decode cX8_not5 22 = .ok (.pop, 1) := dk_87 (dk_at dksX8_not5_0 22 rfl rfl)
theorem dX8_not5_23 : decode cX8_not5 23 = .ok (.iconst 0, 1) := dk_3 (dk_at dksX8_not5_0 23 rfl rfl)
theorem dX8_not5_24 : decode cX8_not5 24 = .ok (.ireturn, 1) := dk_172 (dk_at dksX8_not5_1 0 rfl rfl)
theorem dX8_not5_25 : decode cX8_not5 25 = .ok (.aload_n 0, 1) := dk_42 (dk_at dksX8_not5_1 1 rfl rfl)
theorem dX8_not5_26 : decode cX8_not5 26 = .ok (.invokevirtual 222, 3) := dk_182 0 222 (dk_at dksX8_not5_1 2 rfl rfl)
theorem dX8_not5_29 : decode cX8_not5 29 = .ok (.istore_n 1, 1) := dk_60 (dk_at dksX8_not5_1 5 rfl rfl)
theorem dX8_not5_30 : decode cX8_not5 30 = .ok (.aload_n 0, 1) := dk_42 (dk_at dksX8_not5_1 6 rfl rfl)
theorem dX8_not5_31 : decode cX8_not5 31 = .ok (.bipush 60, 2) := dk_16 60 (dk_at dksX8_not5_1 7 rfl rfl)
theorem dX8_not5_33 : decode cX8_not5 33 = .ok (.invokevirtual 203, 3) := dk_182 0 203 (dk_at dksX8_not5_1 9 rfl rfl)
theorem dX8_not5_36 : decode cX8_not5 36 = .ok (.ifCond .ne 14, 3) := dk_154 0 14 (dk_at dksX8_not5_1 12 rfl rfl)
theorem dX8_not5_39 : decode cX8_not5 39 = .ok (.aload_n 0, 1) := dk_42 (dk_at dksX8_not5_1 15 rfl rfl)
theorem dX8_not5_40 : decode cX8_not5 40 = .ok (.bipush 61, 2) := dk_16 61 (dk_at dksX8_not5_1 16 rfl rfl)
theorem dX8_not5_42 : decode cX8_not5 42 = .ok (.invokevirtual 203, 3) := dk_182 0 203 (dk_at dksX8_not5_1 18 rfl rfl)
theorem dX8_not5_45 : decode cX8_not5 45 = .ok (.ifCond .ne 5, 3) := dk_154 0 5 (dk_at dksX8_not5_1 21 rfl rfl)
theorem dX8_not5_48 : decode cX8_not5 48 = .ok (.iload_n 1, 1) := dk_27 (dk_at dksX8_not5_2 0 rfl rfl)
theorem dX8_not5_49 : decode cX8_not5 49 = .ok (.ireturn, 1) := dk_172 (dk_at dksX8_not5_2 1 rfl rfl)
theorem dX8_not5_50 : decode cX8_not5 50 = .ok (.aload_n 0, 1) := dk_42 (dk_at dksX8_not5_2 2 rfl rfl)
theorem dX8_not5_51 : decode cX8_not5 51 = .ok (.getfield 158, 3) := dk_180 0 158 (dk_at dksX8_not5_2 3 rfl rfl)
theorem dX8_not5_54 : decode cX8_not5 54 = .ok (.ldc2_w 225, 3) := dk_20 0 225 (dk_at dksX8_not5_2 6 rfl rfl)
theorem dX8_not5_57 : decode cX8_not5 57 = .ok (.lcmp, 1) := dk_148 (dk_at dksX8_not5_2 9 rfl rfl)
theorem dX8_not5_58 : decode cX8_not5 58 = .ok (.ifCond .ne 7, 3) := dk_154 0 7 (dk_at dksX8_not5_2 10 rfl rfl)
theorem dX8_not5_61 : decode cX8_not5 61 = .ok (.iconst 1, 1) := dk_4 (dk_at dksX8_not5_2 13 rfl rfl)
theorem dX8_not5_62 : decode cX8_not5 62 = .ok (.goto 4, 3) := dk_167 0 4 (dk_at dksX8_not5_2 14 rfl rfl)
theorem dX8_not5_65 : decode cX8_not5 65 = .ok (.iconst 0, 1) := dk_3 (dk_at dksX8_not5_2 17 rfl rfl)
theorem dX8_not5_66 : decode cX8_not5 66 = .ok (.istore_n 2, 1) := dk_61 (dk_at dksX8_not5_2 18 rfl rfl)
theorem dX8_not5_67 : decode cX8_not5 67 = .ok (.aload_n 0, 1) := dk_42 (dk_at dksX8_not5_2 19 rfl rfl)
theorem dX8_not5_68 : decode cX8_not5 68 = .ok (.invokevirtual 178, 3) := dk_182 0 178 (dk_at dksX8_not5_2 20 rfl rfl)
theorem dX8_not5_71 : decode cX8_not5 71 = .ok (.aload_n 0, 1) := dk_42 (dk_at dksX8_not5_2 23 rfl rfl)
theorem dX8_not5_72 : decode cX8_not5 72 = .ok (.invokevirtual 222, 3) := dk_182 0 222 (dk_at dksX8_not5_3 0 rfl rfl)
theorem dX8_not5_75 : decode cX8_not5 75 = .ok (.istore_n 3, 1) := dk_62 (dk_at dksX8_not5_3 3 rfl rfl)
theorem dX8_not5_76 : decode cX8_not5 76 = .ok (.iload_n 2, 1) := dk_28 (dk_at dksX8_not5_3 4 rfl rfl)
theorem dX8_not5_77 : decode cX8_not5 77 = .ok (.ifCond .eq 11, 3) := dk_153 0 11 (dk_at dksX8_not5_3 5 rfl rfl)
theorem dX8_not5_80 : decode cX8_not5 80 = .ok (.iload_n 1, 1) := dk_27 (dk_at dksX8_not5_3 8 rfl rfl)
theorem dX8_not5_81 : decode cX8_not5 81 = .ok (.iload_n 3, 1) := dk_29 (dk_at dksX8_not5_3 9 rfl rfl)
theorem dX8_not5_82 : decode cX8_not5 82 = .ok (.if_icmp .ge 15, 3) := dk_162 0 15 (dk_at dksX8_not5_3 10 rfl rfl)
theorem dX8_not5_85 : decode cX8_not5 85 = .ok (.goto 8, 3) := dk_167 0 8 (dk_at dksX8_not5_3 13 rfl rfl)
theorem dX8_not5_88 : decode cX8_not5 88 = .ok (.iload_n 1, 1) := dk_27 (dk_at dksX8_not5_3 16 rfl rfl)
theorem dX8_not5_89 : decode cX8_not5 89 = .ok (.iload_n 3, 1) := dk_29 (dk_at dksX8_not5_3 17 rfl rfl)
theorem dX8_not5_90 : decode cX8_not5 90 = .ok (.if_icmp .ne 7, 3) := dk_160 0 7 (dk_at dksX8_not5_3 18 rfl rfl)
theorem dX8_not5_93 : decode cX8_not5 93 = .ok (.iconst 1, 1) := dk_4 (dk_at dksX8_not5_3 21 rfl rfl)
theorem dX8_not5_94 : decode cX8_not5 94 = .ok (.goto 4, 3) := dk_167 0 4 (dk_at dksX8_not5_4 0 rfl rfl)
theorem dX8_not5_97 : decode cX8_not5 97 = .ok (.iconst 0, 1) := dk_3 (dk_at dksX8_not5_4 3 rfl rfl)
theorem dX8_not5_98 : decode cX8_not5 98 = .ok (.ireturn, 1) := dk_172 (dk_at dksX8_not5_4 4 rfl rfl)
def dkwX8_added5_2 : List UInt8 := [62, 28, 153, 0, 9, 27, 29, 96, 167, 0, 6, 27, 29, 100, 60, 167, 255, 198, 27, 172]
abbrev dktX8_added5_2 : List UInt8 := dkwX8_added5_2 ++ []
def dkwX8_added5_1 : List UInt8 := [180, 0, 158, 20, 0, 220, 148, 154, 0, 7, 4, 167, 0, 4, 3, 61, 42, 182, 0, 178, 42, 182, 0, 217]
abbrev dktX8_added5_1 : List UInt8 := dkwX8_added5_1 ++ dktX8_added5_2
def dkwX8_added5_0 : List UInt8 := [42, 182, 0, 217, 60, 42, 16, 43, 182, 0, 203, 154, 0, 12, 42, 16, 45, 182, 0, 203, 153, 0, 46, 42]
abbrev dktX8_added5_0 : List UInt8 := dkwX8_added5_0 ++ dktX8_added5_1
theorem dksX8_added5_0 : cX8_added5.data.toList.drop 0 = dktX8_added5_0 := by decide +kernel
theorem dksX8_added5_1 : cX8_added5.data.toList.drop 24 = dktX8_added5_1 := dk_seg dksX8_added5_0 24 rfl rfl
theorem dksX8_added5_2 : cX8_added5.data.toList.drop 48 = dktX8_added5_2 := dk_seg dksX8_added5_1 24 rfl rfl
theorem dX8_added5_0 : decode cX8_added5 0 = .ok (.aload_n 0, 1) := dk_42 (dk_at dksX8_added5_0 0 rfl rfl)
theorem dX8_added5_1 : decode cX8_added5 1 = .ok (.invokevirtual 217, 3) := dk_182 0 217 (dk_at dksX8_added5_0 1 rfl rfl)
theorem dX8_added5_4 : decode cX8_added5 4 = .ok (.istore_n 1, 1) := dk_60 (dk_at dksX8_added5_0 4 rfl rfl)
theorem dX8_added5_5 : decode cX8_added5 5 = .ok (.aload_n 0, 1) := dk_42 (dk_at dksX8_added5_0 5 rfl rfl)
theorem dX8_added5_6 : decode cX8_added5 6 = .ok (.bipush 43, 2) := dk_16 43 (dk_at dksX8_added5_0 6 rfl rfl)
theorem dX8_added5_8 : decode cX8_added5 8 = .ok (.invokevirtual 203, 3) := dk_182 0 203 (dk_at dksX8_added5_0 8 rfl rfl)
theorem dX8_added5_11 : decode cX8_added5 11 = .ok (.ifCond .ne 12, 3) := dk_154 0 12 (dk_at dksX8_added5_0 11 rfl rfl)
theorem dX8_added5_14 : decode cX8_added5 14 = .ok (.aload_n 0, 1) := dk_42 (dk_at dksX8_added5_0 14 rfl rfl)
theorem dX8_added5_15 : decode cX8_added5 15 = .ok (.bipush 45, 2) := dk_16 45 (dk_at dksX8_added5_0 15 rfl rfl)
theorem dX8_added5_17 : decode cX8_added5 17 = .ok (.invokevirtual 203, 3) := dk_182 0 203 (dk_at dksX8_added5_0 17 rfl rfl)
theorem dX8_added5_20 : decode cX8_added5 20 = .ok (.ifCond .eq 46, 3) := dk_153 0 46 (dk_at dksX8_added5_0 20 rfl rfl)
theorem dX8_added5_23 : decode cX8_added5 23 = .ok (.aload_n 0, 1) := dk_42 (dk_at dksX8_added5_0 23 rfl rfl)
theorem dX8_added5_24 : decode cX8_added5 24 = .ok (.getfield 158, 3) := dk_180 0 158 (dk_at dksX8_added5_1 0 rfl rfl)
theorem dX8_added5_27 : decode cX8_added5 27 = .ok (.ldc2_w 220, 3) := dk_20 0 220 (dk_at dksX8_added5_1 3 rfl rfl)
theorem dX8_added5_30 : decode cX8_added5 30 = .ok (.lcmp, 1) := dk_148 (dk_at dksX8_added5_1 6 rfl rfl)
theorem dX8_added5_31 : decode cX8_added5 31 = .ok (.ifCond .ne 7, 3) := dk_154 0 7 (dk_at dksX8_added5_1 7 rfl rfl)
theorem dX8_added5_34 : decode cX8_added5 34 = .ok (.iconst 1, 1) := dk_4 (dk_at dksX8_added5_1 10 rfl rfl)
theorem dX8_added5_35 : decode cX8_added5 35 = .ok (.goto 4, 3) := dk_167 0 4 (dk_at dksX8_added5_1 11 rfl rfl)
theorem dX8_added5_38 : decode cX8_added5 38 = .ok (.iconst 0, 1) := dk_3 (dk_at dksX8_added5_1 14 rfl rfl)
theorem dX8_added5_39 : decode cX8_added5 39 = .ok (.istore_n 2, 1) := dk_61 (dk_at dksX8_added5_1 15 rfl rfl)
theorem dX8_added5_40 : decode cX8_added5 40 = .ok (.aload_n 0, 1) := dk_42 (dk_at dksX8_added5_1 16 rfl rfl)
theorem dX8_added5_41 : decode cX8_added5 41 = .ok (.invokevirtual 178, 3) := dk_182 0 178 (dk_at dksX8_added5_1 17 rfl rfl)
theorem dX8_added5_44 : decode cX8_added5 44 = .ok (.aload_n 0, 1) := dk_42 (dk_at dksX8_added5_1 20 rfl rfl)
theorem dX8_added5_45 : decode cX8_added5 45 = .ok (.invokevirtual 217, 3) := dk_182 0 217 (dk_at dksX8_added5_1 21 rfl rfl)
theorem dX8_added5_48 : decode cX8_added5 48 = .ok (.istore_n 3, 1) := dk_62 (dk_at dksX8_added5_2 0 rfl rfl)
theorem dX8_added5_49 : decode cX8_added5 49 = .ok (.iload_n 2, 1) := dk_28 (dk_at dksX8_added5_2 1 rfl rfl)
theorem dX8_added5_50 : decode cX8_added5 50 = .ok (.ifCond .eq 9, 3) := dk_153 0 9 (dk_at dksX8_added5_2 2 rfl rfl)
theorem dX8_added5_53 : decode cX8_added5 53 = .ok (.iload_n 1, 1) := dk_27 (dk_at dksX8_added5_2 5 rfl rfl)
theorem dX8_added5_54 : decode cX8_added5 54 = .ok (.iload_n 3, 1) := dk_29 (dk_at dksX8_added5_2 6 rfl rfl)
theorem dX8_added5_55 : decode cX8_added5 55 = .ok (.iadd, 1) := dk_96 (dk_at dksX8_added5_2 7 rfl rfl)
theorem dX8_added5_56 : decode cX8_added5 56 = .ok (.goto 6, 3) := dk_167 0 6 (dk_at dksX8_added5_2 8 rfl rfl)
theorem dX8_added5_59 : decode cX8_added5 59 = .ok (.iload_n 1, 1) := dk_27 (dk_at dksX8_added5_2 11 rfl rfl)
theorem dX8_added5_60 : decode cX8_added5 60 = .ok (.iload_n 3, 1) := dk_29 (dk_at dksX8_added5_2 12 rfl rfl)
theorem dX8_added5_61 : decode cX8_added5 61 = .ok (.isub, 1) := dk_100 (dk_at dksX8_added5_2 13 rfl rfl)
theorem dX8_added5_62 : decode cX8_added5 62 = .ok (.istore_n 1, 1) := dk_60 (dk_at dksX8_added5_2 14 rfl rfl)
theorem dX8_added5_63 : decode cX8_added5 63 = .ok (.goto (-58), 3) := dk_167 255 198 (dk_at dksX8_added5_2 15 rfl rfl)
theorem dX8_added5_66 : decode cX8_added5 66 = .ok (.iload_n 1, 1) := dk_27 (dk_at dksX8_added5_2 18 rfl rfl)
theorem dX8_added5_67 : decode cX8_added5 67 = .ok (.ireturn, 1) := dk_172 (dk_at dksX8_added5_2 19 rfl rfl)
def dkwX8_term5_1 : List UInt8 := [60, 167, 255, 236, 27, 172]
abbrev dktX8_term5_1 : List UInt8 := dkwX8_term5_1 ++ []
def dkwX8_term5_0 : List UInt8 := [42, 182, 0, 214, 60, 42, 16, 42, 182, 0, 203, 153, 0, 17, 42, 182, 0, 178, 27, 42, 182, 0, 214, 104]
abbrev dktX8_term5_0 : List UInt8 := dkwX8_term5_0 ++ dktX8_term5_1
theorem dksX8_term5_0 : cX8_term5.data.toList.drop 0 = dktX8_term5_0 := by decide +kernel
theorem dksX8_term5_1 : cX8_term5.data.toList.drop 24 = dktX8_term5_1 := dk_seg dksX8_term5_0 24 rfl rfl
theorem dX8_term5_0 : decode cX8_term5 0 = .ok (.aload_n 0, 1) := dk_42 (dk_at dksX8_term5_0 0 rfl rfl)
theorem dX8_term5_1 : decode cX8_term5 1 = .ok (.invokevirtual 214, 3) := dk_182 0 214 (dk_at dksX8_term5_0 1 rfl rfl)
theorem dX8_term5_4 : decode cX8_term5 4 = .ok (.istore_n 1, 1) := dk_60 (dk_at dksX8_term5_0 4 rfl rfl)
theorem dX8_term5_5 : decode cX8_term5 5 = .ok (.aload_n 0, 1) := dk_42 (dk_at dksX8_term5_0 5 rfl rfl)
theorem dX8_term5_6 : decode cX8_term5 6 = .ok (.bipush 42, 2) := dk_16 42 (dk_at dksX8_term5_0 6 rfl rfl)
theorem dX8_term5_8 : decode cX8_term5 8 = .ok (.invokevirtual 203, 3) := dk_182 0 203 (dk_at dksX8_term5_0 8 rfl rfl)
theorem dX8_term5_11 : decode cX8_term5 11 = .ok (.ifCond .eq 17, 3) := dk_153 0 17 (dk_at dksX8_term5_0 11 rfl rfl)
theorem dX8_term5_14 : decode cX8_term5 14 = .ok (.aload_n 0, 1) := dk_42 (dk_at dksX8_term5_0 14 rfl rfl)
theorem dX8_term5_15 : decode cX8_term5 15 = .ok (.invokevirtual 178, 3) := dk_182 0 178 (dk_at dksX8_term5_0 15 rfl rfl)
theorem dX8_term5_18 : decode cX8_term5 18 = .ok (.iload_n 1, 1) := dk_27 (dk_at dksX8_term5_0 18 rfl rfl)
theorem dX8_term5_19 : decode cX8_term5 19 = .ok (.aload_n 0, 1) := dk_42 (dk_at dksX8_term5_0 19 rfl rfl)
theorem dX8_term5_20 : decode cX8_term5 20 = .ok (.invokevirtual 214, 3) := dk_182 0 214 (dk_at dksX8_term5_0 20 rfl rfl)
theorem dX8_term5_23 : decode cX8_term5 23 = .ok (.imul, 1) := dk_104 (dk_at dksX8_term5_0 23 rfl rfl)
theorem dX8_term5_24 : decode cX8_term5 24 = .ok (.istore_n 1, 1) := dk_60 (dk_at dksX8_term5_1 0 rfl rfl)
theorem dX8_term5_25 : decode cX8_term5 25 = .ok (.goto (-20), 3) := dk_167 255 236 (dk_at dksX8_term5_1 1 rfl rfl)
theorem dX8_term5_28 : decode cX8_term5 28 = .ok (.iload_n 1, 1) := dk_27 (dk_at dksX8_term5_1 4 rfl rfl)
theorem dX8_term5_29 : decode cX8_term5 29 = .ok (.ireturn, 1) := dk_172 (dk_at dksX8_term5_1 5 rfl rfl)
def dkwX8_atom5_4 : List UInt8 := [182, 0, 178, 167, 0, 7, 42, 182, 0, 175, 27, 172]
abbrev dktX8_atom5_4 : List UInt8 := dkwX8_atom5_4 ++ []
def dkwX8_atom5_3 : List UInt8 := [154, 0, 30, 42, 180, 0, 147, 4, 160, 0, 22, 42, 182, 0, 210, 60, 42, 180, 0, 162, 154, 0, 14, 42]
abbrev dktX8_atom5_3 : List UInt8 := dkwX8_atom5_3 ++ dktX8_atom5_4
def dkwX8_atom5_2 : List UInt8 := [180, 0, 147, 5, 160, 0, 16, 42, 180, 0, 158, 136, 60, 42, 182, 0, 178, 167, 0, 41, 42, 180, 0, 162]
abbrev dktX8_atom5_2 : List UInt8 := dkwX8_atom5_2 ++ dktX8_atom5_3
def dkwX8_atom5_1 : List UInt8 := [182, 0, 203, 153, 0, 11, 42, 182, 0, 206, 87, 167, 0, 69, 42, 180, 0, 162, 154, 0, 24, 42]
abbrev dktX8_atom5_1 : List UInt8 := dkwX8_atom5_1 ++ dktX8_atom5_2
def dkwX8_atom5_0 : List UInt8 := [3, 60, 42, 16, 45, 182, 0, 203, 153, 0, 11, 42, 182, 0, 206, 87, 167, 0, 86, 42, 16, 40]
abbrev dktX8_atom5_0 : List UInt8 := dkwX8_atom5_0 ++ dktX8_atom5_1
theorem dksX8_atom5_0 : cX8_atom5.data.toList.drop 0 = dktX8_atom5_0 := by decide +kernel
theorem dksX8_atom5_1 : cX8_atom5.data.toList.drop 22 = dktX8_atom5_1 := dk_seg dksX8_atom5_0 22 rfl rfl
theorem dksX8_atom5_2 : cX8_atom5.data.toList.drop 44 = dktX8_atom5_2 := dk_seg dksX8_atom5_1 22 rfl rfl
theorem dksX8_atom5_3 : cX8_atom5.data.toList.drop 68 = dktX8_atom5_3 := dk_seg dksX8_atom5_2 24 rfl rfl
theorem dksX8_atom5_4 : cX8_atom5.data.toList.drop 92 = dktX8_atom5_4 := dk_seg dksX8_atom5_3 24 rfl rfl
theorem dX8_atom5_0 : decode cX8_atom5 0 = .ok (.iconst 0, 1) := dk_3 (dk_at dksX8_atom5_0 0 rfl rfl)
theorem dX8_atom5_1 : decode cX8_atom5 1 = .ok (.istore_n 1, 1) := dk_60 (dk_at dksX8_atom5_0 1 rfl rfl)
theorem dX8_atom5_2 : decode cX8_atom5 2 = .ok (.aload_n 0, 1) := dk_42 (dk_at dksX8_atom5_0 2 rfl rfl)
theorem dX8_atom5_3 : decode cX8_atom5 3 = .ok (.bipush 45, 2) := dk_16 45 (dk_at dksX8_atom5_0 3 rfl rfl)
theorem dX8_atom5_5 : decode cX8_atom5 5 = .ok (.invokevirtual 203, 3) := dk_182 0 203 (dk_at dksX8_atom5_0 5 rfl rfl)
theorem dX8_atom5_8 : decode cX8_atom5 8 = .ok (.ifCond .eq 11, 3) := dk_153 0 11 (dk_at dksX8_atom5_0 8 rfl rfl)
theorem dX8_atom5_11 : decode cX8_atom5 11 = .ok (.aload_n 0, 1) := dk_42 (dk_at dksX8_atom5_0 11 rfl rfl)
theorem dX8_atom5_12 : decode cX8_atom5 12 = .ok (.invokevirtual 206, 3) := dk_182 0 206 (dk_at dksX8_atom5_0 12 rfl rfl)
theorem dX8_atom5_15 : decode cX8_atom5 15 = .ok (.pop, 1) := dk_87 (dk_at dksX8_atom5_0 15 rfl rfl)
theorem dX8_atom5_16 : decode cX8_atom5 16 = .ok (.goto 86, 3) := dk_167 0 86 (dk_at dksX8_atom5_0 16 rfl rfl)
theorem dX8_atom5_19 : decode cX8_atom5 19 = .ok (.aload_n 0, 1) := dk_42 (dk_at dksX8_atom5_0 19 rfl rfl)
theorem dX8_atom5_20 : decode cX8_atom5 20 = .ok (.bipush 40, 2) := dk_16 40 (dk_at dksX8_atom5_0 20 rfl rfl)
theorem dX8_atom5_22 : decode cX8_atom5 22 = .ok (.invokevirtual 203, 3) := dk_182 0 203 (dk_at dksX8_atom5_1 0 rfl rfl)
theorem dX8_atom5_25 : decode cX8_atom5 25 = .ok (.ifCond .eq 11, 3) := dk_153 0 11 (dk_at dksX8_atom5_1 3 rfl rfl)
theorem dX8_atom5_28 : decode cX8_atom5 28 = .ok (.aload_n 0, 1) := dk_42 (dk_at dksX8_atom5_1 6 rfl rfl)
theorem dX8_atom5_29 : decode cX8_atom5 29 = .ok (.invokevirtual 206, 3) := dk_182 0 206 (dk_at dksX8_atom5_1 7 rfl rfl)
theorem dX8_atom5_32 : decode cX8_atom5 32 = .ok (.pop, 1) := dk_87 (dk_at dksX8_atom5_1 10 rfl rfl)
theorem dX8_atom5_33 : decode cX8_atom5 33 = .ok (.goto 69, 3) := dk_167 0 69 (dk_at dksX8_atom5_1 11 rfl rfl)
theorem dX8_atom5_36 : decode cX8_atom5 36 = .ok (.aload_n 0, 1) := dk_42 (dk_at dksX8_atom5_1 14 rfl rfl)
theorem dX8_atom5_37 : decode cX8_atom5 37 = .ok (.getfield 162, 3) := dk_180 0 162 (dk_at dksX8_atom5_1 15 rfl rfl)
theorem dX8_atom5_40 : decode cX8_atom5 40 = .ok (.ifCond .ne 24, 3) := dk_154 0 24 (dk_at dksX8_atom5_1 18 rfl rfl)
theorem dX8_atom5_43 : decode cX8_atom5 43 = .ok (.aload_n 0, 1) := dk_42 (dk_at dksX8_atom5_1 21 rfl rfl)
theorem dX8_atom5_44 : decode cX8_atom5 44 = .ok (.getfield 147, 3) := dk_180 0 147 (dk_at dksX8_atom5_2 0 rfl rfl)
theorem dX8_atom5_47 : decode cX8_atom5 47 = .ok (.iconst 2, 1) := dk_5 (dk_at dksX8_atom5_2 3 rfl rfl)
theorem dX8_atom5_48 : decode cX8_atom5 48 = .ok (.if_icmp .ne 16, 3) := dk_160 0 16 (dk_at dksX8_atom5_2 4 rfl rfl)
theorem dX8_atom5_51 : decode cX8_atom5 51 = .ok (.aload_n 0, 1) := dk_42 (dk_at dksX8_atom5_2 7 rfl rfl)
theorem dX8_atom5_52 : decode cX8_atom5 52 = .ok (.getfield 158, 3) := dk_180 0 158 (dk_at dksX8_atom5_2 8 rfl rfl)
theorem dX8_atom5_55 : decode cX8_atom5 55 = .ok (.l2i, 1) := dk_136 (dk_at dksX8_atom5_2 11 rfl rfl)
theorem dX8_atom5_56 : decode cX8_atom5 56 = .ok (.istore_n 1, 1) := dk_60 (dk_at dksX8_atom5_2 12 rfl rfl)
theorem dX8_atom5_57 : decode cX8_atom5 57 = .ok (.aload_n 0, 1) := dk_42 (dk_at dksX8_atom5_2 13 rfl rfl)
theorem dX8_atom5_58 : decode cX8_atom5 58 = .ok (.invokevirtual 178, 3) := dk_182 0 178 (dk_at dksX8_atom5_2 14 rfl rfl)
theorem dX8_atom5_61 : decode cX8_atom5 61 = .ok (.goto 41, 3) := dk_167 0 41 (dk_at dksX8_atom5_2 17 rfl rfl)
theorem dX8_atom5_64 : decode cX8_atom5 64 = .ok (.aload_n 0, 1) := dk_42 (dk_at dksX8_atom5_2 20 rfl rfl)
theorem dX8_atom5_65 : decode cX8_atom5 65 = .ok (.getfield 162, 3) := dk_180 0 162 (dk_at dksX8_atom5_2 21 rfl rfl)
theorem dX8_atom5_68 : decode cX8_atom5 68 = .ok (.ifCond .ne 30, 3) := dk_154 0 30 (dk_at dksX8_atom5_3 0 rfl rfl)
theorem dX8_atom5_71 : decode cX8_atom5 71 = .ok (.aload_n 0, 1) := dk_42 (dk_at dksX8_atom5_3 3 rfl rfl)
theorem dX8_atom5_72 : decode cX8_atom5 72 = .ok (.getfield 147, 3) := dk_180 0 147 (dk_at dksX8_atom5_3 4 rfl rfl)
theorem dX8_atom5_75 : decode cX8_atom5 75 = .ok (.iconst 1, 1) := dk_4 (dk_at dksX8_atom5_3 7 rfl rfl)
theorem dX8_atom5_76 : decode cX8_atom5 76 = .ok (.if_icmp .ne 22, 3) := dk_160 0 22 (dk_at dksX8_atom5_3 8 rfl rfl)
theorem dX8_atom5_79 : decode cX8_atom5 79 = .ok (.aload_n 0, 1) := dk_42 (dk_at dksX8_atom5_3 11 rfl rfl)
theorem dX8_atom5_80 : decode cX8_atom5 80 = .ok (.invokevirtual 210, 3) := dk_182 0 210 (dk_at dksX8_atom5_3 12 rfl rfl)
theorem dX8_atom5_83 : decode cX8_atom5 83 = .ok (.istore_n 1, 1) := dk_60 (dk_at dksX8_atom5_3 15 rfl rfl)
theorem dX8_atom5_84 : decode cX8_atom5 84 = .ok (.aload_n 0, 1) := dk_42 (dk_at dksX8_atom5_3 16 rfl rfl)
theorem dX8_atom5_85 : decode cX8_atom5 85 = .ok (.getfield 162, 3) := dk_180 0 162 (dk_at dksX8_atom5_3 17 rfl rfl)
theorem dX8_atom5_88 : decode cX8_atom5 88 = .ok (.ifCond .ne 14, 3) := dk_154 0 14 (dk_at dksX8_atom5_3 20 rfl rfl)
theorem dX8_atom5_91 : decode cX8_atom5 91 = .ok (.aload_n 0, 1) := dk_42 (dk_at dksX8_atom5_3 23 rfl rfl)
theorem dX8_atom5_92 : decode cX8_atom5 92 = .ok (.invokevirtual 178, 3) := dk_182 0 178 (dk_at dksX8_atom5_4 0 rfl rfl)
theorem dX8_atom5_95 : decode cX8_atom5 95 = .ok (.goto 7, 3) := dk_167 0 7 (dk_at dksX8_atom5_4 3 rfl rfl)
theorem dX8_atom5_98 : decode cX8_atom5 98 = .ok (.aload_n 0, 1) := dk_42 (dk_at dksX8_atom5_4 6 rfl rfl)
theorem dX8_atom5_99 : decode cX8_atom5 99 = .ok (.invokevirtual 175, 3) := dk_182 0 175 (dk_at dksX8_atom5_4 7 rfl rfl)
theorem dX8_atom5_102 : decode cX8_atom5 102 = .ok (.iload_n 1, 1) := dk_27 (dk_at dksX8_atom5_4 10 rfl rfl)
theorem dX8_atom5_103 : decode cX8_atom5 103 = .ok (.ireturn, 1) := dk_172 (dk_at dksX8_atom5_4 11 rfl rfl)
def dkwX8_isSign_1 : List UInt8 := [154, 0, 7, 4, 167, 0, 4, 3, 172]
abbrev dktX8_isSign_1 : List UInt8 := dkwX8_isSign_1 ++ []
def dkwX8_isSign_0 : List UInt8 := [42, 180, 0, 162, 154, 0, 25, 42, 180, 0, 147, 6, 160, 0, 17, 42, 180, 0, 158, 27, 133, 148]
abbrev dktX8_isSign_0 : List UInt8 := dkwX8_isSign_0 ++ dktX8_isSign_1
theorem dksX8_isSign_0 : cX8_isSign.data.toList.drop 0 = dktX8_isSign_0 := by decide +kernel
theorem dksX8_isSign_1 : cX8_isSign.data.toList.drop 22 = dktX8_isSign_1 := dk_seg dksX8_isSign_0 22 rfl rfl
theorem dX8_isSign_0 : decode cX8_isSign 0 = .ok (.aload_n 0, 1) := dk_42 (dk_at dksX8_isSign_0 0 rfl rfl)
theorem dX8_isSign_1 : decode cX8_isSign 1 = .ok (.getfield 162, 3) := dk_180 0 162 (dk_at dksX8_isSign_0 1 rfl rfl)
theorem dX8_isSign_4 : decode cX8_isSign 4 = .ok (.ifCond .ne 25, 3) := dk_154 0 25 (dk_at dksX8_isSign_0 4 rfl rfl)
theorem dX8_isSign_7 : decode cX8_isSign 7 = .ok (.aload_n 0, 1) := dk_42 (dk_at dksX8_isSign_0 7 rfl rfl)
theorem dX8_isSign_8 : decode cX8_isSign 8 = .ok (.getfield 147, 3) := dk_180 0 147 (dk_at dksX8_isSign_0 8 rfl rfl)
theorem dX8_isSign_11 : decode cX8_isSign 11 = .ok (.iconst 3, 1) := dk_6 (dk_at dksX8_isSign_0 11 rfl rfl)
theorem dX8_isSign_12 : decode cX8_isSign 12 = .ok (.if_icmp .ne 17, 3) := dk_160 0 17 (dk_at dksX8_isSign_0 12 rfl rfl)
theorem dX8_isSign_15 : decode cX8_isSign 15 = .ok (.aload_n 0, 1) := dk_42 (dk_at dksX8_isSign_0 15 rfl rfl)
theorem dX8_isSign_16 : decode cX8_isSign 16 = .ok (.getfield 158, 3) := dk_180 0 158 (dk_at dksX8_isSign_0 16 rfl rfl)
theorem dX8_isSign_19 : decode cX8_isSign 19 = .ok (.iload_n 1, 1) := dk_27 (dk_at dksX8_isSign_0 19 rfl rfl)
theorem dX8_isSign_20 : decode cX8_isSign 20 = .ok (.i2l, 1) := dk_133 (dk_at dksX8_isSign_0 20 rfl rfl)
theorem dX8_isSign_21 : decode cX8_isSign 21 = .ok (.lcmp, 1) := dk_148 (dk_at dksX8_isSign_0 21 rfl rfl)
theorem dX8_isSign_22 : decode cX8_isSign 22 = .ok (.ifCond .ne 7, 3) := dk_154 0 7 (dk_at dksX8_isSign_1 0 rfl rfl)
theorem dX8_isSign_25 : decode cX8_isSign 25 = .ok (.iconst 1, 1) := dk_4 (dk_at dksX8_isSign_1 3 rfl rfl)
theorem dX8_isSign_26 : decode cX8_isSign 26 = .ok (.goto 4, 3) := dk_167 0 4 (dk_at dksX8_isSign_1 4 rfl rfl)
theorem dX8_isSign_29 : decode cX8_isSign 29 = .ok (.iconst 0, 1) := dk_3 (dk_at dksX8_isSign_1 7 rfl rfl)
theorem dX8_isSign_30 : decode cX8_isSign 30 = .ok (.ireturn, 1) := dk_172 (dk_at dksX8_isSign_1 8 rfl rfl)
def dkwX8_name_6 : List UInt8 := [182, 0, 181, 153, 0, 8, 42, 180, 0, 200, 172, 42, 182, 0, 175, 3, 172]
abbrev dktX8_name_6 : List UInt8 := dkwX8_name_6 ++ []
def dkwX8_name_5 : List UInt8 := [153, 0, 8, 42, 180, 0, 197, 172, 42, 16, 103, 16, 117, 16, 97, 16, 114, 16, 100, 16, 115, 3, 3]
abbrev dktX8_name_5 : List UInt8 := dkwX8_name_5 ++ dktX8_name_6
def dkwX8_name_4 : List UInt8 := [42, 180, 0, 194, 172, 42, 16, 103, 16, 97, 16, 114, 16, 100, 16, 101, 16, 110, 3, 3, 182, 0, 181]
abbrev dktX8_name_4 : List UInt8 := dkwX8_name_4 ++ dktX8_name_5
def dkwX8_name_3 : List UInt8 := [180, 0, 191, 172, 42, 16, 98, 16, 117, 16, 108, 16, 98, 16, 115, 3, 3, 3, 182, 0, 181, 153, 0, 8]
abbrev dktX8_name_3 : List UInt8 := dkwX8_name_3 ++ dktX8_name_4
def dkwX8_name_2 : List UInt8 := [42, 16, 110, 16, 117, 16, 109, 16, 98, 16, 101, 16, 114, 3, 3, 182, 0, 181, 153, 0, 8, 42]
abbrev dktX8_name_2 : List UInt8 := dkwX8_name_2 ++ dktX8_name_3
def dkwX8_name_1 : List UInt8 := [42, 16, 121, 16, 101, 16, 97, 16, 114, 3, 3, 3, 3, 182, 0, 181, 153, 0, 8, 42, 180, 0, 188, 172]
abbrev dktX8_name_1 : List UInt8 := dkwX8_name_1 ++ dktX8_name_2
def dkwX8_name_0 : List UInt8 := [42, 16, 115, 16, 111, 16, 105, 16, 108, 3, 3, 3, 3, 182, 0, 181, 153, 0, 8, 42, 180, 0, 185, 172]
abbrev dktX8_name_0 : List UInt8 := dkwX8_name_0 ++ dktX8_name_1
theorem dksX8_name_0 : cX8_name.data.toList.drop 0 = dktX8_name_0 := by decide +kernel
theorem dksX8_name_1 : cX8_name.data.toList.drop 24 = dktX8_name_1 := dk_seg dksX8_name_0 24 rfl rfl
theorem dksX8_name_2 : cX8_name.data.toList.drop 48 = dktX8_name_2 := dk_seg dksX8_name_1 24 rfl rfl
theorem dksX8_name_3 : cX8_name.data.toList.drop 70 = dktX8_name_3 := dk_seg dksX8_name_2 22 rfl rfl
theorem dksX8_name_4 : cX8_name.data.toList.drop 94 = dktX8_name_4 := dk_seg dksX8_name_3 24 rfl rfl
theorem dksX8_name_5 : cX8_name.data.toList.drop 117 = dktX8_name_5 := dk_seg dksX8_name_4 23 rfl rfl
theorem dksX8_name_6 : cX8_name.data.toList.drop 140 = dktX8_name_6 := dk_seg dksX8_name_5 23 rfl rfl
theorem dX8_name_0 : decode cX8_name 0 = .ok (.aload_n 0, 1) := dk_42 (dk_at dksX8_name_0 0 rfl rfl)
theorem dX8_name_1 : decode cX8_name 1 = .ok (.bipush 115, 2) := dk_16 115 (dk_at dksX8_name_0 1 rfl rfl)
theorem dX8_name_3 : decode cX8_name 3 = .ok (.bipush 111, 2) := dk_16 111 (dk_at dksX8_name_0 3 rfl rfl)
theorem dX8_name_5 : decode cX8_name 5 = .ok (.bipush 105, 2) := dk_16 105 (dk_at dksX8_name_0 5 rfl rfl)
theorem dX8_name_7 : decode cX8_name 7 = .ok (.bipush 108, 2) := dk_16 108 (dk_at dksX8_name_0 7 rfl rfl)
theorem dX8_name_9 : decode cX8_name 9 = .ok (.iconst 0, 1) := dk_3 (dk_at dksX8_name_0 9 rfl rfl)
theorem dX8_name_10 : decode cX8_name 10 = .ok (.iconst 0, 1) := dk_3 (dk_at dksX8_name_0 10 rfl rfl)
theorem dX8_name_11 : decode cX8_name 11 = .ok (.iconst 0, 1) := dk_3 (dk_at dksX8_name_0 11 rfl rfl)
theorem dX8_name_12 : decode cX8_name 12 = .ok (.iconst 0, 1) := dk_3 (dk_at dksX8_name_0 12 rfl rfl)
theorem dX8_name_13 : decode cX8_name 13 = .ok (.invokevirtual 181, 3) := dk_182 0 181 (dk_at dksX8_name_0 13 rfl rfl)
theorem dX8_name_16 : decode cX8_name 16 = .ok (.ifCond .eq 8, 3) := dk_153 0 8 (dk_at dksX8_name_0 16 rfl rfl)
theorem dX8_name_19 : decode cX8_name 19 = .ok (.aload_n 0, 1) := dk_42 (dk_at dksX8_name_0 19 rfl rfl)
theorem dX8_name_20 : decode cX8_name 20 = .ok (.getfield 185, 3) := dk_180 0 185 (dk_at dksX8_name_0 20 rfl rfl)
theorem dX8_name_23 : decode cX8_name 23 = .ok (.ireturn, 1) := dk_172 (dk_at dksX8_name_0 23 rfl rfl)
theorem dX8_name_24 : decode cX8_name 24 = .ok (.aload_n 0, 1) := dk_42 (dk_at dksX8_name_1 0 rfl rfl)
theorem dX8_name_25 : decode cX8_name 25 = .ok (.bipush 121, 2) := dk_16 121 (dk_at dksX8_name_1 1 rfl rfl)
theorem dX8_name_27 : decode cX8_name 27 = .ok (.bipush 101, 2) := dk_16 101 (dk_at dksX8_name_1 3 rfl rfl)
theorem dX8_name_29 : decode cX8_name 29 = .ok (.bipush 97, 2) := dk_16 97 (dk_at dksX8_name_1 5 rfl rfl)
theorem dX8_name_31 : decode cX8_name 31 = .ok (.bipush 114, 2) := dk_16 114 (dk_at dksX8_name_1 7 rfl rfl)
theorem dX8_name_33 : decode cX8_name 33 = .ok (.iconst 0, 1) := dk_3 (dk_at dksX8_name_1 9 rfl rfl)
theorem dX8_name_34 : decode cX8_name 34 = .ok (.iconst 0, 1) := dk_3 (dk_at dksX8_name_1 10 rfl rfl)
theorem dX8_name_35 : decode cX8_name 35 = .ok (.iconst 0, 1) := dk_3 (dk_at dksX8_name_1 11 rfl rfl)
theorem dX8_name_36 : decode cX8_name 36 = .ok (.iconst 0, 1) := dk_3 (dk_at dksX8_name_1 12 rfl rfl)
theorem dX8_name_37 : decode cX8_name 37 = .ok (.invokevirtual 181, 3) := dk_182 0 181 (dk_at dksX8_name_1 13 rfl rfl)
theorem dX8_name_40 : decode cX8_name 40 = .ok (.ifCond .eq 8, 3) := dk_153 0 8 (dk_at dksX8_name_1 16 rfl rfl)
theorem dX8_name_43 : decode cX8_name 43 = .ok (.aload_n 0, 1) := dk_42 (dk_at dksX8_name_1 19 rfl rfl)
theorem dX8_name_44 : decode cX8_name 44 = .ok (.getfield 188, 3) := dk_180 0 188 (dk_at dksX8_name_1 20 rfl rfl)
theorem dX8_name_47 : decode cX8_name 47 = .ok (.ireturn, 1) := dk_172 (dk_at dksX8_name_1 23 rfl rfl)
theorem dX8_name_48 : decode cX8_name 48 = .ok (.aload_n 0, 1) := dk_42 (dk_at dksX8_name_2 0 rfl rfl)
theorem dX8_name_49 : decode cX8_name 49 = .ok (.bipush 110, 2) := dk_16 110 (dk_at dksX8_name_2 1 rfl rfl)
theorem dX8_name_51 : decode cX8_name 51 = .ok (.bipush 117, 2) := dk_16 117 (dk_at dksX8_name_2 3 rfl rfl)
theorem dX8_name_53 : decode cX8_name 53 = .ok (.bipush 109, 2) := dk_16 109 (dk_at dksX8_name_2 5 rfl rfl)
theorem dX8_name_55 : decode cX8_name 55 = .ok (.bipush 98, 2) := dk_16 98 (dk_at dksX8_name_2 7 rfl rfl)
theorem dX8_name_57 : decode cX8_name 57 = .ok (.bipush 101, 2) := dk_16 101 (dk_at dksX8_name_2 9 rfl rfl)
theorem dX8_name_59 : decode cX8_name 59 = .ok (.bipush 114, 2) := dk_16 114 (dk_at dksX8_name_2 11 rfl rfl)
theorem dX8_name_61 : decode cX8_name 61 = .ok (.iconst 0, 1) := dk_3 (dk_at dksX8_name_2 13 rfl rfl)
theorem dX8_name_62 : decode cX8_name 62 = .ok (.iconst 0, 1) := dk_3 (dk_at dksX8_name_2 14 rfl rfl)
theorem dX8_name_63 : decode cX8_name 63 = .ok (.invokevirtual 181, 3) := dk_182 0 181 (dk_at dksX8_name_2 15 rfl rfl)
theorem dX8_name_66 : decode cX8_name 66 = .ok (.ifCond .eq 8, 3) := dk_153 0 8 (dk_at dksX8_name_2 18 rfl rfl)
theorem dX8_name_69 : decode cX8_name 69 = .ok (.aload_n 0, 1) := dk_42 (dk_at dksX8_name_2 21 rfl rfl)
theorem dX8_name_70 : decode cX8_name 70 = .ok (.getfield 191, 3) := dk_180 0 191 (dk_at dksX8_name_3 0 rfl rfl)
theorem dX8_name_73 : decode cX8_name 73 = .ok (.ireturn, 1) := dk_172 (dk_at dksX8_name_3 3 rfl rfl)
theorem dX8_name_74 : decode cX8_name 74 = .ok (.aload_n 0, 1) := dk_42 (dk_at dksX8_name_3 4 rfl rfl)
theorem dX8_name_75 : decode cX8_name 75 = .ok (.bipush 98, 2) := dk_16 98 (dk_at dksX8_name_3 5 rfl rfl)
theorem dX8_name_77 : decode cX8_name 77 = .ok (.bipush 117, 2) := dk_16 117 (dk_at dksX8_name_3 7 rfl rfl)
theorem dX8_name_79 : decode cX8_name 79 = .ok (.bipush 108, 2) := dk_16 108 (dk_at dksX8_name_3 9 rfl rfl)
theorem dX8_name_81 : decode cX8_name 81 = .ok (.bipush 98, 2) := dk_16 98 (dk_at dksX8_name_3 11 rfl rfl)
theorem dX8_name_83 : decode cX8_name 83 = .ok (.bipush 115, 2) := dk_16 115 (dk_at dksX8_name_3 13 rfl rfl)
theorem dX8_name_85 : decode cX8_name 85 = .ok (.iconst 0, 1) := dk_3 (dk_at dksX8_name_3 15 rfl rfl)
theorem dX8_name_86 : decode cX8_name 86 = .ok (.iconst 0, 1) := dk_3 (dk_at dksX8_name_3 16 rfl rfl)
theorem dX8_name_87 : decode cX8_name 87 = .ok (.iconst 0, 1) := dk_3 (dk_at dksX8_name_3 17 rfl rfl)
theorem dX8_name_88 : decode cX8_name 88 = .ok (.invokevirtual 181, 3) := dk_182 0 181 (dk_at dksX8_name_3 18 rfl rfl)
theorem dX8_name_91 : decode cX8_name 91 = .ok (.ifCond .eq 8, 3) := dk_153 0 8 (dk_at dksX8_name_3 21 rfl rfl)
theorem dX8_name_94 : decode cX8_name 94 = .ok (.aload_n 0, 1) := dk_42 (dk_at dksX8_name_4 0 rfl rfl)
theorem dX8_name_95 : decode cX8_name 95 = .ok (.getfield 194, 3) := dk_180 0 194 (dk_at dksX8_name_4 1 rfl rfl)
theorem dX8_name_98 : decode cX8_name 98 = .ok (.ireturn, 1) := dk_172 (dk_at dksX8_name_4 4 rfl rfl)
theorem dX8_name_99 : decode cX8_name 99 = .ok (.aload_n 0, 1) := dk_42 (dk_at dksX8_name_4 5 rfl rfl)
theorem dX8_name_100 : decode cX8_name 100 = .ok (.bipush 103, 2) := dk_16 103 (dk_at dksX8_name_4 6 rfl rfl)
theorem dX8_name_102 : decode cX8_name 102 = .ok (.bipush 97, 2) := dk_16 97 (dk_at dksX8_name_4 8 rfl rfl)
theorem dX8_name_104 : decode cX8_name 104 = .ok (.bipush 114, 2) := dk_16 114 (dk_at dksX8_name_4 10 rfl rfl)
theorem dX8_name_106 : decode cX8_name 106 = .ok (.bipush 100, 2) := dk_16 100 (dk_at dksX8_name_4 12 rfl rfl)
theorem dX8_name_108 : decode cX8_name 108 = .ok (.bipush 101, 2) := dk_16 101 (dk_at dksX8_name_4 14 rfl rfl)
theorem dX8_name_110 : decode cX8_name 110 = .ok (.bipush 110, 2) := dk_16 110 (dk_at dksX8_name_4 16 rfl rfl)
theorem dX8_name_112 : decode cX8_name 112 = .ok (.iconst 0, 1) := dk_3 (dk_at dksX8_name_4 18 rfl rfl)
theorem dX8_name_113 : decode cX8_name 113 = .ok (.iconst 0, 1) := dk_3 (dk_at dksX8_name_4 19 rfl rfl)
theorem dX8_name_114 : decode cX8_name 114 = .ok (.invokevirtual 181, 3) := dk_182 0 181 (dk_at dksX8_name_4 20 rfl rfl)
theorem dX8_name_117 : decode cX8_name 117 = .ok (.ifCond .eq 8, 3) := dk_153 0 8 (dk_at dksX8_name_5 0 rfl rfl)
theorem dX8_name_120 : decode cX8_name 120 = .ok (.aload_n 0, 1) := dk_42 (dk_at dksX8_name_5 3 rfl rfl)
theorem dX8_name_121 : decode cX8_name 121 = .ok (.getfield 197, 3) := dk_180 0 197 (dk_at dksX8_name_5 4 rfl rfl)
theorem dX8_name_124 : decode cX8_name 124 = .ok (.ireturn, 1) := dk_172 (dk_at dksX8_name_5 7 rfl rfl)
theorem dX8_name_125 : decode cX8_name 125 = .ok (.aload_n 0, 1) := dk_42 (dk_at dksX8_name_5 8 rfl rfl)
theorem dX8_name_126 : decode cX8_name 126 = .ok (.bipush 103, 2) := dk_16 103 (dk_at dksX8_name_5 9 rfl rfl)
theorem dX8_name_128 : decode cX8_name 128 = .ok (.bipush 117, 2) := dk_16 117 (dk_at dksX8_name_5 11 rfl rfl)
theorem dX8_name_130 : decode cX8_name 130 = .ok (.bipush 97, 2) := dk_16 97 (dk_at dksX8_name_5 13 rfl rfl)
theorem dX8_name_132 : decode cX8_name 132 = .ok (.bipush 114, 2) := dk_16 114 (dk_at dksX8_name_5 15 rfl rfl)
theorem dX8_name_134 : decode cX8_name 134 = .ok (.bipush 100, 2) := dk_16 100 (dk_at dksX8_name_5 17 rfl rfl)
theorem dX8_name_136 : decode cX8_name 136 = .ok (.bipush 115, 2) := dk_16 115 (dk_at dksX8_name_5 19 rfl rfl)
theorem dX8_name_138 : decode cX8_name 138 = .ok (.iconst 0, 1) := dk_3 (dk_at dksX8_name_5 21 rfl rfl)
theorem dX8_name_139 : decode cX8_name 139 = .ok (.iconst 0, 1) := dk_3 (dk_at dksX8_name_5 22 rfl rfl)
theorem dX8_name_140 : decode cX8_name 140 = .ok (.invokevirtual 181, 3) := dk_182 0 181 (dk_at dksX8_name_6 0 rfl rfl)
theorem dX8_name_143 : decode cX8_name 143 = .ok (.ifCond .eq 8, 3) := dk_153 0 8 (dk_at dksX8_name_6 3 rfl rfl)
theorem dX8_name_146 : decode cX8_name 146 = .ok (.aload_n 0, 1) := dk_42 (dk_at dksX8_name_6 6 rfl rfl)
theorem dX8_name_147 : decode cX8_name 147 = .ok (.getfield 200, 3) := dk_180 0 200 (dk_at dksX8_name_6 7 rfl rfl)
theorem dX8_name_150 : decode cX8_name 150 = .ok (.ireturn, 1) := dk_172 (dk_at dksX8_name_6 10 rfl rfl)
theorem dX8_name_151 : decode cX8_name 151 = .ok (.aload_n 0, 1) := dk_42 (dk_at dksX8_name_6 11 rfl rfl)
theorem dX8_name_152 : decode cX8_name 152 = .ok (.invokevirtual 175, 3) := dk_182 0 175 (dk_at dksX8_name_6 12 rfl rfl)
theorem dX8_name_155 : decode cX8_name 155 = .ok (.iconst 0, 1) := dk_3 (dk_at dksX8_name_6 15 rfl rfl)
theorem dX8_name_156 : decode cX8_name 156 = .ok (.ireturn, 1) := dk_172 (dk_at dksX8_name_6 16 rfl rfl)
def dkwX8_added4_2 : List UInt8 := [62, 28, 153, 0, 9, 27, 29, 96, 167, 0, 6, 27, 29, 100, 60, 167, 255, 198, 27, 172]
abbrev dktX8_added4_2 : List UInt8 := dkwX8_added4_2 ++ []
def dkwX8_added4_1 : List UInt8 := [180, 0, 158, 20, 0, 220, 148, 154, 0, 7, 4, 167, 0, 4, 3, 61, 42, 182, 0, 178, 42, 182, 0, 239]
abbrev dktX8_added4_1 : List UInt8 := dkwX8_added4_1 ++ dktX8_added4_2
def dkwX8_added4_0 : List UInt8 := [42, 182, 0, 239, 60, 42, 16, 43, 182, 0, 203, 154, 0, 12, 42, 16, 45, 182, 0, 203, 153, 0, 46, 42]
abbrev dktX8_added4_0 : List UInt8 := dkwX8_added4_0 ++ dktX8_added4_1
theorem dksX8_added4_0 : cX8_added4.data.toList.drop 0 = dktX8_added4_0 := by decide +kernel
theorem dksX8_added4_1 : cX8_added4.data.toList.drop 24 = dktX8_added4_1 := dk_seg dksX8_added4_0 24 rfl rfl
theorem dksX8_added4_2 : cX8_added4.data.toList.drop 48 = dktX8_added4_2 := dk_seg dksX8_added4_1 24 rfl rfl
theorem dX8_added4_0 : decode cX8_added4 0 = .ok (.aload_n 0, 1) := dk_42 (dk_at dksX8_added4_0 0 rfl rfl)
theorem dX8_added4_1 : decode cX8_added4 1 = .ok (.invokevirtual 239, 3) := dk_182 0 239 (dk_at dksX8_added4_0 1 rfl rfl)
theorem dX8_added4_4 : decode cX8_added4 4 = .ok (.istore_n 1, 1) := dk_60 (dk_at dksX8_added4_0 4 rfl rfl)
theorem dX8_added4_5 : decode cX8_added4 5 = .ok (.aload_n 0, 1) := dk_42 (dk_at dksX8_added4_0 5 rfl rfl)
theorem dX8_added4_6 : decode cX8_added4 6 = .ok (.bipush 43, 2) := dk_16 43 (dk_at dksX8_added4_0 6 rfl rfl)
theorem dX8_added4_8 : decode cX8_added4 8 = .ok (.invokevirtual 203, 3) := dk_182 0 203 (dk_at dksX8_added4_0 8 rfl rfl)
theorem dX8_added4_11 : decode cX8_added4 11 = .ok (.ifCond .ne 12, 3) := dk_154 0 12 (dk_at dksX8_added4_0 11 rfl rfl)
theorem dX8_added4_14 : decode cX8_added4 14 = .ok (.aload_n 0, 1) := dk_42 (dk_at dksX8_added4_0 14 rfl rfl)
theorem dX8_added4_15 : decode cX8_added4 15 = .ok (.bipush 45, 2) := dk_16 45 (dk_at dksX8_added4_0 15 rfl rfl)
theorem dX8_added4_17 : decode cX8_added4 17 = .ok (.invokevirtual 203, 3) := dk_182 0 203 (dk_at dksX8_added4_0 17 rfl rfl)
theorem dX8_added4_20 : decode cX8_added4 20 = .ok (.ifCond .eq 46, 3) := dk_153 0 46 (dk_at dksX8_added4_0 20 rfl rfl)
theorem dX8_added4_23 : decode cX8_added4 23 = .ok (.aload_n 0, 1) := dk_42 (dk_at dksX8_added4_0 23 rfl rfl)
theorem dX8_added4_24 : decode cX8_added4 24 = .ok (.getfield 158, 3) := dk_180 0 158 (dk_at dksX8_added4_1 0 rfl rfl)
theorem dX8_added4_27 : decode cX8_added4 27 = .ok (.ldc2_w 220, 3) := dk_20 0 220 (dk_at dksX8_added4_1 3 rfl rfl)
theorem dX8_added4_30 : decode cX8_added4 30 = .ok (.lcmp, 1) := dk_148 (dk_at dksX8_added4_1 6 rfl rfl)
theorem dX8_added4_31 : decode cX8_added4 31 = .ok (.ifCond .ne 7, 3) := dk_154 0 7 (dk_at dksX8_added4_1 7 rfl rfl)
theorem dX8_added4_34 : decode cX8_added4 34 = .ok (.iconst 1, 1) := dk_4 (dk_at dksX8_added4_1 10 rfl rfl)
theorem dX8_added4_35 : decode cX8_added4 35 = .ok (.goto 4, 3) := dk_167 0 4 (dk_at dksX8_added4_1 11 rfl rfl)
theorem dX8_added4_38 : decode cX8_added4 38 = .ok (.iconst 0, 1) := dk_3 (dk_at dksX8_added4_1 14 rfl rfl)
theorem dX8_added4_39 : decode cX8_added4 39 = .ok (.istore_n 2, 1) := dk_61 (dk_at dksX8_added4_1 15 rfl rfl)
theorem dX8_added4_40 : decode cX8_added4 40 = .ok (.aload_n 0, 1) := dk_42 (dk_at dksX8_added4_1 16 rfl rfl)
theorem dX8_added4_41 : decode cX8_added4 41 = .ok (.invokevirtual 178, 3) := dk_182 0 178 (dk_at dksX8_added4_1 17 rfl rfl)
theorem dX8_added4_44 : decode cX8_added4 44 = .ok (.aload_n 0, 1) := dk_42 (dk_at dksX8_added4_1 20 rfl rfl)
theorem dX8_added4_45 : decode cX8_added4 45 = .ok (.invokevirtual 239, 3) := dk_182 0 239 (dk_at dksX8_added4_1 21 rfl rfl)
theorem dX8_added4_48 : decode cX8_added4 48 = .ok (.istore_n 3, 1) := dk_62 (dk_at dksX8_added4_2 0 rfl rfl)
theorem dX8_added4_49 : decode cX8_added4 49 = .ok (.iload_n 2, 1) := dk_28 (dk_at dksX8_added4_2 1 rfl rfl)
theorem dX8_added4_50 : decode cX8_added4 50 = .ok (.ifCond .eq 9, 3) := dk_153 0 9 (dk_at dksX8_added4_2 2 rfl rfl)
theorem dX8_added4_53 : decode cX8_added4 53 = .ok (.iload_n 1, 1) := dk_27 (dk_at dksX8_added4_2 5 rfl rfl)
theorem dX8_added4_54 : decode cX8_added4 54 = .ok (.iload_n 3, 1) := dk_29 (dk_at dksX8_added4_2 6 rfl rfl)
theorem dX8_added4_55 : decode cX8_added4 55 = .ok (.iadd, 1) := dk_96 (dk_at dksX8_added4_2 7 rfl rfl)
theorem dX8_added4_56 : decode cX8_added4 56 = .ok (.goto 6, 3) := dk_167 0 6 (dk_at dksX8_added4_2 8 rfl rfl)
theorem dX8_added4_59 : decode cX8_added4 59 = .ok (.iload_n 1, 1) := dk_27 (dk_at dksX8_added4_2 11 rfl rfl)
theorem dX8_added4_60 : decode cX8_added4 60 = .ok (.iload_n 3, 1) := dk_29 (dk_at dksX8_added4_2 12 rfl rfl)
theorem dX8_added4_61 : decode cX8_added4 61 = .ok (.isub, 1) := dk_100 (dk_at dksX8_added4_2 13 rfl rfl)
theorem dX8_added4_62 : decode cX8_added4 62 = .ok (.istore_n 1, 1) := dk_60 (dk_at dksX8_added4_2 14 rfl rfl)
theorem dX8_added4_63 : decode cX8_added4 63 = .ok (.goto (-58), 3) := dk_167 255 198 (dk_at dksX8_added4_2 15 rfl rfl)
theorem dX8_added4_66 : decode cX8_added4 66 = .ok (.iload_n 1, 1) := dk_27 (dk_at dksX8_added4_2 18 rfl rfl)
theorem dX8_added4_67 : decode cX8_added4 67 = .ok (.ireturn, 1) := dk_172 (dk_at dksX8_added4_2 19 rfl rfl)
def dkwX8_term4_1 : List UInt8 := [60, 167, 255, 236, 27, 172]
abbrev dktX8_term4_1 : List UInt8 := dkwX8_term4_1 ++ []
def dkwX8_term4_0 : List UInt8 := [42, 182, 0, 236, 60, 42, 16, 42, 182, 0, 203, 153, 0, 17, 42, 182, 0, 178, 27, 42, 182, 0, 236, 104]
abbrev dktX8_term4_0 : List UInt8 := dkwX8_term4_0 ++ dktX8_term4_1
theorem dksX8_term4_0 : cX8_term4.data.toList.drop 0 = dktX8_term4_0 := by decide +kernel
theorem dksX8_term4_1 : cX8_term4.data.toList.drop 24 = dktX8_term4_1 := dk_seg dksX8_term4_0 24 rfl rfl
theorem dX8_term4_0 : decode cX8_term4 0 = .ok (.aload_n 0, 1) := dk_42 (dk_at dksX8_term4_0 0 rfl rfl)
theorem dX8_term4_1 : decode cX8_term4 1 = .ok (.invokevirtual 236, 3) := dk_182 0 236 (dk_at dksX8_term4_0 1 rfl rfl)
theorem dX8_term4_4 : decode cX8_term4 4 = .ok (.istore_n 1, 1) := dk_60 (dk_at dksX8_term4_0 4 rfl rfl)
theorem dX8_term4_5 : decode cX8_term4 5 = .ok (.aload_n 0, 1) := dk_42 (dk_at dksX8_term4_0 5 rfl rfl)
theorem dX8_term4_6 : decode cX8_term4 6 = .ok (.bipush 42, 2) := dk_16 42 (dk_at dksX8_term4_0 6 rfl rfl)
theorem dX8_term4_8 : decode cX8_term4 8 = .ok (.invokevirtual 203, 3) := dk_182 0 203 (dk_at dksX8_term4_0 8 rfl rfl)
theorem dX8_term4_11 : decode cX8_term4 11 = .ok (.ifCond .eq 17, 3) := dk_153 0 17 (dk_at dksX8_term4_0 11 rfl rfl)
theorem dX8_term4_14 : decode cX8_term4 14 = .ok (.aload_n 0, 1) := dk_42 (dk_at dksX8_term4_0 14 rfl rfl)
theorem dX8_term4_15 : decode cX8_term4 15 = .ok (.invokevirtual 178, 3) := dk_182 0 178 (dk_at dksX8_term4_0 15 rfl rfl)
theorem dX8_term4_18 : decode cX8_term4 18 = .ok (.iload_n 1, 1) := dk_27 (dk_at dksX8_term4_0 18 rfl rfl)
theorem dX8_term4_19 : decode cX8_term4 19 = .ok (.aload_n 0, 1) := dk_42 (dk_at dksX8_term4_0 19 rfl rfl)
theorem dX8_term4_20 : decode cX8_term4 20 = .ok (.invokevirtual 236, 3) := dk_182 0 236 (dk_at dksX8_term4_0 20 rfl rfl)
theorem dX8_term4_23 : decode cX8_term4 23 = .ok (.imul, 1) := dk_104 (dk_at dksX8_term4_0 23 rfl rfl)
theorem dX8_term4_24 : decode cX8_term4 24 = .ok (.istore_n 1, 1) := dk_60 (dk_at dksX8_term4_1 0 rfl rfl)
theorem dX8_term4_25 : decode cX8_term4 25 = .ok (.goto (-20), 3) := dk_167 255 236 (dk_at dksX8_term4_1 1 rfl rfl)
theorem dX8_term4_28 : decode cX8_term4 28 = .ok (.iload_n 1, 1) := dk_27 (dk_at dksX8_term4_1 4 rfl rfl)
theorem dX8_term4_29 : decode cX8_term4 29 = .ok (.ireturn, 1) := dk_172 (dk_at dksX8_term4_1 5 rfl rfl)
def dkwX8_atom4_6 : List UInt8 := [182, 0, 210, 60, 42, 180, 0, 162, 154, 0, 14, 42, 182, 0, 178, 167, 0, 7, 42, 182, 0, 175, 27, 172]
abbrev dktX8_atom4_6 : List UInt8 := dkwX8_atom4_6 ++ []
def dkwX8_atom4_5 : List UInt8 := [182, 0, 178, 167, 0, 41, 42, 180, 0, 162, 154, 0, 30, 42, 180, 0, 147, 4, 160, 0, 22, 42]
abbrev dktX8_atom4_5 : List UInt8 := dkwX8_atom4_5 ++ dktX8_atom4_6
def dkwX8_atom4_4 : List UInt8 := [42, 180, 0, 162, 154, 0, 24, 42, 180, 0, 147, 5, 160, 0, 16, 42, 180, 0, 158, 136, 60, 42]
abbrev dktX8_atom4_4 : List UInt8 := dkwX8_atom4_4 ++ dktX8_atom4_5
def dkwX8_atom4_3 : List UInt8 := [42, 89, 180, 0, 172, 4, 100, 181, 0, 172, 42, 180, 0, 162, 154, 0, 76, 42, 182, 0, 178, 167, 0, 69]
abbrev dktX8_atom4_3 : List UInt8 := dkwX8_atom4_3 ++ dktX8_atom4_4
def dkwX8_atom4_2 : List UInt8 := [182, 0, 206, 153, 0, 111, 42, 182, 0, 233, 60, 42, 16, 41, 182, 0, 203, 154, 0, 7, 42, 182, 0, 175]
abbrev dktX8_atom4_2 : List UInt8 := dkwX8_atom4_2 ++ dktX8_atom4_3
def dkwX8_atom4_1 : List UInt8 := [42, 89, 180, 0, 172, 4, 100, 181, 0, 172, 167, 0, 127, 42, 16, 40, 182, 0, 203, 153, 0, 52, 42]
abbrev dktX8_atom4_1 : List UInt8 := dkwX8_atom4_1 ++ dktX8_atom4_2
def dkwX8_atom4_0 : List UInt8 := [3, 60, 42, 16, 45, 182, 0, 203, 153, 0, 29, 42, 182, 0, 206, 153, 0, 146, 42, 182, 0, 214, 116, 60]
abbrev dktX8_atom4_0 : List UInt8 := dkwX8_atom4_0 ++ dktX8_atom4_1
theorem dksX8_atom4_0 : cX8_atom4.data.toList.drop 0 = dktX8_atom4_0 := by decide +kernel
theorem dksX8_atom4_1 : cX8_atom4.data.toList.drop 24 = dktX8_atom4_1 := dk_seg dksX8_atom4_0 24 rfl rfl
theorem dksX8_atom4_2 : cX8_atom4.data.toList.drop 47 = dktX8_atom4_2 := dk_seg dksX8_atom4_1 23 rfl rfl
theorem dksX8_atom4_3 : cX8_atom4.data.toList.drop 71 = dktX8_atom4_3 := dk_seg dksX8_atom4_2 24 rfl rfl
theorem dksX8_atom4_4 : cX8_atom4.data.toList.drop 95 = dktX8_atom4_4 := dk_seg dksX8_atom4_3 24 rfl rfl
theorem dksX8_atom4_5 : cX8_atom4.data.toList.drop 117 = dktX8_atom4_5 := dk_seg dksX8_atom4_4 22 rfl rfl
theorem dksX8_atom4_6 : cX8_atom4.data.toList.drop 139 = dktX8_atom4_6 := dk_seg dksX8_atom4_5 22 rfl rfl
theorem dX8_atom4_0 : decode cX8_atom4 0 = .ok (.iconst 0, 1) := dk_3 (dk_at dksX8_atom4_0 0 rfl rfl)
theorem dX8_atom4_1 : decode cX8_atom4 1 = .ok (.istore_n 1, 1) := dk_60 (dk_at dksX8_atom4_0 1 rfl rfl)
theorem dX8_atom4_2 : decode cX8_atom4 2 = .ok (.aload_n 0, 1) := dk_42 (dk_at dksX8_atom4_0 2 rfl rfl)
theorem dX8_atom4_3 : decode cX8_atom4 3 = .ok (.bipush 45, 2) := dk_16 45 (dk_at dksX8_atom4_0 3 rfl rfl)
theorem dX8_atom4_5 : decode cX8_atom4 5 = .ok (.invokevirtual 203, 3) := dk_182 0 203 (dk_at dksX8_atom4_0 5 rfl rfl)
theorem dX8_atom4_8 : decode cX8_atom4 8 = .ok (.ifCond .eq 29, 3) := dk_153 0 29 (dk_at dksX8_atom4_0 8 rfl rfl)
theorem dX8_atom4_11 : decode cX8_atom4 11 = .ok (.aload_n 0, 1) := dk_42 (dk_at dksX8_atom4_0 11 rfl rfl)
theorem dX8_atom4_12 : decode cX8_atom4 12 = .ok (.invokevirtual 206, 3) := dk_182 0 206 (dk_at dksX8_atom4_0 12 rfl rfl)
theorem dX8_atom4_15 : decode cX8_atom4 15 = .ok (.ifCond .eq 146, 3) := dk_153 0 146 (dk_at dksX8_atom4_0 15 rfl rfl)
theorem dX8_atom4_18 : decode cX8_atom4 18 = .ok (.aload_n 0, 1) := dk_42 (dk_at dksX8_atom4_0 18 rfl rfl)
theorem dX8_atom4_19 : decode cX8_atom4 19 = .ok (.invokevirtual 214, 3) := dk_182 0 214 (dk_at dksX8_atom4_0 19 rfl rfl)
theorem dX8_atom4_22 : decode cX8_atom4 22 = .ok (.ineg, 1) := dk_116 (dk_at dksX8_atom4_0 22 rfl rfl)
theorem dX8_atom4_23 : decode cX8_atom4 23 = .ok (.istore_n 1, 1) := dk_60 (dk_at dksX8_atom4_0 23 rfl rfl)
theorem dX8_atom4_24 : decode cX8_atom4 24 = .ok (.aload_n 0, 1) := dk_42 (dk_at dksX8_atom4_1 0 rfl rfl)
theorem dX8_atom4_25 : decode cX8_atom4 25 = .ok (.dup, 1) := dk_89 (dk_at dksX8_atom4_1 1 rfl rfl)
theorem dX8_atom4_26 : decode cX8_atom4 26 = .ok (.getfield 172, 3) := dk_180 0 172 (dk_at dksX8_atom4_1 2 rfl rfl)
theorem dX8_atom4_29 : decode cX8_atom4 29 = .ok (.iconst 1, 1) := dk_4 (dk_at dksX8_atom4_1 5 rfl rfl)
theorem dX8_atom4_30 : decode cX8_atom4 30 = .ok (.isub, 1) := dk_100 (dk_at dksX8_atom4_1 6 rfl rfl)
theorem dX8_atom4_31 : decode cX8_atom4 31 = .ok (.putfield 172, 3) := dk_181 0 172 (dk_at dksX8_atom4_1 7 rfl rfl)
theorem dX8_atom4_34 : decode cX8_atom4 34 = .ok (.goto 127, 3) := dk_167 0 127 (dk_at dksX8_atom4_1 10 rfl rfl)
theorem dX8_atom4_37 : decode cX8_atom4 37 = .ok (.aload_n 0, 1) := dk_42 (dk_at dksX8_atom4_1 13 rfl rfl)
theorem dX8_atom4_38 : decode cX8_atom4 38 = .ok (.bipush 40, 2) := dk_16 40 (dk_at dksX8_atom4_1 14 rfl rfl)
theorem dX8_atom4_40 : decode cX8_atom4 40 = .ok (.invokevirtual 203, 3) := dk_182 0 203 (dk_at dksX8_atom4_1 16 rfl rfl)
theorem dX8_atom4_43 : decode cX8_atom4 43 = .ok (.ifCond .eq 52, 3) := dk_153 0 52 (dk_at dksX8_atom4_1 19 rfl rfl)
theorem dX8_atom4_46 : decode cX8_atom4 46 = .ok (.aload_n 0, 1) := dk_42 (dk_at dksX8_atom4_1 22 rfl rfl)
theorem dX8_atom4_47 : decode cX8_atom4 47 = .ok (.invokevirtual 206, 3) := dk_182 0 206 (dk_at dksX8_atom4_2 0 rfl rfl)
theorem dX8_atom4_50 : decode cX8_atom4 50 = .ok (.ifCond .eq 111, 3) := dk_153 0 111 (dk_at dksX8_atom4_2 3 rfl rfl)
theorem dX8_atom4_53 : decode cX8_atom4 53 = .ok (.aload_n 0, 1) := dk_42 (dk_at dksX8_atom4_2 6 rfl rfl)
theorem dX8_atom4_54 : decode cX8_atom4 54 = .ok (.invokevirtual 233, 3) := dk_182 0 233 (dk_at dksX8_atom4_2 7 rfl rfl)
theorem dX8_atom4_57 : decode cX8_atom4 57 = .ok (.istore_n 1, 1) := dk_60 (dk_at dksX8_atom4_2 10 rfl rfl)
theorem dX8_atom4_58 : decode cX8_atom4 58 = .ok (.aload_n 0, 1) := dk_42 (dk_at dksX8_atom4_2 11 rfl rfl)
theorem dX8_atom4_59 : decode cX8_atom4 59 = .ok (.bipush 41, 2) := dk_16 41 (dk_at dksX8_atom4_2 12 rfl rfl)
theorem dX8_atom4_61 : decode cX8_atom4 61 = .ok (.invokevirtual 203, 3) := dk_182 0 203 (dk_at dksX8_atom4_2 14 rfl rfl)
theorem dX8_atom4_64 : decode cX8_atom4 64 = .ok (.ifCond .ne 7, 3) := dk_154 0 7 (dk_at dksX8_atom4_2 17 rfl rfl)
theorem dX8_atom4_67 : decode cX8_atom4 67 = .ok (.aload_n 0, 1) := dk_42 (dk_at dksX8_atom4_2 20 rfl rfl)
theorem dX8_atom4_68 : decode cX8_atom4 68 = .ok (.invokevirtual 175, 3) := dk_182 0 175 (dk_at dksX8_atom4_2 21 rfl rfl)
theorem dX8_atom4_71 : decode cX8_atom4 71 = .ok (.aload_n 0, 1) := dk_42 (dk_at dksX8_atom4_3 0 rfl rfl)
theorem dX8_atom4_72 : decode cX8_atom4 72 = .ok (.dup, 1) := dk_89 (dk_at dksX8_atom4_3 1 rfl rfl)
theorem dX8_atom4_73 : decode cX8_atom4 73 = .ok (.getfield 172, 3) := dk_180 0 172 (dk_at dksX8_atom4_3 2 rfl rfl)
theorem dX8_atom4_76 : decode cX8_atom4 76 = .ok (.iconst 1, 1) := dk_4 (dk_at dksX8_atom4_3 5 rfl rfl)
theorem dX8_atom4_77 : decode cX8_atom4 77 = .ok (.isub, 1) := dk_100 (dk_at dksX8_atom4_3 6 rfl rfl)
theorem dX8_atom4_78 : decode cX8_atom4 78 = .ok (.putfield 172, 3) := dk_181 0 172 (dk_at dksX8_atom4_3 7 rfl rfl)
theorem dX8_atom4_81 : decode cX8_atom4 81 = .ok (.aload_n 0, 1) := dk_42 (dk_at dksX8_atom4_3 10 rfl rfl)
theorem dX8_atom4_82 : decode cX8_atom4 82 = .ok (.getfield 162, 3) := dk_180 0 162 (dk_at dksX8_atom4_3 11 rfl rfl)
theorem dX8_atom4_85 : decode cX8_atom4 85 = .ok (.ifCond .ne 76, 3) := dk_154 0 76 (dk_at dksX8_atom4_3 14 rfl rfl)
theorem dX8_atom4_88 : decode cX8_atom4 88 = .ok (.aload_n 0, 1) := dk_42 (dk_at dksX8_atom4_3 17 rfl rfl)
theorem dX8_atom4_89 : decode cX8_atom4 89 = .ok (.invokevirtual 178, 3) := dk_182 0 178 (dk_at dksX8_atom4_3 18 rfl rfl)
theorem dX8_atom4_92 : decode cX8_atom4 92 = .ok (.goto 69, 3) := dk_167 0 69 (dk_at dksX8_atom4_3 21 rfl rfl)
theorem dX8_atom4_95 : decode cX8_atom4 95 = .ok (.aload_n 0, 1) := dk_42 (dk_at dksX8_atom4_4 0 rfl rfl)
theorem dX8_atom4_96 : decode cX8_atom4 96 = .ok (.getfield 162, 3) := dk_180 0 162 (dk_at dksX8_atom4_4 1 rfl rfl)
theorem dX8_atom4_99 : decode cX8_atom4 99 = .ok (.ifCond .ne 24, 3) := dk_154 0 24 (dk_at dksX8_atom4_4 4 rfl rfl)
theorem dX8_atom4_102 : decode cX8_atom4 102 = .ok (.aload_n 0, 1) := dk_42 (dk_at dksX8_atom4_4 7 rfl rfl)
theorem dX8_atom4_103 : decode cX8_atom4 103 = .ok (.getfield 147, 3) := dk_180 0 147 (dk_at dksX8_atom4_4 8 rfl rfl)
theorem dX8_atom4_106 : decode cX8_atom4 106 = .ok (.iconst 2, 1) := dk_5 (dk_at dksX8_atom4_4 11 rfl rfl)
theorem dX8_atom4_107 : decode cX8_atom4 107 = .ok (.if_icmp .ne 16, 3) := dk_160 0 16 (dk_at dksX8_atom4_4 12 rfl rfl)
theorem dX8_atom4_110 : decode cX8_atom4 110 = .ok (.aload_n 0, 1) := dk_42 (dk_at dksX8_atom4_4 15 rfl rfl)
theorem dX8_atom4_111 : decode cX8_atom4 111 = .ok (.getfield 158, 3) := dk_180 0 158 (dk_at dksX8_atom4_4 16 rfl rfl)
theorem dX8_atom4_114 : decode cX8_atom4 114 = .ok (.l2i, 1) := dk_136 (dk_at dksX8_atom4_4 19 rfl rfl)
theorem dX8_atom4_115 : decode cX8_atom4 115 = .ok (.istore_n 1, 1) := dk_60 (dk_at dksX8_atom4_4 20 rfl rfl)
theorem dX8_atom4_116 : decode cX8_atom4 116 = .ok (.aload_n 0, 1) := dk_42 (dk_at dksX8_atom4_4 21 rfl rfl)
theorem dX8_atom4_117 : decode cX8_atom4 117 = .ok (.invokevirtual 178, 3) := dk_182 0 178 (dk_at dksX8_atom4_5 0 rfl rfl)
theorem dX8_atom4_120 : decode cX8_atom4 120 = .ok (.goto 41, 3) := dk_167 0 41 (dk_at dksX8_atom4_5 3 rfl rfl)
theorem dX8_atom4_123 : decode cX8_atom4 123 = .ok (.aload_n 0, 1) := dk_42 (dk_at dksX8_atom4_5 6 rfl rfl)
theorem dX8_atom4_124 : decode cX8_atom4 124 = .ok (.getfield 162, 3) := dk_180 0 162 (dk_at dksX8_atom4_5 7 rfl rfl)
theorem dX8_atom4_127 : decode cX8_atom4 127 = .ok (.ifCond .ne 30, 3) := dk_154 0 30 (dk_at dksX8_atom4_5 10 rfl rfl)
theorem dX8_atom4_130 : decode cX8_atom4 130 = .ok (.aload_n 0, 1) := dk_42 (dk_at dksX8_atom4_5 13 rfl rfl)
theorem dX8_atom4_131 : decode cX8_atom4 131 = .ok (.getfield 147, 3) := dk_180 0 147 (dk_at dksX8_atom4_5 14 rfl rfl)
theorem dX8_atom4_134 : decode cX8_atom4 134 = .ok (.iconst 1, 1) := dk_4 (dk_at dksX8_atom4_5 17 rfl rfl)
theorem dX8_atom4_135 : decode cX8_atom4 135 = .ok (.if_icmp .ne 22, 3) := dk_160 0 22 (dk_at dksX8_atom4_5 18 rfl rfl)
theorem dX8_atom4_138 : decode cX8_atom4 138 = .ok (.aload_n 0, 1) := dk_42 (dk_at dksX8_atom4_5 21 rfl rfl)
theorem dX8_atom4_139 : decode cX8_atom4 139 = .ok (.invokevirtual 210, 3) := dk_182 0 210 (dk_at dksX8_atom4_6 0 rfl rfl)
theorem dX8_atom4_142 : decode cX8_atom4 142 = .ok (.istore_n 1, 1) := dk_60 (dk_at dksX8_atom4_6 3 rfl rfl)
theorem dX8_atom4_143 : decode cX8_atom4 143 = .ok (.aload_n 0, 1) := dk_42 (dk_at dksX8_atom4_6 4 rfl rfl)
theorem dX8_atom4_144 : decode cX8_atom4 144 = .ok (.getfield 162, 3) := dk_180 0 162 (dk_at dksX8_atom4_6 5 rfl rfl)
theorem dX8_atom4_147 : decode cX8_atom4 147 = .ok (.ifCond .ne 14, 3) := dk_154 0 14 (dk_at dksX8_atom4_6 8 rfl rfl)
theorem dX8_atom4_150 : decode cX8_atom4 150 = .ok (.aload_n 0, 1) := dk_42 (dk_at dksX8_atom4_6 11 rfl rfl)
theorem dX8_atom4_151 : decode cX8_atom4 151 = .ok (.invokevirtual 178, 3) := dk_182 0 178 (dk_at dksX8_atom4_6 12 rfl rfl)
theorem dX8_atom4_154 : decode cX8_atom4 154 = .ok (.goto 7, 3) := dk_167 0 7 (dk_at dksX8_atom4_6 15 rfl rfl)
theorem dX8_atom4_157 : decode cX8_atom4 157 = .ok (.aload_n 0, 1) := dk_42 (dk_at dksX8_atom4_6 18 rfl rfl)
theorem dX8_atom4_158 : decode cX8_atom4 158 = .ok (.invokevirtual 175, 3) := dk_182 0 175 (dk_at dksX8_atom4_6 19 rfl rfl)
theorem dX8_atom4_161 : decode cX8_atom4 161 = .ok (.iload_n 1, 1) := dk_27 (dk_at dksX8_atom4_6 22 rfl rfl)
theorem dX8_atom4_162 : decode cX8_atom4 162 = .ok (.ireturn, 1) := dk_172 (dk_at dksX8_atom4_6 23 rfl rfl)
def dkwX8_either5_2 : List UInt8 := [167, 255, 216, 27, 172]
abbrev dktX8_either5_2 : List UInt8 := dkwX8_either5_2 ++ []
def dkwX8_either5_1 : List UInt8 := [182, 0, 178, 42, 182, 0, 230, 61, 27, 154, 0, 7, 28, 153, 0, 7, 4, 167, 0, 4, 3, 60]
abbrev dktX8_either5_1 : List UInt8 := dkwX8_either5_1 ++ dktX8_either5_2
def dkwX8_either5_0 : List UInt8 := [42, 182, 0, 230, 60, 42, 16, 111, 16, 114, 3, 3, 3, 3, 3, 3, 182, 0, 181, 153, 0, 29, 42]
abbrev dktX8_either5_0 : List UInt8 := dkwX8_either5_0 ++ dktX8_either5_1
theorem dksX8_either5_0 : cX8_either5.data.toList.drop 0 = dktX8_either5_0 := by decide +kernel
theorem dksX8_either5_1 : cX8_either5.data.toList.drop 23 = dktX8_either5_1 := dk_seg dksX8_either5_0 23 rfl rfl
theorem dksX8_either5_2 : cX8_either5.data.toList.drop 45 = dktX8_either5_2 := dk_seg dksX8_either5_1 22 rfl rfl
theorem dX8_either5_0 : decode cX8_either5 0 = .ok (.aload_n 0, 1) := dk_42 (dk_at dksX8_either5_0 0 rfl rfl)
theorem dX8_either5_1 : decode cX8_either5 1 = .ok (.invokevirtual 230, 3) := dk_182 0 230 (dk_at dksX8_either5_0 1 rfl rfl)
theorem dX8_either5_4 : decode cX8_either5 4 = .ok (.istore_n 1, 1) := dk_60 (dk_at dksX8_either5_0 4 rfl rfl)
theorem dX8_either5_5 : decode cX8_either5 5 = .ok (.aload_n 0, 1) := dk_42 (dk_at dksX8_either5_0 5 rfl rfl)
theorem dX8_either5_6 : decode cX8_either5 6 = .ok (.bipush 111, 2) := dk_16 111 (dk_at dksX8_either5_0 6 rfl rfl)
theorem dX8_either5_8 : decode cX8_either5 8 = .ok (.bipush 114, 2) := dk_16 114 (dk_at dksX8_either5_0 8 rfl rfl)
theorem dX8_either5_10 : decode cX8_either5 10 = .ok (.iconst 0, 1) := dk_3 (dk_at dksX8_either5_0 10 rfl rfl)
theorem dX8_either5_11 : decode cX8_either5 11 = .ok (.iconst 0, 1) := dk_3 (dk_at dksX8_either5_0 11 rfl rfl)
theorem dX8_either5_12 : decode cX8_either5 12 = .ok (.iconst 0, 1) := dk_3 (dk_at dksX8_either5_0 12 rfl rfl)
theorem dX8_either5_13 : decode cX8_either5 13 = .ok (.iconst 0, 1) := dk_3 (dk_at dksX8_either5_0 13 rfl rfl)
theorem dX8_either5_14 : decode cX8_either5 14 = .ok (.iconst 0, 1) := dk_3 (dk_at dksX8_either5_0 14 rfl rfl)
theorem dX8_either5_15 : decode cX8_either5 15 = .ok (.iconst 0, 1) := dk_3 (dk_at dksX8_either5_0 15 rfl rfl)
theorem dX8_either5_16 : decode cX8_either5 16 = .ok (.invokevirtual 181, 3) := dk_182 0 181 (dk_at dksX8_either5_0 16 rfl rfl)
theorem dX8_either5_19 : decode cX8_either5 19 = .ok (.ifCond .eq 29, 3) := dk_153 0 29 (dk_at dksX8_either5_0 19 rfl rfl)
theorem dX8_either5_22 : decode cX8_either5 22 = .ok (.aload_n 0, 1) := dk_42 (dk_at dksX8_either5_0 22 rfl rfl)
theorem dX8_either5_23 : decode cX8_either5 23 = .ok (.invokevirtual 178, 3) := dk_182 0 178 (dk_at dksX8_either5_1 0 rfl rfl)
theorem dX8_either5_26 : decode cX8_either5 26 = .ok (.aload_n 0, 1) := dk_42 (dk_at dksX8_either5_1 3 rfl rfl)
theorem dX8_either5_27 : decode cX8_either5 27 = .ok (.invokevirtual 230, 3) := dk_182 0 230 (dk_at dksX8_either5_1 4 rfl rfl)
theorem dX8_either5_30 : decode cX8_either5 30 = .ok (.istore_n 2, 1) := dk_61 (dk_at dksX8_either5_1 7 rfl rfl)
theorem dX8_either5_31 : decode cX8_either5 31 = .ok (.iload_n 1, 1) := dk_27 (dk_at dksX8_either5_1 8 rfl rfl)
theorem dX8_either5_32 : decode cX8_either5 32 = .ok (.ifCond .ne 7, 3) := dk_154 0 7 (dk_at dksX8_either5_1 9 rfl rfl)
theorem dX8_either5_35 : decode cX8_either5 35 = .ok (.iload_n 2, 1) := dk_28 (dk_at dksX8_either5_1 12 rfl rfl)
theorem dX8_either5_36 : decode cX8_either5 36 = .ok (.ifCond .eq 7, 3) := dk_153 0 7 (dk_at dksX8_either5_1 13 rfl rfl)
theorem dX8_either5_39 : decode cX8_either5 39 = .ok (.iconst 1, 1) := dk_4 (dk_at dksX8_either5_1 16 rfl rfl)
theorem dX8_either5_40 : decode cX8_either5 40 = .ok (.goto 4, 3) := dk_167 0 4 (dk_at dksX8_either5_1 17 rfl rfl)
theorem dX8_either5_43 : decode cX8_either5 43 = .ok (.iconst 0, 1) := dk_3 (dk_at dksX8_either5_1 20 rfl rfl)
theorem dX8_either5_44 : decode cX8_either5 44 = .ok (.istore_n 1, 1) := dk_60 (dk_at dksX8_either5_1 21 rfl rfl)
theorem dX8_either5_45 : decode cX8_either5 45 = .ok (.goto (-40), 3) := dk_167 255 216 (dk_at dksX8_either5_2 0 rfl rfl)
theorem dX8_either5_48 : decode cX8_either5 48 = .ok (.iload_n 1, 1) := dk_27 (dk_at dksX8_either5_2 3 rfl rfl)
theorem dX8_either5_49 : decode cX8_either5 49 = .ok (.ireturn, 1) := dk_172 (dk_at dksX8_either5_2 4 rfl rfl)
def dkwX8_both5_2 : List UInt8 := [167, 255, 215, 27, 172]
abbrev dktX8_both5_2 : List UInt8 := dkwX8_both5_2 ++ []
def dkwX8_both5_1 : List UInt8 := [182, 0, 178, 42, 182, 0, 227, 61, 27, 153, 0, 11, 28, 153, 0, 7, 4, 167, 0, 4, 3, 60]
abbrev dktX8_both5_1 : List UInt8 := dkwX8_both5_1 ++ dktX8_both5_2
def dkwX8_both5_0 : List UInt8 := [42, 182, 0, 227, 60, 42, 16, 97, 16, 110, 16, 100, 3, 3, 3, 3, 3, 182, 0, 181, 153, 0, 29, 42]
abbrev dktX8_both5_0 : List UInt8 := dkwX8_both5_0 ++ dktX8_both5_1
theorem dksX8_both5_0 : cX8_both5.data.toList.drop 0 = dktX8_both5_0 := by decide +kernel
theorem dksX8_both5_1 : cX8_both5.data.toList.drop 24 = dktX8_both5_1 := dk_seg dksX8_both5_0 24 rfl rfl
theorem dksX8_both5_2 : cX8_both5.data.toList.drop 46 = dktX8_both5_2 := dk_seg dksX8_both5_1 22 rfl rfl
theorem dX8_both5_0 : decode cX8_both5 0 = .ok (.aload_n 0, 1) := dk_42 (dk_at dksX8_both5_0 0 rfl rfl)
theorem dX8_both5_1 : decode cX8_both5 1 = .ok (.invokevirtual 227, 3) := dk_182 0 227 (dk_at dksX8_both5_0 1 rfl rfl)
theorem dX8_both5_4 : decode cX8_both5 4 = .ok (.istore_n 1, 1) := dk_60 (dk_at dksX8_both5_0 4 rfl rfl)
theorem dX8_both5_5 : decode cX8_both5 5 = .ok (.aload_n 0, 1) := dk_42 (dk_at dksX8_both5_0 5 rfl rfl)
theorem dX8_both5_6 : decode cX8_both5 6 = .ok (.bipush 97, 2) := dk_16 97 (dk_at dksX8_both5_0 6 rfl rfl)
theorem dX8_both5_8 : decode cX8_both5 8 = .ok (.bipush 110, 2) := dk_16 110 (dk_at dksX8_both5_0 8 rfl rfl)
theorem dX8_both5_10 : decode cX8_both5 10 = .ok (.bipush 100, 2) := dk_16 100 (dk_at dksX8_both5_0 10 rfl rfl)
theorem dX8_both5_12 : decode cX8_both5 12 = .ok (.iconst 0, 1) := dk_3 (dk_at dksX8_both5_0 12 rfl rfl)
theorem dX8_both5_13 : decode cX8_both5 13 = .ok (.iconst 0, 1) := dk_3 (dk_at dksX8_both5_0 13 rfl rfl)
theorem dX8_both5_14 : decode cX8_both5 14 = .ok (.iconst 0, 1) := dk_3 (dk_at dksX8_both5_0 14 rfl rfl)
theorem dX8_both5_15 : decode cX8_both5 15 = .ok (.iconst 0, 1) := dk_3 (dk_at dksX8_both5_0 15 rfl rfl)
theorem dX8_both5_16 : decode cX8_both5 16 = .ok (.iconst 0, 1) := dk_3 (dk_at dksX8_both5_0 16 rfl rfl)
theorem dX8_both5_17 : decode cX8_both5 17 = .ok (.invokevirtual 181, 3) := dk_182 0 181 (dk_at dksX8_both5_0 17 rfl rfl)
theorem dX8_both5_20 : decode cX8_both5 20 = .ok (.ifCond .eq 29, 3) := dk_153 0 29 (dk_at dksX8_both5_0 20 rfl rfl)
theorem dX8_both5_23 : decode cX8_both5 23 = .ok (.aload_n 0, 1) := dk_42 (dk_at dksX8_both5_0 23 rfl rfl)
theorem dX8_both5_24 : decode cX8_both5 24 = .ok (.invokevirtual 178, 3) := dk_182 0 178 (dk_at dksX8_both5_1 0 rfl rfl)
theorem dX8_both5_27 : decode cX8_both5 27 = .ok (.aload_n 0, 1) := dk_42 (dk_at dksX8_both5_1 3 rfl rfl)
theorem dX8_both5_28 : decode cX8_both5 28 = .ok (.invokevirtual 227, 3) := dk_182 0 227 (dk_at dksX8_both5_1 4 rfl rfl)
theorem dX8_both5_31 : decode cX8_both5 31 = .ok (.istore_n 2, 1) := dk_61 (dk_at dksX8_both5_1 7 rfl rfl)
theorem dX8_both5_32 : decode cX8_both5 32 = .ok (.iload_n 1, 1) := dk_27 (dk_at dksX8_both5_1 8 rfl rfl)
theorem dX8_both5_33 : decode cX8_both5 33 = .ok (.ifCond .eq 11, 3) := dk_153 0 11 (dk_at dksX8_both5_1 9 rfl rfl)
theorem dX8_both5_36 : decode cX8_both5 36 = .ok (.iload_n 2, 1) := dk_28 (dk_at dksX8_both5_1 12 rfl rfl)
theorem dX8_both5_37 : decode cX8_both5 37 = .ok (.ifCond .eq 7, 3) := dk_153 0 7 (dk_at dksX8_both5_1 13 rfl rfl)
theorem dX8_both5_40 : decode cX8_both5 40 = .ok (.iconst 1, 1) := dk_4 (dk_at dksX8_both5_1 16 rfl rfl)
theorem dX8_both5_41 : decode cX8_both5 41 = .ok (.goto 4, 3) := dk_167 0 4 (dk_at dksX8_both5_1 17 rfl rfl)
theorem dX8_both5_44 : decode cX8_both5 44 = .ok (.iconst 0, 1) := dk_3 (dk_at dksX8_both5_1 20 rfl rfl)
theorem dX8_both5_45 : decode cX8_both5 45 = .ok (.istore_n 1, 1) := dk_60 (dk_at dksX8_both5_1 21 rfl rfl)
theorem dX8_both5_46 : decode cX8_both5 46 = .ok (.goto (-41), 3) := dk_167 255 215 (dk_at dksX8_both5_2 0 rfl rfl)
theorem dX8_both5_49 : decode cX8_both5 49 = .ok (.iload_n 1, 1) := dk_27 (dk_at dksX8_both5_2 3 rfl rfl)
theorem dX8_both5_50 : decode cX8_both5 50 = .ok (.ireturn, 1) := dk_172 (dk_at dksX8_both5_2 4 rfl rfl)
def dkwX8_added3_2 : List UInt8 := [62, 28, 153, 0, 9, 27, 29, 96, 167, 0, 6, 27, 29, 100, 60, 167, 255, 198, 27, 172]
abbrev dktX8_added3_2 : List UInt8 := dkwX8_added3_2 ++ []
def dkwX8_added3_1 : List UInt8 := [180, 0, 158, 20, 0, 220, 148, 154, 0, 7, 4, 167, 0, 4, 3, 61, 42, 182, 0, 178, 42, 182, 1, 1]
abbrev dktX8_added3_1 : List UInt8 := dkwX8_added3_1 ++ dktX8_added3_2
def dkwX8_added3_0 : List UInt8 := [42, 182, 1, 1, 60, 42, 16, 43, 182, 0, 203, 154, 0, 12, 42, 16, 45, 182, 0, 203, 153, 0, 46, 42]
abbrev dktX8_added3_0 : List UInt8 := dkwX8_added3_0 ++ dktX8_added3_1
theorem dksX8_added3_0 : cX8_added3.data.toList.drop 0 = dktX8_added3_0 := by decide +kernel
theorem dksX8_added3_1 : cX8_added3.data.toList.drop 24 = dktX8_added3_1 := dk_seg dksX8_added3_0 24 rfl rfl
theorem dksX8_added3_2 : cX8_added3.data.toList.drop 48 = dktX8_added3_2 := dk_seg dksX8_added3_1 24 rfl rfl
theorem dX8_added3_0 : decode cX8_added3 0 = .ok (.aload_n 0, 1) := dk_42 (dk_at dksX8_added3_0 0 rfl rfl)
theorem dX8_added3_1 : decode cX8_added3 1 = .ok (.invokevirtual 257, 3) := dk_182 1 1 (dk_at dksX8_added3_0 1 rfl rfl)
theorem dX8_added3_4 : decode cX8_added3 4 = .ok (.istore_n 1, 1) := dk_60 (dk_at dksX8_added3_0 4 rfl rfl)
theorem dX8_added3_5 : decode cX8_added3 5 = .ok (.aload_n 0, 1) := dk_42 (dk_at dksX8_added3_0 5 rfl rfl)
theorem dX8_added3_6 : decode cX8_added3 6 = .ok (.bipush 43, 2) := dk_16 43 (dk_at dksX8_added3_0 6 rfl rfl)
theorem dX8_added3_8 : decode cX8_added3 8 = .ok (.invokevirtual 203, 3) := dk_182 0 203 (dk_at dksX8_added3_0 8 rfl rfl)
theorem dX8_added3_11 : decode cX8_added3 11 = .ok (.ifCond .ne 12, 3) := dk_154 0 12 (dk_at dksX8_added3_0 11 rfl rfl)
theorem dX8_added3_14 : decode cX8_added3 14 = .ok (.aload_n 0, 1) := dk_42 (dk_at dksX8_added3_0 14 rfl rfl)
theorem dX8_added3_15 : decode cX8_added3 15 = .ok (.bipush 45, 2) := dk_16 45 (dk_at dksX8_added3_0 15 rfl rfl)
theorem dX8_added3_17 : decode cX8_added3 17 = .ok (.invokevirtual 203, 3) := dk_182 0 203 (dk_at dksX8_added3_0 17 rfl rfl)
theorem dX8_added3_20 : decode cX8_added3 20 = .ok (.ifCond .eq 46, 3) := dk_153 0 46 (dk_at dksX8_added3_0 20 rfl rfl)
theorem dX8_added3_23 : decode cX8_added3 23 = .ok (.aload_n 0, 1) := dk_42 (dk_at dksX8_added3_0 23 rfl rfl)
theorem dX8_added3_24 : decode cX8_added3 24 = .ok (.getfield 158, 3) := dk_180 0 158 (dk_at dksX8_added3_1 0 rfl rfl)
theorem dX8_added3_27 : decode cX8_added3 27 = .ok (.ldc2_w 220, 3) := dk_20 0 220 (dk_at dksX8_added3_1 3 rfl rfl)
theorem dX8_added3_30 : decode cX8_added3 30 = .ok (.lcmp, 1) := dk_148 (dk_at dksX8_added3_1 6 rfl rfl)
theorem dX8_added3_31 : decode cX8_added3 31 = .ok (.ifCond .ne 7, 3) := dk_154 0 7 (dk_at dksX8_added3_1 7 rfl rfl)
theorem dX8_added3_34 : decode cX8_added3 34 = .ok (.iconst 1, 1) := dk_4 (dk_at dksX8_added3_1 10 rfl rfl)
theorem dX8_added3_35 : decode cX8_added3 35 = .ok (.goto 4, 3) := dk_167 0 4 (dk_at dksX8_added3_1 11 rfl rfl)
theorem dX8_added3_38 : decode cX8_added3 38 = .ok (.iconst 0, 1) := dk_3 (dk_at dksX8_added3_1 14 rfl rfl)
theorem dX8_added3_39 : decode cX8_added3 39 = .ok (.istore_n 2, 1) := dk_61 (dk_at dksX8_added3_1 15 rfl rfl)
theorem dX8_added3_40 : decode cX8_added3 40 = .ok (.aload_n 0, 1) := dk_42 (dk_at dksX8_added3_1 16 rfl rfl)
theorem dX8_added3_41 : decode cX8_added3 41 = .ok (.invokevirtual 178, 3) := dk_182 0 178 (dk_at dksX8_added3_1 17 rfl rfl)
theorem dX8_added3_44 : decode cX8_added3 44 = .ok (.aload_n 0, 1) := dk_42 (dk_at dksX8_added3_1 20 rfl rfl)
theorem dX8_added3_45 : decode cX8_added3 45 = .ok (.invokevirtual 257, 3) := dk_182 1 1 (dk_at dksX8_added3_1 21 rfl rfl)
theorem dX8_added3_48 : decode cX8_added3 48 = .ok (.istore_n 3, 1) := dk_62 (dk_at dksX8_added3_2 0 rfl rfl)
theorem dX8_added3_49 : decode cX8_added3 49 = .ok (.iload_n 2, 1) := dk_28 (dk_at dksX8_added3_2 1 rfl rfl)
theorem dX8_added3_50 : decode cX8_added3 50 = .ok (.ifCond .eq 9, 3) := dk_153 0 9 (dk_at dksX8_added3_2 2 rfl rfl)
theorem dX8_added3_53 : decode cX8_added3 53 = .ok (.iload_n 1, 1) := dk_27 (dk_at dksX8_added3_2 5 rfl rfl)
theorem dX8_added3_54 : decode cX8_added3 54 = .ok (.iload_n 3, 1) := dk_29 (dk_at dksX8_added3_2 6 rfl rfl)
theorem dX8_added3_55 : decode cX8_added3 55 = .ok (.iadd, 1) := dk_96 (dk_at dksX8_added3_2 7 rfl rfl)
theorem dX8_added3_56 : decode cX8_added3 56 = .ok (.goto 6, 3) := dk_167 0 6 (dk_at dksX8_added3_2 8 rfl rfl)
theorem dX8_added3_59 : decode cX8_added3 59 = .ok (.iload_n 1, 1) := dk_27 (dk_at dksX8_added3_2 11 rfl rfl)
theorem dX8_added3_60 : decode cX8_added3 60 = .ok (.iload_n 3, 1) := dk_29 (dk_at dksX8_added3_2 12 rfl rfl)
theorem dX8_added3_61 : decode cX8_added3 61 = .ok (.isub, 1) := dk_100 (dk_at dksX8_added3_2 13 rfl rfl)
theorem dX8_added3_62 : decode cX8_added3 62 = .ok (.istore_n 1, 1) := dk_60 (dk_at dksX8_added3_2 14 rfl rfl)
theorem dX8_added3_63 : decode cX8_added3 63 = .ok (.goto (-58), 3) := dk_167 255 198 (dk_at dksX8_added3_2 15 rfl rfl)
theorem dX8_added3_66 : decode cX8_added3 66 = .ok (.iload_n 1, 1) := dk_27 (dk_at dksX8_added3_2 18 rfl rfl)
theorem dX8_added3_67 : decode cX8_added3 67 = .ok (.ireturn, 1) := dk_172 (dk_at dksX8_added3_2 19 rfl rfl)
def dkwX8_term3_1 : List UInt8 := [60, 167, 255, 236, 27, 172]
abbrev dktX8_term3_1 : List UInt8 := dkwX8_term3_1 ++ []
def dkwX8_term3_0 : List UInt8 := [42, 182, 0, 254, 60, 42, 16, 42, 182, 0, 203, 153, 0, 17, 42, 182, 0, 178, 27, 42, 182, 0, 254, 104]
abbrev dktX8_term3_0 : List UInt8 := dkwX8_term3_0 ++ dktX8_term3_1
theorem dksX8_term3_0 : cX8_term3.data.toList.drop 0 = dktX8_term3_0 := by decide +kernel
theorem dksX8_term3_1 : cX8_term3.data.toList.drop 24 = dktX8_term3_1 := dk_seg dksX8_term3_0 24 rfl rfl
theorem dX8_term3_0 : decode cX8_term3 0 = .ok (.aload_n 0, 1) := dk_42 (dk_at dksX8_term3_0 0 rfl rfl)
theorem dX8_term3_1 : decode cX8_term3 1 = .ok (.invokevirtual 254, 3) := dk_182 0 254 (dk_at dksX8_term3_0 1 rfl rfl)
theorem dX8_term3_4 : decode cX8_term3 4 = .ok (.istore_n 1, 1) := dk_60 (dk_at dksX8_term3_0 4 rfl rfl)
theorem dX8_term3_5 : decode cX8_term3 5 = .ok (.aload_n 0, 1) := dk_42 (dk_at dksX8_term3_0 5 rfl rfl)
theorem dX8_term3_6 : decode cX8_term3 6 = .ok (.bipush 42, 2) := dk_16 42 (dk_at dksX8_term3_0 6 rfl rfl)
theorem dX8_term3_8 : decode cX8_term3 8 = .ok (.invokevirtual 203, 3) := dk_182 0 203 (dk_at dksX8_term3_0 8 rfl rfl)
theorem dX8_term3_11 : decode cX8_term3 11 = .ok (.ifCond .eq 17, 3) := dk_153 0 17 (dk_at dksX8_term3_0 11 rfl rfl)
theorem dX8_term3_14 : decode cX8_term3 14 = .ok (.aload_n 0, 1) := dk_42 (dk_at dksX8_term3_0 14 rfl rfl)
theorem dX8_term3_15 : decode cX8_term3 15 = .ok (.invokevirtual 178, 3) := dk_182 0 178 (dk_at dksX8_term3_0 15 rfl rfl)
theorem dX8_term3_18 : decode cX8_term3 18 = .ok (.iload_n 1, 1) := dk_27 (dk_at dksX8_term3_0 18 rfl rfl)
theorem dX8_term3_19 : decode cX8_term3 19 = .ok (.aload_n 0, 1) := dk_42 (dk_at dksX8_term3_0 19 rfl rfl)
theorem dX8_term3_20 : decode cX8_term3 20 = .ok (.invokevirtual 254, 3) := dk_182 0 254 (dk_at dksX8_term3_0 20 rfl rfl)
theorem dX8_term3_23 : decode cX8_term3 23 = .ok (.imul, 1) := dk_104 (dk_at dksX8_term3_0 23 rfl rfl)
theorem dX8_term3_24 : decode cX8_term3 24 = .ok (.istore_n 1, 1) := dk_60 (dk_at dksX8_term3_1 0 rfl rfl)
theorem dX8_term3_25 : decode cX8_term3 25 = .ok (.goto (-20), 3) := dk_167 255 236 (dk_at dksX8_term3_1 1 rfl rfl)
theorem dX8_term3_28 : decode cX8_term3 28 = .ok (.iload_n 1, 1) := dk_27 (dk_at dksX8_term3_1 4 rfl rfl)
theorem dX8_term3_29 : decode cX8_term3 29 = .ok (.ireturn, 1) := dk_172 (dk_at dksX8_term3_1 5 rfl rfl)
def dkwX8_atom3_6 : List UInt8 := [182, 0, 210, 60, 42, 180, 0, 162, 154, 0, 14, 42, 182, 0, 178, 167, 0, 7, 42, 182, 0, 175, 27, 172]
abbrev dktX8_atom3_6 : List UInt8 := dkwX8_atom3_6 ++ []
def dkwX8_atom3_5 : List UInt8 := [182, 0, 178, 167, 0, 41, 42, 180, 0, 162, 154, 0, 30, 42, 180, 0, 147, 4, 160, 0, 22, 42]
abbrev dktX8_atom3_5 : List UInt8 := dkwX8_atom3_5 ++ dktX8_atom3_6
def dkwX8_atom3_4 : List UInt8 := [42, 180, 0, 162, 154, 0, 24, 42, 180, 0, 147, 5, 160, 0, 16, 42, 180, 0, 158, 136, 60, 42]
abbrev dktX8_atom3_4 : List UInt8 := dkwX8_atom3_4 ++ dktX8_atom3_5
def dkwX8_atom3_3 : List UInt8 := [42, 89, 180, 0, 172, 4, 100, 181, 0, 172, 42, 180, 0, 162, 154, 0, 76, 42, 182, 0, 178, 167, 0, 69]
abbrev dktX8_atom3_3 : List UInt8 := dkwX8_atom3_3 ++ dktX8_atom3_4
def dkwX8_atom3_2 : List UInt8 := [182, 0, 206, 153, 0, 111, 42, 182, 0, 251, 60, 42, 16, 41, 182, 0, 203, 154, 0, 7, 42, 182, 0, 175]
abbrev dktX8_atom3_2 : List UInt8 := dkwX8_atom3_2 ++ dktX8_atom3_3
def dkwX8_atom3_1 : List UInt8 := [42, 89, 180, 0, 172, 4, 100, 181, 0, 172, 167, 0, 127, 42, 16, 40, 182, 0, 203, 153, 0, 52, 42]
abbrev dktX8_atom3_1 : List UInt8 := dkwX8_atom3_1 ++ dktX8_atom3_2
def dkwX8_atom3_0 : List UInt8 := [3, 60, 42, 16, 45, 182, 0, 203, 153, 0, 29, 42, 182, 0, 206, 153, 0, 146, 42, 182, 0, 236, 116, 60]
abbrev dktX8_atom3_0 : List UInt8 := dkwX8_atom3_0 ++ dktX8_atom3_1
theorem dksX8_atom3_0 : cX8_atom3.data.toList.drop 0 = dktX8_atom3_0 := by decide +kernel
theorem dksX8_atom3_1 : cX8_atom3.data.toList.drop 24 = dktX8_atom3_1 := dk_seg dksX8_atom3_0 24 rfl rfl
theorem dksX8_atom3_2 : cX8_atom3.data.toList.drop 47 = dktX8_atom3_2 := dk_seg dksX8_atom3_1 23 rfl rfl
theorem dksX8_atom3_3 : cX8_atom3.data.toList.drop 71 = dktX8_atom3_3 := dk_seg dksX8_atom3_2 24 rfl rfl
theorem dksX8_atom3_4 : cX8_atom3.data.toList.drop 95 = dktX8_atom3_4 := dk_seg dksX8_atom3_3 24 rfl rfl
theorem dksX8_atom3_5 : cX8_atom3.data.toList.drop 117 = dktX8_atom3_5 := dk_seg dksX8_atom3_4 22 rfl rfl
theorem dksX8_atom3_6 : cX8_atom3.data.toList.drop 139 = dktX8_atom3_6 := dk_seg dksX8_atom3_5 22 rfl rfl
theorem dX8_atom3_0 : decode cX8_atom3 0 = .ok (.iconst 0, 1) := dk_3 (dk_at dksX8_atom3_0 0 rfl rfl)
theorem dX8_atom3_1 : decode cX8_atom3 1 = .ok (.istore_n 1, 1) := dk_60 (dk_at dksX8_atom3_0 1 rfl rfl)
theorem dX8_atom3_2 : decode cX8_atom3 2 = .ok (.aload_n 0, 1) := dk_42 (dk_at dksX8_atom3_0 2 rfl rfl)
theorem dX8_atom3_3 : decode cX8_atom3 3 = .ok (.bipush 45, 2) := dk_16 45 (dk_at dksX8_atom3_0 3 rfl rfl)
theorem dX8_atom3_5 : decode cX8_atom3 5 = .ok (.invokevirtual 203, 3) := dk_182 0 203 (dk_at dksX8_atom3_0 5 rfl rfl)
theorem dX8_atom3_8 : decode cX8_atom3 8 = .ok (.ifCond .eq 29, 3) := dk_153 0 29 (dk_at dksX8_atom3_0 8 rfl rfl)
theorem dX8_atom3_11 : decode cX8_atom3 11 = .ok (.aload_n 0, 1) := dk_42 (dk_at dksX8_atom3_0 11 rfl rfl)
theorem dX8_atom3_12 : decode cX8_atom3 12 = .ok (.invokevirtual 206, 3) := dk_182 0 206 (dk_at dksX8_atom3_0 12 rfl rfl)
theorem dX8_atom3_15 : decode cX8_atom3 15 = .ok (.ifCond .eq 146, 3) := dk_153 0 146 (dk_at dksX8_atom3_0 15 rfl rfl)
theorem dX8_atom3_18 : decode cX8_atom3 18 = .ok (.aload_n 0, 1) := dk_42 (dk_at dksX8_atom3_0 18 rfl rfl)
theorem dX8_atom3_19 : decode cX8_atom3 19 = .ok (.invokevirtual 236, 3) := dk_182 0 236 (dk_at dksX8_atom3_0 19 rfl rfl)
theorem dX8_atom3_22 : decode cX8_atom3 22 = .ok (.ineg, 1) := dk_116 (dk_at dksX8_atom3_0 22 rfl rfl)
theorem dX8_atom3_23 : decode cX8_atom3 23 = .ok (.istore_n 1, 1) := dk_60 (dk_at dksX8_atom3_0 23 rfl rfl)
theorem dX8_atom3_24 : decode cX8_atom3 24 = .ok (.aload_n 0, 1) := dk_42 (dk_at dksX8_atom3_1 0 rfl rfl)
theorem dX8_atom3_25 : decode cX8_atom3 25 = .ok (.dup, 1) := dk_89 (dk_at dksX8_atom3_1 1 rfl rfl)
theorem dX8_atom3_26 : decode cX8_atom3 26 = .ok (.getfield 172, 3) := dk_180 0 172 (dk_at dksX8_atom3_1 2 rfl rfl)
theorem dX8_atom3_29 : decode cX8_atom3 29 = .ok (.iconst 1, 1) := dk_4 (dk_at dksX8_atom3_1 5 rfl rfl)
theorem dX8_atom3_30 : decode cX8_atom3 30 = .ok (.isub, 1) := dk_100 (dk_at dksX8_atom3_1 6 rfl rfl)
theorem dX8_atom3_31 : decode cX8_atom3 31 = .ok (.putfield 172, 3) := dk_181 0 172 (dk_at dksX8_atom3_1 7 rfl rfl)
theorem dX8_atom3_34 : decode cX8_atom3 34 = .ok (.goto 127, 3) := dk_167 0 127 (dk_at dksX8_atom3_1 10 rfl rfl)
theorem dX8_atom3_37 : decode cX8_atom3 37 = .ok (.aload_n 0, 1) := dk_42 (dk_at dksX8_atom3_1 13 rfl rfl)
theorem dX8_atom3_38 : decode cX8_atom3 38 = .ok (.bipush 40, 2) := dk_16 40 (dk_at dksX8_atom3_1 14 rfl rfl)
theorem dX8_atom3_40 : decode cX8_atom3 40 = .ok (.invokevirtual 203, 3) := dk_182 0 203 (dk_at dksX8_atom3_1 16 rfl rfl)
theorem dX8_atom3_43 : decode cX8_atom3 43 = .ok (.ifCond .eq 52, 3) := dk_153 0 52 (dk_at dksX8_atom3_1 19 rfl rfl)
theorem dX8_atom3_46 : decode cX8_atom3 46 = .ok (.aload_n 0, 1) := dk_42 (dk_at dksX8_atom3_1 22 rfl rfl)
theorem dX8_atom3_47 : decode cX8_atom3 47 = .ok (.invokevirtual 206, 3) := dk_182 0 206 (dk_at dksX8_atom3_2 0 rfl rfl)
theorem dX8_atom3_50 : decode cX8_atom3 50 = .ok (.ifCond .eq 111, 3) := dk_153 0 111 (dk_at dksX8_atom3_2 3 rfl rfl)
theorem dX8_atom3_53 : decode cX8_atom3 53 = .ok (.aload_n 0, 1) := dk_42 (dk_at dksX8_atom3_2 6 rfl rfl)
theorem dX8_atom3_54 : decode cX8_atom3 54 = .ok (.invokevirtual 251, 3) := dk_182 0 251 (dk_at dksX8_atom3_2 7 rfl rfl)
theorem dX8_atom3_57 : decode cX8_atom3 57 = .ok (.istore_n 1, 1) := dk_60 (dk_at dksX8_atom3_2 10 rfl rfl)
theorem dX8_atom3_58 : decode cX8_atom3 58 = .ok (.aload_n 0, 1) := dk_42 (dk_at dksX8_atom3_2 11 rfl rfl)
theorem dX8_atom3_59 : decode cX8_atom3 59 = .ok (.bipush 41, 2) := dk_16 41 (dk_at dksX8_atom3_2 12 rfl rfl)
theorem dX8_atom3_61 : decode cX8_atom3 61 = .ok (.invokevirtual 203, 3) := dk_182 0 203 (dk_at dksX8_atom3_2 14 rfl rfl)
theorem dX8_atom3_64 : decode cX8_atom3 64 = .ok (.ifCond .ne 7, 3) := dk_154 0 7 (dk_at dksX8_atom3_2 17 rfl rfl)
theorem dX8_atom3_67 : decode cX8_atom3 67 = .ok (.aload_n 0, 1) := dk_42 (dk_at dksX8_atom3_2 20 rfl rfl)
theorem dX8_atom3_68 : decode cX8_atom3 68 = .ok (.invokevirtual 175, 3) := dk_182 0 175 (dk_at dksX8_atom3_2 21 rfl rfl)
theorem dX8_atom3_71 : decode cX8_atom3 71 = .ok (.aload_n 0, 1) := dk_42 (dk_at dksX8_atom3_3 0 rfl rfl)
theorem dX8_atom3_72 : decode cX8_atom3 72 = .ok (.dup, 1) := dk_89 (dk_at dksX8_atom3_3 1 rfl rfl)
theorem dX8_atom3_73 : decode cX8_atom3 73 = .ok (.getfield 172, 3) := dk_180 0 172 (dk_at dksX8_atom3_3 2 rfl rfl)
theorem dX8_atom3_76 : decode cX8_atom3 76 = .ok (.iconst 1, 1) := dk_4 (dk_at dksX8_atom3_3 5 rfl rfl)
theorem dX8_atom3_77 : decode cX8_atom3 77 = .ok (.isub, 1) := dk_100 (dk_at dksX8_atom3_3 6 rfl rfl)
theorem dX8_atom3_78 : decode cX8_atom3 78 = .ok (.putfield 172, 3) := dk_181 0 172 (dk_at dksX8_atom3_3 7 rfl rfl)
theorem dX8_atom3_81 : decode cX8_atom3 81 = .ok (.aload_n 0, 1) := dk_42 (dk_at dksX8_atom3_3 10 rfl rfl)
theorem dX8_atom3_82 : decode cX8_atom3 82 = .ok (.getfield 162, 3) := dk_180 0 162 (dk_at dksX8_atom3_3 11 rfl rfl)
theorem dX8_atom3_85 : decode cX8_atom3 85 = .ok (.ifCond .ne 76, 3) := dk_154 0 76 (dk_at dksX8_atom3_3 14 rfl rfl)
theorem dX8_atom3_88 : decode cX8_atom3 88 = .ok (.aload_n 0, 1) := dk_42 (dk_at dksX8_atom3_3 17 rfl rfl)
theorem dX8_atom3_89 : decode cX8_atom3 89 = .ok (.invokevirtual 178, 3) := dk_182 0 178 (dk_at dksX8_atom3_3 18 rfl rfl)
theorem dX8_atom3_92 : decode cX8_atom3 92 = .ok (.goto 69, 3) := dk_167 0 69 (dk_at dksX8_atom3_3 21 rfl rfl)
theorem dX8_atom3_95 : decode cX8_atom3 95 = .ok (.aload_n 0, 1) := dk_42 (dk_at dksX8_atom3_4 0 rfl rfl)
theorem dX8_atom3_96 : decode cX8_atom3 96 = .ok (.getfield 162, 3) := dk_180 0 162 (dk_at dksX8_atom3_4 1 rfl rfl)
theorem dX8_atom3_99 : decode cX8_atom3 99 = .ok (.ifCond .ne 24, 3) := dk_154 0 24 (dk_at dksX8_atom3_4 4 rfl rfl)
theorem dX8_atom3_102 : decode cX8_atom3 102 = .ok (.aload_n 0, 1) := dk_42 (dk_at dksX8_atom3_4 7 rfl rfl)
theorem dX8_atom3_103 : decode cX8_atom3 103 = .ok (.getfield 147, 3) := dk_180 0 147 (dk_at dksX8_atom3_4 8 rfl rfl)
theorem dX8_atom3_106 : decode cX8_atom3 106 = .ok (.iconst 2, 1) := dk_5 (dk_at dksX8_atom3_4 11 rfl rfl)
theorem dX8_atom3_107 : decode cX8_atom3 107 = .ok (.if_icmp .ne 16, 3) := dk_160 0 16 (dk_at dksX8_atom3_4 12 rfl rfl)
theorem dX8_atom3_110 : decode cX8_atom3 110 = .ok (.aload_n 0, 1) := dk_42 (dk_at dksX8_atom3_4 15 rfl rfl)
theorem dX8_atom3_111 : decode cX8_atom3 111 = .ok (.getfield 158, 3) := dk_180 0 158 (dk_at dksX8_atom3_4 16 rfl rfl)
theorem dX8_atom3_114 : decode cX8_atom3 114 = .ok (.l2i, 1) := dk_136 (dk_at dksX8_atom3_4 19 rfl rfl)
theorem dX8_atom3_115 : decode cX8_atom3 115 = .ok (.istore_n 1, 1) := dk_60 (dk_at dksX8_atom3_4 20 rfl rfl)
theorem dX8_atom3_116 : decode cX8_atom3 116 = .ok (.aload_n 0, 1) := dk_42 (dk_at dksX8_atom3_4 21 rfl rfl)
theorem dX8_atom3_117 : decode cX8_atom3 117 = .ok (.invokevirtual 178, 3) := dk_182 0 178 (dk_at dksX8_atom3_5 0 rfl rfl)
theorem dX8_atom3_120 : decode cX8_atom3 120 = .ok (.goto 41, 3) := dk_167 0 41 (dk_at dksX8_atom3_5 3 rfl rfl)
theorem dX8_atom3_123 : decode cX8_atom3 123 = .ok (.aload_n 0, 1) := dk_42 (dk_at dksX8_atom3_5 6 rfl rfl)
theorem dX8_atom3_124 : decode cX8_atom3 124 = .ok (.getfield 162, 3) := dk_180 0 162 (dk_at dksX8_atom3_5 7 rfl rfl)
theorem dX8_atom3_127 : decode cX8_atom3 127 = .ok (.ifCond .ne 30, 3) := dk_154 0 30 (dk_at dksX8_atom3_5 10 rfl rfl)
theorem dX8_atom3_130 : decode cX8_atom3 130 = .ok (.aload_n 0, 1) := dk_42 (dk_at dksX8_atom3_5 13 rfl rfl)
theorem dX8_atom3_131 : decode cX8_atom3 131 = .ok (.getfield 147, 3) := dk_180 0 147 (dk_at dksX8_atom3_5 14 rfl rfl)
theorem dX8_atom3_134 : decode cX8_atom3 134 = .ok (.iconst 1, 1) := dk_4 (dk_at dksX8_atom3_5 17 rfl rfl)
theorem dX8_atom3_135 : decode cX8_atom3 135 = .ok (.if_icmp .ne 22, 3) := dk_160 0 22 (dk_at dksX8_atom3_5 18 rfl rfl)
theorem dX8_atom3_138 : decode cX8_atom3 138 = .ok (.aload_n 0, 1) := dk_42 (dk_at dksX8_atom3_5 21 rfl rfl)
theorem dX8_atom3_139 : decode cX8_atom3 139 = .ok (.invokevirtual 210, 3) := dk_182 0 210 (dk_at dksX8_atom3_6 0 rfl rfl)
theorem dX8_atom3_142 : decode cX8_atom3 142 = .ok (.istore_n 1, 1) := dk_60 (dk_at dksX8_atom3_6 3 rfl rfl)
theorem dX8_atom3_143 : decode cX8_atom3 143 = .ok (.aload_n 0, 1) := dk_42 (dk_at dksX8_atom3_6 4 rfl rfl)
theorem dX8_atom3_144 : decode cX8_atom3 144 = .ok (.getfield 162, 3) := dk_180 0 162 (dk_at dksX8_atom3_6 5 rfl rfl)
theorem dX8_atom3_147 : decode cX8_atom3 147 = .ok (.ifCond .ne 14, 3) := dk_154 0 14 (dk_at dksX8_atom3_6 8 rfl rfl)
theorem dX8_atom3_150 : decode cX8_atom3 150 = .ok (.aload_n 0, 1) := dk_42 (dk_at dksX8_atom3_6 11 rfl rfl)
theorem dX8_atom3_151 : decode cX8_atom3 151 = .ok (.invokevirtual 178, 3) := dk_182 0 178 (dk_at dksX8_atom3_6 12 rfl rfl)
theorem dX8_atom3_154 : decode cX8_atom3 154 = .ok (.goto 7, 3) := dk_167 0 7 (dk_at dksX8_atom3_6 15 rfl rfl)
theorem dX8_atom3_157 : decode cX8_atom3 157 = .ok (.aload_n 0, 1) := dk_42 (dk_at dksX8_atom3_6 18 rfl rfl)
theorem dX8_atom3_158 : decode cX8_atom3 158 = .ok (.invokevirtual 175, 3) := dk_182 0 175 (dk_at dksX8_atom3_6 19 rfl rfl)
theorem dX8_atom3_161 : decode cX8_atom3 161 = .ok (.iload_n 1, 1) := dk_27 (dk_at dksX8_atom3_6 22 rfl rfl)
theorem dX8_atom3_162 : decode cX8_atom3 162 = .ok (.ireturn, 1) := dk_172 (dk_at dksX8_atom3_6 23 rfl rfl)
def dkwX8_either4_2 : List UInt8 := [167, 255, 216, 27, 172]
abbrev dktX8_either4_2 : List UInt8 := dkwX8_either4_2 ++ []
def dkwX8_either4_1 : List UInt8 := [182, 0, 178, 42, 182, 0, 248, 61, 27, 154, 0, 7, 28, 153, 0, 7, 4, 167, 0, 4, 3, 60]
abbrev dktX8_either4_1 : List UInt8 := dkwX8_either4_1 ++ dktX8_either4_2
def dkwX8_either4_0 : List UInt8 := [42, 182, 0, 248, 60, 42, 16, 111, 16, 114, 3, 3, 3, 3, 3, 3, 182, 0, 181, 153, 0, 29, 42]
abbrev dktX8_either4_0 : List UInt8 := dkwX8_either4_0 ++ dktX8_either4_1
theorem dksX8_either4_0 : cX8_either4.data.toList.drop 0 = dktX8_either4_0 := by decide +kernel
theorem dksX8_either4_1 : cX8_either4.data.toList.drop 23 = dktX8_either4_1 := dk_seg dksX8_either4_0 23 rfl rfl
theorem dksX8_either4_2 : cX8_either4.data.toList.drop 45 = dktX8_either4_2 := dk_seg dksX8_either4_1 22 rfl rfl
theorem dX8_either4_0 : decode cX8_either4 0 = .ok (.aload_n 0, 1) := dk_42 (dk_at dksX8_either4_0 0 rfl rfl)
theorem dX8_either4_1 : decode cX8_either4 1 = .ok (.invokevirtual 248, 3) := dk_182 0 248 (dk_at dksX8_either4_0 1 rfl rfl)
theorem dX8_either4_4 : decode cX8_either4 4 = .ok (.istore_n 1, 1) := dk_60 (dk_at dksX8_either4_0 4 rfl rfl)
theorem dX8_either4_5 : decode cX8_either4 5 = .ok (.aload_n 0, 1) := dk_42 (dk_at dksX8_either4_0 5 rfl rfl)
theorem dX8_either4_6 : decode cX8_either4 6 = .ok (.bipush 111, 2) := dk_16 111 (dk_at dksX8_either4_0 6 rfl rfl)
theorem dX8_either4_8 : decode cX8_either4 8 = .ok (.bipush 114, 2) := dk_16 114 (dk_at dksX8_either4_0 8 rfl rfl)
theorem dX8_either4_10 : decode cX8_either4 10 = .ok (.iconst 0, 1) := dk_3 (dk_at dksX8_either4_0 10 rfl rfl)
theorem dX8_either4_11 : decode cX8_either4 11 = .ok (.iconst 0, 1) := dk_3 (dk_at dksX8_either4_0 11 rfl rfl)
theorem dX8_either4_12 : decode cX8_either4 12 = .ok (.iconst 0, 1) := dk_3 (dk_at dksX8_either4_0 12 rfl rfl)
theorem dX8_either4_13 : decode cX8_either4 13 = .ok (.iconst 0, 1) := dk_3 (dk_at dksX8_either4_0 13 rfl rfl)
theorem dX8_either4_14 : decode cX8_either4 14 = .ok (.iconst 0, 1) := dk_3 (dk_at dksX8_either4_0 14 rfl rfl)
theorem dX8_either4_15 : decode cX8_either4 15 = .ok (.iconst 0, 1) := dk_3 (dk_at dksX8_either4_0 15 rfl rfl)
theorem dX8_either4_16 : decode cX8_either4 16 = .ok (.invokevirtual 181, 3) := dk_182 0 181 (dk_at dksX8_either4_0 16 rfl rfl)
theorem dX8_either4_19 : decode cX8_either4 19 = .ok (.ifCond .eq 29, 3) := dk_153 0 29 (dk_at dksX8_either4_0 19 rfl rfl)
theorem dX8_either4_22 : decode cX8_either4 22 = .ok (.aload_n 0, 1) := dk_42 (dk_at dksX8_either4_0 22 rfl rfl)
theorem dX8_either4_23 : decode cX8_either4 23 = .ok (.invokevirtual 178, 3) := dk_182 0 178 (dk_at dksX8_either4_1 0 rfl rfl)
theorem dX8_either4_26 : decode cX8_either4 26 = .ok (.aload_n 0, 1) := dk_42 (dk_at dksX8_either4_1 3 rfl rfl)
theorem dX8_either4_27 : decode cX8_either4 27 = .ok (.invokevirtual 248, 3) := dk_182 0 248 (dk_at dksX8_either4_1 4 rfl rfl)
theorem dX8_either4_30 : decode cX8_either4 30 = .ok (.istore_n 2, 1) := dk_61 (dk_at dksX8_either4_1 7 rfl rfl)
theorem dX8_either4_31 : decode cX8_either4 31 = .ok (.iload_n 1, 1) := dk_27 (dk_at dksX8_either4_1 8 rfl rfl)
theorem dX8_either4_32 : decode cX8_either4 32 = .ok (.ifCond .ne 7, 3) := dk_154 0 7 (dk_at dksX8_either4_1 9 rfl rfl)
theorem dX8_either4_35 : decode cX8_either4 35 = .ok (.iload_n 2, 1) := dk_28 (dk_at dksX8_either4_1 12 rfl rfl)
theorem dX8_either4_36 : decode cX8_either4 36 = .ok (.ifCond .eq 7, 3) := dk_153 0 7 (dk_at dksX8_either4_1 13 rfl rfl)
theorem dX8_either4_39 : decode cX8_either4 39 = .ok (.iconst 1, 1) := dk_4 (dk_at dksX8_either4_1 16 rfl rfl)
theorem dX8_either4_40 : decode cX8_either4 40 = .ok (.goto 4, 3) := dk_167 0 4 (dk_at dksX8_either4_1 17 rfl rfl)
theorem dX8_either4_43 : decode cX8_either4 43 = .ok (.iconst 0, 1) := dk_3 (dk_at dksX8_either4_1 20 rfl rfl)
theorem dX8_either4_44 : decode cX8_either4 44 = .ok (.istore_n 1, 1) := dk_60 (dk_at dksX8_either4_1 21 rfl rfl)
theorem dX8_either4_45 : decode cX8_either4 45 = .ok (.goto (-40), 3) := dk_167 255 216 (dk_at dksX8_either4_2 0 rfl rfl)
theorem dX8_either4_48 : decode cX8_either4 48 = .ok (.iload_n 1, 1) := dk_27 (dk_at dksX8_either4_2 3 rfl rfl)
theorem dX8_either4_49 : decode cX8_either4 49 = .ok (.ireturn, 1) := dk_172 (dk_at dksX8_either4_2 4 rfl rfl)
def dkwX8_both4_2 : List UInt8 := [167, 255, 215, 27, 172]
abbrev dktX8_both4_2 : List UInt8 := dkwX8_both4_2 ++ []
def dkwX8_both4_1 : List UInt8 := [182, 0, 178, 42, 182, 0, 245, 61, 27, 153, 0, 11, 28, 153, 0, 7, 4, 167, 0, 4, 3, 60]
abbrev dktX8_both4_1 : List UInt8 := dkwX8_both4_1 ++ dktX8_both4_2
def dkwX8_both4_0 : List UInt8 := [42, 182, 0, 245, 60, 42, 16, 97, 16, 110, 16, 100, 3, 3, 3, 3, 3, 182, 0, 181, 153, 0, 29, 42]
abbrev dktX8_both4_0 : List UInt8 := dkwX8_both4_0 ++ dktX8_both4_1
theorem dksX8_both4_0 : cX8_both4.data.toList.drop 0 = dktX8_both4_0 := by decide +kernel
theorem dksX8_both4_1 : cX8_both4.data.toList.drop 24 = dktX8_both4_1 := dk_seg dksX8_both4_0 24 rfl rfl
theorem dksX8_both4_2 : cX8_both4.data.toList.drop 46 = dktX8_both4_2 := dk_seg dksX8_both4_1 22 rfl rfl
theorem dX8_both4_0 : decode cX8_both4 0 = .ok (.aload_n 0, 1) := dk_42 (dk_at dksX8_both4_0 0 rfl rfl)
theorem dX8_both4_1 : decode cX8_both4 1 = .ok (.invokevirtual 245, 3) := dk_182 0 245 (dk_at dksX8_both4_0 1 rfl rfl)
theorem dX8_both4_4 : decode cX8_both4 4 = .ok (.istore_n 1, 1) := dk_60 (dk_at dksX8_both4_0 4 rfl rfl)
theorem dX8_both4_5 : decode cX8_both4 5 = .ok (.aload_n 0, 1) := dk_42 (dk_at dksX8_both4_0 5 rfl rfl)
theorem dX8_both4_6 : decode cX8_both4 6 = .ok (.bipush 97, 2) := dk_16 97 (dk_at dksX8_both4_0 6 rfl rfl)
theorem dX8_both4_8 : decode cX8_both4 8 = .ok (.bipush 110, 2) := dk_16 110 (dk_at dksX8_both4_0 8 rfl rfl)
theorem dX8_both4_10 : decode cX8_both4 10 = .ok (.bipush 100, 2) := dk_16 100 (dk_at dksX8_both4_0 10 rfl rfl)
theorem dX8_both4_12 : decode cX8_both4 12 = .ok (.iconst 0, 1) := dk_3 (dk_at dksX8_both4_0 12 rfl rfl)
theorem dX8_both4_13 : decode cX8_both4 13 = .ok (.iconst 0, 1) := dk_3 (dk_at dksX8_both4_0 13 rfl rfl)
theorem dX8_both4_14 : decode cX8_both4 14 = .ok (.iconst 0, 1) := dk_3 (dk_at dksX8_both4_0 14 rfl rfl)
theorem dX8_both4_15 : decode cX8_both4 15 = .ok (.iconst 0, 1) := dk_3 (dk_at dksX8_both4_0 15 rfl rfl)
theorem dX8_both4_16 : decode cX8_both4 16 = .ok (.iconst 0, 1) := dk_3 (dk_at dksX8_both4_0 16 rfl rfl)
theorem dX8_both4_17 : decode cX8_both4 17 = .ok (.invokevirtual 181, 3) := dk_182 0 181 (dk_at dksX8_both4_0 17 rfl rfl)
theorem dX8_both4_20 : decode cX8_both4 20 = .ok (.ifCond .eq 29, 3) := dk_153 0 29 (dk_at dksX8_both4_0 20 rfl rfl)
theorem dX8_both4_23 : decode cX8_both4 23 = .ok (.aload_n 0, 1) := dk_42 (dk_at dksX8_both4_0 23 rfl rfl)
theorem dX8_both4_24 : decode cX8_both4 24 = .ok (.invokevirtual 178, 3) := dk_182 0 178 (dk_at dksX8_both4_1 0 rfl rfl)
theorem dX8_both4_27 : decode cX8_both4 27 = .ok (.aload_n 0, 1) := dk_42 (dk_at dksX8_both4_1 3 rfl rfl)
theorem dX8_both4_28 : decode cX8_both4 28 = .ok (.invokevirtual 245, 3) := dk_182 0 245 (dk_at dksX8_both4_1 4 rfl rfl)
theorem dX8_both4_31 : decode cX8_both4 31 = .ok (.istore_n 2, 1) := dk_61 (dk_at dksX8_both4_1 7 rfl rfl)
theorem dX8_both4_32 : decode cX8_both4 32 = .ok (.iload_n 1, 1) := dk_27 (dk_at dksX8_both4_1 8 rfl rfl)
theorem dX8_both4_33 : decode cX8_both4 33 = .ok (.ifCond .eq 11, 3) := dk_153 0 11 (dk_at dksX8_both4_1 9 rfl rfl)
theorem dX8_both4_36 : decode cX8_both4 36 = .ok (.iload_n 2, 1) := dk_28 (dk_at dksX8_both4_1 12 rfl rfl)
theorem dX8_both4_37 : decode cX8_both4 37 = .ok (.ifCond .eq 7, 3) := dk_153 0 7 (dk_at dksX8_both4_1 13 rfl rfl)
theorem dX8_both4_40 : decode cX8_both4 40 = .ok (.iconst 1, 1) := dk_4 (dk_at dksX8_both4_1 16 rfl rfl)
theorem dX8_both4_41 : decode cX8_both4 41 = .ok (.goto 4, 3) := dk_167 0 4 (dk_at dksX8_both4_1 17 rfl rfl)
theorem dX8_both4_44 : decode cX8_both4 44 = .ok (.iconst 0, 1) := dk_3 (dk_at dksX8_both4_1 20 rfl rfl)
theorem dX8_both4_45 : decode cX8_both4 45 = .ok (.istore_n 1, 1) := dk_60 (dk_at dksX8_both4_1 21 rfl rfl)
theorem dX8_both4_46 : decode cX8_both4 46 = .ok (.goto (-41), 3) := dk_167 255 215 (dk_at dksX8_both4_2 0 rfl rfl)
theorem dX8_both4_49 : decode cX8_both4 49 = .ok (.iload_n 1, 1) := dk_27 (dk_at dksX8_both4_2 3 rfl rfl)
theorem dX8_both4_50 : decode cX8_both4 50 = .ok (.ireturn, 1) := dk_172 (dk_at dksX8_both4_2 4 rfl rfl)
def dkwX8_added2_2 : List UInt8 := [62, 28, 153, 0, 9, 27, 29, 96, 167, 0, 6, 27, 29, 100, 60, 167, 255, 198, 27, 172]
abbrev dktX8_added2_2 : List UInt8 := dkwX8_added2_2 ++ []
def dkwX8_added2_1 : List UInt8 := [180, 0, 158, 20, 0, 220, 148, 154, 0, 7, 4, 167, 0, 4, 3, 61, 42, 182, 0, 178, 42, 182, 1, 19]
abbrev dktX8_added2_1 : List UInt8 := dkwX8_added2_1 ++ dktX8_added2_2
def dkwX8_added2_0 : List UInt8 := [42, 182, 1, 19, 60, 42, 16, 43, 182, 0, 203, 154, 0, 12, 42, 16, 45, 182, 0, 203, 153, 0, 46, 42]
abbrev dktX8_added2_0 : List UInt8 := dkwX8_added2_0 ++ dktX8_added2_1
theorem dksX8_added2_0 : cX8_added2.data.toList.drop 0 = dktX8_added2_0 := by decide +kernel
theorem dksX8_added2_1 : cX8_added2.data.toList.drop 24 = dktX8_added2_1 := dk_seg dksX8_added2_0 24 rfl rfl
theorem dksX8_added2_2 : cX8_added2.data.toList.drop 48 = dktX8_added2_2 := dk_seg dksX8_added2_1 24 rfl rfl
theorem dX8_added2_0 : decode cX8_added2 0 = .ok (.aload_n 0, 1) := dk_42 (dk_at dksX8_added2_0 0 rfl rfl)
theorem dX8_added2_1 : decode cX8_added2 1 = .ok (.invokevirtual 275, 3) := dk_182 1 19 (dk_at dksX8_added2_0 1 rfl rfl)
theorem dX8_added2_4 : decode cX8_added2 4 = .ok (.istore_n 1, 1) := dk_60 (dk_at dksX8_added2_0 4 rfl rfl)
theorem dX8_added2_5 : decode cX8_added2 5 = .ok (.aload_n 0, 1) := dk_42 (dk_at dksX8_added2_0 5 rfl rfl)
theorem dX8_added2_6 : decode cX8_added2 6 = .ok (.bipush 43, 2) := dk_16 43 (dk_at dksX8_added2_0 6 rfl rfl)
theorem dX8_added2_8 : decode cX8_added2 8 = .ok (.invokevirtual 203, 3) := dk_182 0 203 (dk_at dksX8_added2_0 8 rfl rfl)
theorem dX8_added2_11 : decode cX8_added2 11 = .ok (.ifCond .ne 12, 3) := dk_154 0 12 (dk_at dksX8_added2_0 11 rfl rfl)
theorem dX8_added2_14 : decode cX8_added2 14 = .ok (.aload_n 0, 1) := dk_42 (dk_at dksX8_added2_0 14 rfl rfl)
theorem dX8_added2_15 : decode cX8_added2 15 = .ok (.bipush 45, 2) := dk_16 45 (dk_at dksX8_added2_0 15 rfl rfl)
theorem dX8_added2_17 : decode cX8_added2 17 = .ok (.invokevirtual 203, 3) := dk_182 0 203 (dk_at dksX8_added2_0 17 rfl rfl)
theorem dX8_added2_20 : decode cX8_added2 20 = .ok (.ifCond .eq 46, 3) := dk_153 0 46 (dk_at dksX8_added2_0 20 rfl rfl)
theorem dX8_added2_23 : decode cX8_added2 23 = .ok (.aload_n 0, 1) := dk_42 (dk_at dksX8_added2_0 23 rfl rfl)
theorem dX8_added2_24 : decode cX8_added2 24 = .ok (.getfield 158, 3) := dk_180 0 158 (dk_at dksX8_added2_1 0 rfl rfl)
theorem dX8_added2_27 : decode cX8_added2 27 = .ok (.ldc2_w 220, 3) := dk_20 0 220 (dk_at dksX8_added2_1 3 rfl rfl)
theorem dX8_added2_30 : decode cX8_added2 30 = .ok (.lcmp, 1) := dk_148 (dk_at dksX8_added2_1 6 rfl rfl)
theorem dX8_added2_31 : decode cX8_added2 31 = .ok (.ifCond .ne 7, 3) := dk_154 0 7 (dk_at dksX8_added2_1 7 rfl rfl)
theorem dX8_added2_34 : decode cX8_added2 34 = .ok (.iconst 1, 1) := dk_4 (dk_at dksX8_added2_1 10 rfl rfl)
theorem dX8_added2_35 : decode cX8_added2 35 = .ok (.goto 4, 3) := dk_167 0 4 (dk_at dksX8_added2_1 11 rfl rfl)
theorem dX8_added2_38 : decode cX8_added2 38 = .ok (.iconst 0, 1) := dk_3 (dk_at dksX8_added2_1 14 rfl rfl)
theorem dX8_added2_39 : decode cX8_added2 39 = .ok (.istore_n 2, 1) := dk_61 (dk_at dksX8_added2_1 15 rfl rfl)
theorem dX8_added2_40 : decode cX8_added2 40 = .ok (.aload_n 0, 1) := dk_42 (dk_at dksX8_added2_1 16 rfl rfl)
theorem dX8_added2_41 : decode cX8_added2 41 = .ok (.invokevirtual 178, 3) := dk_182 0 178 (dk_at dksX8_added2_1 17 rfl rfl)
theorem dX8_added2_44 : decode cX8_added2 44 = .ok (.aload_n 0, 1) := dk_42 (dk_at dksX8_added2_1 20 rfl rfl)
theorem dX8_added2_45 : decode cX8_added2 45 = .ok (.invokevirtual 275, 3) := dk_182 1 19 (dk_at dksX8_added2_1 21 rfl rfl)
theorem dX8_added2_48 : decode cX8_added2 48 = .ok (.istore_n 3, 1) := dk_62 (dk_at dksX8_added2_2 0 rfl rfl)
theorem dX8_added2_49 : decode cX8_added2 49 = .ok (.iload_n 2, 1) := dk_28 (dk_at dksX8_added2_2 1 rfl rfl)
theorem dX8_added2_50 : decode cX8_added2 50 = .ok (.ifCond .eq 9, 3) := dk_153 0 9 (dk_at dksX8_added2_2 2 rfl rfl)
theorem dX8_added2_53 : decode cX8_added2 53 = .ok (.iload_n 1, 1) := dk_27 (dk_at dksX8_added2_2 5 rfl rfl)
theorem dX8_added2_54 : decode cX8_added2 54 = .ok (.iload_n 3, 1) := dk_29 (dk_at dksX8_added2_2 6 rfl rfl)
theorem dX8_added2_55 : decode cX8_added2 55 = .ok (.iadd, 1) := dk_96 (dk_at dksX8_added2_2 7 rfl rfl)
theorem dX8_added2_56 : decode cX8_added2 56 = .ok (.goto 6, 3) := dk_167 0 6 (dk_at dksX8_added2_2 8 rfl rfl)
theorem dX8_added2_59 : decode cX8_added2 59 = .ok (.iload_n 1, 1) := dk_27 (dk_at dksX8_added2_2 11 rfl rfl)
theorem dX8_added2_60 : decode cX8_added2 60 = .ok (.iload_n 3, 1) := dk_29 (dk_at dksX8_added2_2 12 rfl rfl)
theorem dX8_added2_61 : decode cX8_added2 61 = .ok (.isub, 1) := dk_100 (dk_at dksX8_added2_2 13 rfl rfl)
theorem dX8_added2_62 : decode cX8_added2 62 = .ok (.istore_n 1, 1) := dk_60 (dk_at dksX8_added2_2 14 rfl rfl)
theorem dX8_added2_63 : decode cX8_added2 63 = .ok (.goto (-58), 3) := dk_167 255 198 (dk_at dksX8_added2_2 15 rfl rfl)
theorem dX8_added2_66 : decode cX8_added2 66 = .ok (.iload_n 1, 1) := dk_27 (dk_at dksX8_added2_2 18 rfl rfl)
theorem dX8_added2_67 : decode cX8_added2 67 = .ok (.ireturn, 1) := dk_172 (dk_at dksX8_added2_2 19 rfl rfl)
def dkwX8_term2_1 : List UInt8 := [60, 167, 255, 236, 27, 172]
abbrev dktX8_term2_1 : List UInt8 := dkwX8_term2_1 ++ []
def dkwX8_term2_0 : List UInt8 := [42, 182, 1, 16, 60, 42, 16, 42, 182, 0, 203, 153, 0, 17, 42, 182, 0, 178, 27, 42, 182, 1, 16, 104]
abbrev dktX8_term2_0 : List UInt8 := dkwX8_term2_0 ++ dktX8_term2_1
theorem dksX8_term2_0 : cX8_term2.data.toList.drop 0 = dktX8_term2_0 := by decide +kernel
theorem dksX8_term2_1 : cX8_term2.data.toList.drop 24 = dktX8_term2_1 := dk_seg dksX8_term2_0 24 rfl rfl
theorem dX8_term2_0 : decode cX8_term2 0 = .ok (.aload_n 0, 1) := dk_42 (dk_at dksX8_term2_0 0 rfl rfl)
theorem dX8_term2_1 : decode cX8_term2 1 = .ok (.invokevirtual 272, 3) := dk_182 1 16 (dk_at dksX8_term2_0 1 rfl rfl)
theorem dX8_term2_4 : decode cX8_term2 4 = .ok (.istore_n 1, 1) := dk_60 (dk_at dksX8_term2_0 4 rfl rfl)
theorem dX8_term2_5 : decode cX8_term2 5 = .ok (.aload_n 0, 1) := dk_42 (dk_at dksX8_term2_0 5 rfl rfl)
theorem dX8_term2_6 : decode cX8_term2 6 = .ok (.bipush 42, 2) := dk_16 42 (dk_at dksX8_term2_0 6 rfl rfl)
theorem dX8_term2_8 : decode cX8_term2 8 = .ok (.invokevirtual 203, 3) := dk_182 0 203 (dk_at dksX8_term2_0 8 rfl rfl)
theorem dX8_term2_11 : decode cX8_term2 11 = .ok (.ifCond .eq 17, 3) := dk_153 0 17 (dk_at dksX8_term2_0 11 rfl rfl)
theorem dX8_term2_14 : decode cX8_term2 14 = .ok (.aload_n 0, 1) := dk_42 (dk_at dksX8_term2_0 14 rfl rfl)
theorem dX8_term2_15 : decode cX8_term2 15 = .ok (.invokevirtual 178, 3) := dk_182 0 178 (dk_at dksX8_term2_0 15 rfl rfl)
theorem dX8_term2_18 : decode cX8_term2 18 = .ok (.iload_n 1, 1) := dk_27 (dk_at dksX8_term2_0 18 rfl rfl)
theorem dX8_term2_19 : decode cX8_term2 19 = .ok (.aload_n 0, 1) := dk_42 (dk_at dksX8_term2_0 19 rfl rfl)
theorem dX8_term2_20 : decode cX8_term2 20 = .ok (.invokevirtual 272, 3) := dk_182 1 16 (dk_at dksX8_term2_0 20 rfl rfl)
theorem dX8_term2_23 : decode cX8_term2 23 = .ok (.imul, 1) := dk_104 (dk_at dksX8_term2_0 23 rfl rfl)
theorem dX8_term2_24 : decode cX8_term2 24 = .ok (.istore_n 1, 1) := dk_60 (dk_at dksX8_term2_1 0 rfl rfl)
theorem dX8_term2_25 : decode cX8_term2 25 = .ok (.goto (-20), 3) := dk_167 255 236 (dk_at dksX8_term2_1 1 rfl rfl)
theorem dX8_term2_28 : decode cX8_term2 28 = .ok (.iload_n 1, 1) := dk_27 (dk_at dksX8_term2_1 4 rfl rfl)
theorem dX8_term2_29 : decode cX8_term2 29 = .ok (.ireturn, 1) := dk_172 (dk_at dksX8_term2_1 5 rfl rfl)
def dkwX8_atom2_6 : List UInt8 := [182, 0, 210, 60, 42, 180, 0, 162, 154, 0, 14, 42, 182, 0, 178, 167, 0, 7, 42, 182, 0, 175, 27, 172]
abbrev dktX8_atom2_6 : List UInt8 := dkwX8_atom2_6 ++ []
def dkwX8_atom2_5 : List UInt8 := [182, 0, 178, 167, 0, 41, 42, 180, 0, 162, 154, 0, 30, 42, 180, 0, 147, 4, 160, 0, 22, 42]
abbrev dktX8_atom2_5 : List UInt8 := dkwX8_atom2_5 ++ dktX8_atom2_6
def dkwX8_atom2_4 : List UInt8 := [42, 180, 0, 162, 154, 0, 24, 42, 180, 0, 147, 5, 160, 0, 16, 42, 180, 0, 158, 136, 60, 42]
abbrev dktX8_atom2_4 : List UInt8 := dkwX8_atom2_4 ++ dktX8_atom2_5
def dkwX8_atom2_3 : List UInt8 := [42, 89, 180, 0, 172, 4, 100, 181, 0, 172, 42, 180, 0, 162, 154, 0, 76, 42, 182, 0, 178, 167, 0, 69]
abbrev dktX8_atom2_3 : List UInt8 := dkwX8_atom2_3 ++ dktX8_atom2_4
def dkwX8_atom2_2 : List UInt8 := [182, 0, 206, 153, 0, 111, 42, 182, 1, 13, 60, 42, 16, 41, 182, 0, 203, 154, 0, 7, 42, 182, 0, 175]
abbrev dktX8_atom2_2 : List UInt8 := dkwX8_atom2_2 ++ dktX8_atom2_3
def dkwX8_atom2_1 : List UInt8 := [42, 89, 180, 0, 172, 4, 100, 181, 0, 172, 167, 0, 127, 42, 16, 40, 182, 0, 203, 153, 0, 52, 42]
abbrev dktX8_atom2_1 : List UInt8 := dkwX8_atom2_1 ++ dktX8_atom2_2
def dkwX8_atom2_0 : List UInt8 := [3, 60, 42, 16, 45, 182, 0, 203, 153, 0, 29, 42, 182, 0, 206, 153, 0, 146, 42, 182, 0, 254, 116, 60]
abbrev dktX8_atom2_0 : List UInt8 := dkwX8_atom2_0 ++ dktX8_atom2_1
theorem dksX8_atom2_0 : cX8_atom2.data.toList.drop 0 = dktX8_atom2_0 := by decide +kernel
theorem dksX8_atom2_1 : cX8_atom2.data.toList.drop 24 = dktX8_atom2_1 := dk_seg dksX8_atom2_0 24 rfl rfl
theorem dksX8_atom2_2 : cX8_atom2.data.toList.drop 47 = dktX8_atom2_2 := dk_seg dksX8_atom2_1 23 rfl rfl
theorem dksX8_atom2_3 : cX8_atom2.data.toList.drop 71 = dktX8_atom2_3 := dk_seg dksX8_atom2_2 24 rfl rfl
theorem dksX8_atom2_4 : cX8_atom2.data.toList.drop 95 = dktX8_atom2_4 := dk_seg dksX8_atom2_3 24 rfl rfl
theorem dksX8_atom2_5 : cX8_atom2.data.toList.drop 117 = dktX8_atom2_5 := dk_seg dksX8_atom2_4 22 rfl rfl
theorem dksX8_atom2_6 : cX8_atom2.data.toList.drop 139 = dktX8_atom2_6 := dk_seg dksX8_atom2_5 22 rfl rfl
theorem dX8_atom2_0 : decode cX8_atom2 0 = .ok (.iconst 0, 1) := dk_3 (dk_at dksX8_atom2_0 0 rfl rfl)
theorem dX8_atom2_1 : decode cX8_atom2 1 = .ok (.istore_n 1, 1) := dk_60 (dk_at dksX8_atom2_0 1 rfl rfl)
theorem dX8_atom2_2 : decode cX8_atom2 2 = .ok (.aload_n 0, 1) := dk_42 (dk_at dksX8_atom2_0 2 rfl rfl)
theorem dX8_atom2_3 : decode cX8_atom2 3 = .ok (.bipush 45, 2) := dk_16 45 (dk_at dksX8_atom2_0 3 rfl rfl)
theorem dX8_atom2_5 : decode cX8_atom2 5 = .ok (.invokevirtual 203, 3) := dk_182 0 203 (dk_at dksX8_atom2_0 5 rfl rfl)
theorem dX8_atom2_8 : decode cX8_atom2 8 = .ok (.ifCond .eq 29, 3) := dk_153 0 29 (dk_at dksX8_atom2_0 8 rfl rfl)
theorem dX8_atom2_11 : decode cX8_atom2 11 = .ok (.aload_n 0, 1) := dk_42 (dk_at dksX8_atom2_0 11 rfl rfl)
theorem dX8_atom2_12 : decode cX8_atom2 12 = .ok (.invokevirtual 206, 3) := dk_182 0 206 (dk_at dksX8_atom2_0 12 rfl rfl)
theorem dX8_atom2_15 : decode cX8_atom2 15 = .ok (.ifCond .eq 146, 3) := dk_153 0 146 (dk_at dksX8_atom2_0 15 rfl rfl)
theorem dX8_atom2_18 : decode cX8_atom2 18 = .ok (.aload_n 0, 1) := dk_42 (dk_at dksX8_atom2_0 18 rfl rfl)
theorem dX8_atom2_19 : decode cX8_atom2 19 = .ok (.invokevirtual 254, 3) := dk_182 0 254 (dk_at dksX8_atom2_0 19 rfl rfl)
theorem dX8_atom2_22 : decode cX8_atom2 22 = .ok (.ineg, 1) := dk_116 (dk_at dksX8_atom2_0 22 rfl rfl)
theorem dX8_atom2_23 : decode cX8_atom2 23 = .ok (.istore_n 1, 1) := dk_60 (dk_at dksX8_atom2_0 23 rfl rfl)
theorem dX8_atom2_24 : decode cX8_atom2 24 = .ok (.aload_n 0, 1) := dk_42 (dk_at dksX8_atom2_1 0 rfl rfl)
theorem dX8_atom2_25 : decode cX8_atom2 25 = .ok (.dup, 1) := dk_89 (dk_at dksX8_atom2_1 1 rfl rfl)
theorem dX8_atom2_26 : decode cX8_atom2 26 = .ok (.getfield 172, 3) := dk_180 0 172 (dk_at dksX8_atom2_1 2 rfl rfl)
theorem dX8_atom2_29 : decode cX8_atom2 29 = .ok (.iconst 1, 1) := dk_4 (dk_at dksX8_atom2_1 5 rfl rfl)
theorem dX8_atom2_30 : decode cX8_atom2 30 = .ok (.isub, 1) := dk_100 (dk_at dksX8_atom2_1 6 rfl rfl)
theorem dX8_atom2_31 : decode cX8_atom2 31 = .ok (.putfield 172, 3) := dk_181 0 172 (dk_at dksX8_atom2_1 7 rfl rfl)
theorem dX8_atom2_34 : decode cX8_atom2 34 = .ok (.goto 127, 3) := dk_167 0 127 (dk_at dksX8_atom2_1 10 rfl rfl)
theorem dX8_atom2_37 : decode cX8_atom2 37 = .ok (.aload_n 0, 1) := dk_42 (dk_at dksX8_atom2_1 13 rfl rfl)
theorem dX8_atom2_38 : decode cX8_atom2 38 = .ok (.bipush 40, 2) := dk_16 40 (dk_at dksX8_atom2_1 14 rfl rfl)
theorem dX8_atom2_40 : decode cX8_atom2 40 = .ok (.invokevirtual 203, 3) := dk_182 0 203 (dk_at dksX8_atom2_1 16 rfl rfl)
theorem dX8_atom2_43 : decode cX8_atom2 43 = .ok (.ifCond .eq 52, 3) := dk_153 0 52 (dk_at dksX8_atom2_1 19 rfl rfl)
theorem dX8_atom2_46 : decode cX8_atom2 46 = .ok (.aload_n 0, 1) := dk_42 (dk_at dksX8_atom2_1 22 rfl rfl)
theorem dX8_atom2_47 : decode cX8_atom2 47 = .ok (.invokevirtual 206, 3) := dk_182 0 206 (dk_at dksX8_atom2_2 0 rfl rfl)
theorem dX8_atom2_50 : decode cX8_atom2 50 = .ok (.ifCond .eq 111, 3) := dk_153 0 111 (dk_at dksX8_atom2_2 3 rfl rfl)
theorem dX8_atom2_53 : decode cX8_atom2 53 = .ok (.aload_n 0, 1) := dk_42 (dk_at dksX8_atom2_2 6 rfl rfl)
theorem dX8_atom2_54 : decode cX8_atom2 54 = .ok (.invokevirtual 269, 3) := dk_182 1 13 (dk_at dksX8_atom2_2 7 rfl rfl)
theorem dX8_atom2_57 : decode cX8_atom2 57 = .ok (.istore_n 1, 1) := dk_60 (dk_at dksX8_atom2_2 10 rfl rfl)
theorem dX8_atom2_58 : decode cX8_atom2 58 = .ok (.aload_n 0, 1) := dk_42 (dk_at dksX8_atom2_2 11 rfl rfl)
theorem dX8_atom2_59 : decode cX8_atom2 59 = .ok (.bipush 41, 2) := dk_16 41 (dk_at dksX8_atom2_2 12 rfl rfl)
theorem dX8_atom2_61 : decode cX8_atom2 61 = .ok (.invokevirtual 203, 3) := dk_182 0 203 (dk_at dksX8_atom2_2 14 rfl rfl)
theorem dX8_atom2_64 : decode cX8_atom2 64 = .ok (.ifCond .ne 7, 3) := dk_154 0 7 (dk_at dksX8_atom2_2 17 rfl rfl)
theorem dX8_atom2_67 : decode cX8_atom2 67 = .ok (.aload_n 0, 1) := dk_42 (dk_at dksX8_atom2_2 20 rfl rfl)
theorem dX8_atom2_68 : decode cX8_atom2 68 = .ok (.invokevirtual 175, 3) := dk_182 0 175 (dk_at dksX8_atom2_2 21 rfl rfl)
theorem dX8_atom2_71 : decode cX8_atom2 71 = .ok (.aload_n 0, 1) := dk_42 (dk_at dksX8_atom2_3 0 rfl rfl)
theorem dX8_atom2_72 : decode cX8_atom2 72 = .ok (.dup, 1) := dk_89 (dk_at dksX8_atom2_3 1 rfl rfl)
theorem dX8_atom2_73 : decode cX8_atom2 73 = .ok (.getfield 172, 3) := dk_180 0 172 (dk_at dksX8_atom2_3 2 rfl rfl)
theorem dX8_atom2_76 : decode cX8_atom2 76 = .ok (.iconst 1, 1) := dk_4 (dk_at dksX8_atom2_3 5 rfl rfl)
theorem dX8_atom2_77 : decode cX8_atom2 77 = .ok (.isub, 1) := dk_100 (dk_at dksX8_atom2_3 6 rfl rfl)
theorem dX8_atom2_78 : decode cX8_atom2 78 = .ok (.putfield 172, 3) := dk_181 0 172 (dk_at dksX8_atom2_3 7 rfl rfl)
theorem dX8_atom2_81 : decode cX8_atom2 81 = .ok (.aload_n 0, 1) := dk_42 (dk_at dksX8_atom2_3 10 rfl rfl)
theorem dX8_atom2_82 : decode cX8_atom2 82 = .ok (.getfield 162, 3) := dk_180 0 162 (dk_at dksX8_atom2_3 11 rfl rfl)
theorem dX8_atom2_85 : decode cX8_atom2 85 = .ok (.ifCond .ne 76, 3) := dk_154 0 76 (dk_at dksX8_atom2_3 14 rfl rfl)
theorem dX8_atom2_88 : decode cX8_atom2 88 = .ok (.aload_n 0, 1) := dk_42 (dk_at dksX8_atom2_3 17 rfl rfl)
theorem dX8_atom2_89 : decode cX8_atom2 89 = .ok (.invokevirtual 178, 3) := dk_182 0 178 (dk_at dksX8_atom2_3 18 rfl rfl)
theorem dX8_atom2_92 : decode cX8_atom2 92 = .ok (.goto 69, 3) := dk_167 0 69 (dk_at dksX8_atom2_3 21 rfl rfl)
theorem dX8_atom2_95 : decode cX8_atom2 95 = .ok (.aload_n 0, 1) := dk_42 (dk_at dksX8_atom2_4 0 rfl rfl)
theorem dX8_atom2_96 : decode cX8_atom2 96 = .ok (.getfield 162, 3) := dk_180 0 162 (dk_at dksX8_atom2_4 1 rfl rfl)
theorem dX8_atom2_99 : decode cX8_atom2 99 = .ok (.ifCond .ne 24, 3) := dk_154 0 24 (dk_at dksX8_atom2_4 4 rfl rfl)
theorem dX8_atom2_102 : decode cX8_atom2 102 = .ok (.aload_n 0, 1) := dk_42 (dk_at dksX8_atom2_4 7 rfl rfl)
theorem dX8_atom2_103 : decode cX8_atom2 103 = .ok (.getfield 147, 3) := dk_180 0 147 (dk_at dksX8_atom2_4 8 rfl rfl)
theorem dX8_atom2_106 : decode cX8_atom2 106 = .ok (.iconst 2, 1) := dk_5 (dk_at dksX8_atom2_4 11 rfl rfl)
theorem dX8_atom2_107 : decode cX8_atom2 107 = .ok (.if_icmp .ne 16, 3) := dk_160 0 16 (dk_at dksX8_atom2_4 12 rfl rfl)
theorem dX8_atom2_110 : decode cX8_atom2 110 = .ok (.aload_n 0, 1) := dk_42 (dk_at dksX8_atom2_4 15 rfl rfl)
theorem dX8_atom2_111 : decode cX8_atom2 111 = .ok (.getfield 158, 3) := dk_180 0 158 (dk_at dksX8_atom2_4 16 rfl rfl)
theorem dX8_atom2_114 : decode cX8_atom2 114 = .ok (.l2i, 1) := dk_136 (dk_at dksX8_atom2_4 19 rfl rfl)
theorem dX8_atom2_115 : decode cX8_atom2 115 = .ok (.istore_n 1, 1) := dk_60 (dk_at dksX8_atom2_4 20 rfl rfl)
theorem dX8_atom2_116 : decode cX8_atom2 116 = .ok (.aload_n 0, 1) := dk_42 (dk_at dksX8_atom2_4 21 rfl rfl)
theorem dX8_atom2_117 : decode cX8_atom2 117 = .ok (.invokevirtual 178, 3) := dk_182 0 178 (dk_at dksX8_atom2_5 0 rfl rfl)
theorem dX8_atom2_120 : decode cX8_atom2 120 = .ok (.goto 41, 3) := dk_167 0 41 (dk_at dksX8_atom2_5 3 rfl rfl)
theorem dX8_atom2_123 : decode cX8_atom2 123 = .ok (.aload_n 0, 1) := dk_42 (dk_at dksX8_atom2_5 6 rfl rfl)
theorem dX8_atom2_124 : decode cX8_atom2 124 = .ok (.getfield 162, 3) := dk_180 0 162 (dk_at dksX8_atom2_5 7 rfl rfl)
theorem dX8_atom2_127 : decode cX8_atom2 127 = .ok (.ifCond .ne 30, 3) := dk_154 0 30 (dk_at dksX8_atom2_5 10 rfl rfl)
theorem dX8_atom2_130 : decode cX8_atom2 130 = .ok (.aload_n 0, 1) := dk_42 (dk_at dksX8_atom2_5 13 rfl rfl)
theorem dX8_atom2_131 : decode cX8_atom2 131 = .ok (.getfield 147, 3) := dk_180 0 147 (dk_at dksX8_atom2_5 14 rfl rfl)
theorem dX8_atom2_134 : decode cX8_atom2 134 = .ok (.iconst 1, 1) := dk_4 (dk_at dksX8_atom2_5 17 rfl rfl)
theorem dX8_atom2_135 : decode cX8_atom2 135 = .ok (.if_icmp .ne 22, 3) := dk_160 0 22 (dk_at dksX8_atom2_5 18 rfl rfl)
theorem dX8_atom2_138 : decode cX8_atom2 138 = .ok (.aload_n 0, 1) := dk_42 (dk_at dksX8_atom2_5 21 rfl rfl)
theorem dX8_atom2_139 : decode cX8_atom2 139 = .ok (.invokevirtual 210, 3) := dk_182 0 210 (dk_at dksX8_atom2_6 0 rfl rfl)
theorem dX8_atom2_142 : decode cX8_atom2 142 = .ok (.istore_n 1, 1) := dk_60 (dk_at dksX8_atom2_6 3 rfl rfl)
theorem dX8_atom2_143 : decode cX8_atom2 143 = .ok (.aload_n 0, 1) := dk_42 (dk_at dksX8_atom2_6 4 rfl rfl)
theorem dX8_atom2_144 : decode cX8_atom2 144 = .ok (.getfield 162, 3) := dk_180 0 162 (dk_at dksX8_atom2_6 5 rfl rfl)
theorem dX8_atom2_147 : decode cX8_atom2 147 = .ok (.ifCond .ne 14, 3) := dk_154 0 14 (dk_at dksX8_atom2_6 8 rfl rfl)
theorem dX8_atom2_150 : decode cX8_atom2 150 = .ok (.aload_n 0, 1) := dk_42 (dk_at dksX8_atom2_6 11 rfl rfl)
theorem dX8_atom2_151 : decode cX8_atom2 151 = .ok (.invokevirtual 178, 3) := dk_182 0 178 (dk_at dksX8_atom2_6 12 rfl rfl)
theorem dX8_atom2_154 : decode cX8_atom2 154 = .ok (.goto 7, 3) := dk_167 0 7 (dk_at dksX8_atom2_6 15 rfl rfl)
theorem dX8_atom2_157 : decode cX8_atom2 157 = .ok (.aload_n 0, 1) := dk_42 (dk_at dksX8_atom2_6 18 rfl rfl)
theorem dX8_atom2_158 : decode cX8_atom2 158 = .ok (.invokevirtual 175, 3) := dk_182 0 175 (dk_at dksX8_atom2_6 19 rfl rfl)
theorem dX8_atom2_161 : decode cX8_atom2 161 = .ok (.iload_n 1, 1) := dk_27 (dk_at dksX8_atom2_6 22 rfl rfl)
theorem dX8_atom2_162 : decode cX8_atom2 162 = .ok (.ireturn, 1) := dk_172 (dk_at dksX8_atom2_6 23 rfl rfl)
def dkwX8_either3_2 : List UInt8 := [167, 255, 216, 27, 172]
abbrev dktX8_either3_2 : List UInt8 := dkwX8_either3_2 ++ []
def dkwX8_either3_1 : List UInt8 := [182, 0, 178, 42, 182, 1, 10, 61, 27, 154, 0, 7, 28, 153, 0, 7, 4, 167, 0, 4, 3, 60]
abbrev dktX8_either3_1 : List UInt8 := dkwX8_either3_1 ++ dktX8_either3_2
