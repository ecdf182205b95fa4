set_option maxRecDepth 100000
theorem q116 : (Jvm.Cond.initialized "BulbInAStaff") ∈ lw_all := lw_g (lw_at lw_m1 1 rfl) rfl
theorem q147 : (Jvm.Cond.instanceMethod ({ cls := "BulbInAStaff", name := "plant", desc := "(III)I" } : Jvm.MethodName)) ∈ lw_all := lw_g (lw_at lw_m1 32 rfl) rfl
theorem q148 : (Jvm.Cond.selects "BulbInAStaff" ({ cls := "BulbInAStaff", name := "plant", desc := "(III)I" } : Jvm.MethodName) ({ cls := "BulbInAStaff", name := "plant", desc := "(III)I" } : Jvm.MethodName)) ∈ lw_all := lw_g (lw_at lw_m1 33 rfl) rfl
theorem q149 : (Jvm.Cond.code ({ cls := "BulbInAStaff", name := "plant", desc := "(III)I" } : Jvm.MethodName) prog_1_method_6_code (4 : Nat) (Option.some Jvm.ClassFile.FieldType.int)) ∈ lw_all := lw_g (lw_at lw_m1 34 rfl) rfl
theorem q150 : (Jvm.Cond.constantLong "BulbInAStaff" (43 : Nat) (5 : Int64)) ∈ lw_all := lw_g (lw_at lw_m1 35 rfl) rfl
theorem q151 : (Jvm.Cond.methodLink "BulbInAStaff" (14 : Nat) ({ cls := "BulbInAStaff", name := "in", desc := "(JJJ)Z" } : Jvm.MethodName)) ∈ lw_all := lw_g (lw_at lw_m1 36 rfl) rfl
theorem q152 : (Jvm.Cond.static ({ cls := "BulbInAStaff", name := "in", desc := "(JJJ)Z" } : Jvm.MethodName)) ∈ lw_all := lw_g (lw_at lw_m1 37 rfl) rfl
theorem q153 : (Jvm.Cond.code ({ cls := "BulbInAStaff", name := "in", desc := "(JJJ)Z" } : Jvm.MethodName) prog_1_method_1_code (6 : Nat) (Option.some Jvm.ClassFile.FieldType.boolean)) ∈ lw_all := lw_g (lw_at lw_m1 38 rfl) rfl
theorem q154 : (Jvm.Cond.constantLong "BulbInAStaff" (45 : Nat) (9 : Int64)) ∈ lw_all := lw_g (lw_at lw_m1 39 rfl) rfl
theorem q155 : (Jvm.Cond.methodLink "BulbInAStaff" (47 : Nat) ({ cls := "BulbInAStaff", name := "isGarden", desc := "(I)Z" } : Jvm.MethodName)) ∈ lw_all := lw_g (lw_at lw_m1 40 rfl) rfl
theorem q156 : (Jvm.Cond.static ({ cls := "BulbInAStaff", name := "isGarden", desc := "(I)Z" } : Jvm.MethodName)) ∈ lw_all := lw_g (lw_at lw_m1 41 rfl) rfl
theorem q157 : (Jvm.Cond.code ({ cls := "BulbInAStaff", name := "isGarden", desc := "(I)Z" } : Jvm.MethodName) prog_1_method_3_code (1 : Nat) (Option.some Jvm.ClassFile.FieldType.boolean)) ∈ lw_all := lw_g (lw_at lw_m1 42 rfl) rfl
theorem q158 : (Jvm.Cond.constantLong "BulbInAStaff" (12 : Nat) (7 : Int64)) ∈ lw_all := lw_g (lw_at lw_m1 43 rfl) rfl
theorem q159 : (Jvm.Cond.methodLink "BulbInAStaff" (55 : Nat) ({ cls := "BulbInAStaff", name := "made", desc := "(III)LBulbInAStaff$Bulb;" } : Jvm.MethodName)) ∈ lw_all := lw_g (lw_at lw_m1 44 rfl) rfl
theorem q160 : (Jvm.Cond.static ({ cls := "BulbInAStaff", name := "made", desc := "(III)LBulbInAStaff$Bulb;" } : Jvm.MethodName)) ∈ lw_all := lw_g (lw_at lw_m1 45 rfl) rfl
theorem q161 : (Jvm.Cond.code ({ cls := "BulbInAStaff", name := "made", desc := "(III)LBulbInAStaff$Bulb;" } : Jvm.MethodName) prog_1_method_5_code (3 : Nat) (Option.some (Jvm.ClassFile.FieldType.object "BulbInAStaff$Bulb"))) ∈ lw_all := lw_g (lw_at lw_m1 46 rfl) rfl
theorem q162 : (Jvm.Cond.classLink "BulbInAStaff" (22 : Nat) "BulbInAStaff$Twin") ∈ lw_all := lw_g (lw_at lw_m1 47 rfl) rfl
theorem q164 : (Jvm.Cond.methodLink "BulbInAStaff" (24 : Nat) ({ cls := "BulbInAStaff$Twin", name := "<init>", desc := "(II)V" } : Jvm.MethodName)) ∈ lw_all := lw_g (lw_at lw_m1 49 rfl) rfl
theorem q179 : (Jvm.Cond.fieldLink "BulbInAStaff" (76 : Nat) "BulbInAStaff$Bulb" "number" "I") ∈ lw_all := lw_g (lw_at lw_m1 64 rfl) rfl
theorem q182 : (Jvm.Cond.fieldLink "BulbInAStaff" (79 : Nat) "BulbInAStaff$Bulb" "garden" "I") ∈ lw_all := lw_g (lw_at lw_m1 67 rfl) rfl
theorem q185 : (Jvm.Cond.fieldLink "BulbInAStaff" (82 : Nat) "BulbInAStaff$Bulb" "many" "I") ∈ lw_all := lw_g (lw_at lw_m1 70 rfl) rfl
theorem q193 : (Jvm.Cond.classLink "BulbInAStaff" (28 : Nat) "BulbInAStaff$Wild") ∈ lw_all := lw_g (lw_at lw_m1 78 rfl) rfl
theorem q195 : (Jvm.Cond.methodLink "BulbInAStaff" (30 : Nat) ({ cls := "BulbInAStaff$Wild", name := "<init>", desc := "(II)V" } : Jvm.MethodName)) ∈ lw_all := lw_g (lw_at lw_m1 80 rfl) rfl
theorem q203 : (Jvm.Cond.classLink "BulbInAStaff" (31 : Nat) "BulbInAStaff$Triple") ∈ lw_all := lw_g (lw_at lw_m1 88 rfl) rfl
theorem q205 : (Jvm.Cond.methodLink "BulbInAStaff" (33 : Nat) ({ cls := "BulbInAStaff$Triple", name := "<init>", desc := "(II)V" } : Jvm.MethodName)) ∈ lw_all := lw_g (lw_at lw_m1 90 rfl) rfl
theorem q213 : (Jvm.Cond.classLink "BulbInAStaff" (34 : Nat) "BulbInAStaff$Barren") ∈ lw_all := lw_g (lw_at lw_m1 98 rfl) rfl
theorem q215 : (Jvm.Cond.methodLink "BulbInAStaff" (36 : Nat) ({ cls := "BulbInAStaff$Barren", name := "<init>", desc := "(II)V" } : Jvm.MethodName)) ∈ lw_all := lw_g (lw_at lw_m1 100 rfl) rfl
theorem q223 : (Jvm.Cond.classLink "BulbInAStaff" (37 : Nat) "BulbInAStaff$Painted") ∈ lw_all := lw_g (lw_at lw_m1 108 rfl) rfl
theorem q225 : (Jvm.Cond.methodLink "BulbInAStaff" (39 : Nat) ({ cls := "BulbInAStaff$Painted", name := "<init>", desc := "(II)V" } : Jvm.MethodName)) ∈ lw_all := lw_g (lw_at lw_m1 110 rfl) rfl
theorem q233 : (Jvm.Cond.classLink "BulbInAStaff" (40 : Nat) "BulbInAStaff$Bulb") ∈ lw_all := lw_g (lw_at lw_m1 118 rfl) rfl
theorem q235 : (Jvm.Cond.methodLink "BulbInAStaff" (42 : Nat) ({ cls := "BulbInAStaff$Bulb", name := "<init>", desc := "(II)V" } : Jvm.MethodName)) ∈ lw_all := lw_g (lw_at lw_m1 120 rfl) rfl
theorem q241 : (Jvm.Cond.instanceMethod ({ cls := "BulbInAStaff", name := "set", desc := "(III)I" } : Jvm.MethodName)) ∈ lw_all := lw_g (lw_at lw_m1 126 rfl) rfl
theorem q242 : (Jvm.Cond.selects "BulbInAStaff" ({ cls := "BulbInAStaff", name := "set", desc := "(III)I" } : Jvm.MethodName) ({ cls := "BulbInAStaff", name := "set", desc := "(III)I" } : Jvm.MethodName)) ∈ lw_all := lw_g (lw_at lw_m1 127 rfl) rfl
theorem q243 : (Jvm.Cond.code ({ cls := "BulbInAStaff", name := "set", desc := "(III)I" } : Jvm.MethodName) prog_1_method_9_code (5 : Nat) (Option.some Jvm.ClassFile.FieldType.int)) ∈ lw_all := lw_g (lw_at lw_m1 128 rfl) rfl
theorem q244 : (Jvm.Cond.methodLink "BulbInAStaff" (83 : Nat) ({ cls := "BulbInAStaff", name := "isSo", desc := "(III)Z" } : Jvm.MethodName)) ∈ lw_all := lw_g (lw_at lw_m1 129 rfl) rfl
theorem q245 : (Jvm.Cond.privateMethod ({ cls := "BulbInAStaff", name := "isSo", desc := "(III)Z" } : Jvm.MethodName)) ∈ lw_tbl := lw_at lw_m1 130 rfl
theorem q246 : (Jvm.Cond.instanceMethod ({ cls := "BulbInAStaff", name := "isSo", desc := "(III)Z" } : Jvm.MethodName)) ∈ lw_all := lw_g (lw_at lw_m1 131 rfl) rfl
theorem q247 : (Jvm.Cond.instantiable "BulbInAStaff" (31 : Nat)) ∈ lw_all := lw_g (lw_at lw_m1 132 rfl) rfl
theorem q248 : (Jvm.Cond.code ({ cls := "BulbInAStaff", name := "isSo", desc := "(III)Z" } : Jvm.MethodName) prog_1_method_7_code (4 : Nat) (Option.some Jvm.ClassFile.FieldType.boolean)) ∈ lw_all := lw_g (lw_at lw_m1 133 rfl) rfl
theorem q249 : (Jvm.Cond.constantLong "BulbInAStaff" (59 : Nat) (99 : Int64)) ∈ lw_all := lw_g (lw_at lw_m1 134 rfl) rfl
theorem q250 : (Jvm.Cond.methodLink "BulbInAStaff" (61 : Nat) ({ cls := "BulbInAStaff", name := "isPlant", desc := "(I)Z" } : Jvm.MethodName)) ∈ lw_all := lw_g (lw_at lw_m1 135 rfl) rfl
theorem q251 : (Jvm.Cond.privateMethod ({ cls := "BulbInAStaff", name := "isPlant", desc := "(I)Z" } : Jvm.MethodName)) ∈ lw_tbl := lw_at lw_m1 136 rfl
theorem q252 : (Jvm.Cond.instanceMethod ({ cls := "BulbInAStaff", name := "isPlant", desc := "(I)Z" } : Jvm.MethodName)) ∈ lw_all := lw_g (lw_at lw_m1 137 rfl) rfl
theorem q253 : (Jvm.Cond.code ({ cls := "BulbInAStaff", name := "isPlant", desc := "(I)Z" } : Jvm.MethodName) prog_1_method_4_code (2 : Nat) (Option.some Jvm.ClassFile.FieldType.boolean)) ∈ lw_all := lw_g (lw_at lw_m1 138 rfl) rfl
theorem q254 : (Jvm.Cond.constantLong "BulbInAStaff" (64 : Nat) (9999 : Int64)) ∈ lw_all := lw_g (lw_at lw_m1 139 rfl) rfl
theorem q255 : (Jvm.Cond.methodLink "BulbInAStaff" (87 : Nat) ({ cls := "BulbInAStaff", name := "told", desc := "(II)I" } : Jvm.MethodName)) ∈ lw_all := lw_g (lw_at lw_m1 140 rfl) rfl
theorem q256 : (Jvm.Cond.instanceMethod ({ cls := "BulbInAStaff", name := "told", desc := "(II)I" } : Jvm.MethodName)) ∈ lw_all := lw_g (lw_at lw_m1 141 rfl) rfl
theorem q257 : (Jvm.Cond.selects "BulbInAStaff" ({ cls := "BulbInAStaff", name := "told", desc := "(II)I" } : Jvm.MethodName) ({ cls := "BulbInAStaff", name := "told", desc := "(II)I" } : Jvm.MethodName)) ∈ lw_all := lw_g (lw_at lw_m1 142 rfl) rfl
theorem q258 : (Jvm.Cond.code ({ cls := "BulbInAStaff", name := "told", desc := "(II)I" } : Jvm.MethodName) prog_1_method_11_code (3 : Nat) (Option.some Jvm.ClassFile.FieldType.int)) ∈ lw_all := lw_g (lw_at lw_m1 143 rfl) rfl
theorem q259 : (Jvm.Cond.constantLong "BulbInAStaff" (112 : Nat) (3 : Int64)) ∈ lw_all := lw_g (lw_at lw_m1 144 rfl) rfl
theorem q260 : (Jvm.Cond.constantLong "BulbInAStaff" (114 : Nat) (10 : Int64)) ∈ lw_all := lw_g (lw_at lw_m1 145 rfl) rfl
theorem q261 : (Jvm.Cond.methodLink "BulbInAStaff" (116 : Nat) ({ cls := "BulbInAStaff", name := "toldOf", desc := "(II)I" } : Jvm.MethodName)) ∈ lw_all := lw_g (lw_at lw_m1 146 rfl) rfl
theorem q262 : (Jvm.Cond.privateMethod ({ cls := "BulbInAStaff", name := "toldOf", desc := "(II)I" } : Jvm.MethodName)) ∈ lw_tbl := lw_at lw_m1 147 rfl
theorem q263 : (Jvm.Cond.instanceMethod ({ cls := "BulbInAStaff", name := "toldOf", desc := "(II)I" } : Jvm.MethodName)) ∈ lw_all := lw_g (lw_at lw_m1 148 rfl) rfl
theorem q264 : (Jvm.Cond.code ({ cls := "BulbInAStaff", name := "toldOf", desc := "(II)I" } : Jvm.MethodName) prog_1_method_10_code (4 : Nat) (Option.some Jvm.ClassFile.FieldType.int)) ∈ lw_all := lw_g (lw_at lw_m1 149 rfl) rfl
theorem q265 : (Jvm.Cond.methodLink "BulbInAStaff" (94 : Nat) ({ cls := "BulbInAStaff$Bulb", name := "kind", desc := "()I" } : Jvm.MethodName)) ∈ lw_all := lw_g (lw_at lw_m1 150 rfl) rfl
theorem q290 : (Jvm.Cond.methodLink "BulbInAStaff" (98 : Nat) ({ cls := "BulbInAStaff", name := "rotsOf", desc := "(I)I" } : Jvm.MethodName)) ∈ lw_all := lw_g (lw_at lw_m1 175 rfl) rfl
theorem q291 : (Jvm.Cond.privateMethod ({ cls := "BulbInAStaff", name := "rotsOf", desc := "(I)I" } : Jvm.MethodName)) ∈ lw_tbl := lw_at lw_m1 176 rfl
theorem q292 : (Jvm.Cond.instanceMethod ({ cls := "BulbInAStaff", name := "rotsOf", desc := "(I)I" } : Jvm.MethodName)) ∈ lw_all := lw_g (lw_at lw_m1 177 rfl) rfl
theorem q293 : (Jvm.Cond.code ({ cls := "BulbInAStaff", name := "rotsOf", desc := "(I)I" } : Jvm.MethodName) prog_1_method_37_code (2 : Nat) (Option.some Jvm.ClassFile.FieldType.int)) ∈ lw_all := lw_g (lw_at lw_m1 178 rfl) rfl
theorem q294 : (Jvm.Cond.methodLink "BulbInAStaff" (109 : Nat) ({ cls := "BulbInAStaff", name := "asks", desc := "(II)I" } : Jvm.MethodName)) ∈ lw_all := lw_g (lw_at lw_m1 179 rfl) rfl
theorem q295 : (Jvm.Cond.privateMethod ({ cls := "BulbInAStaff", name := "asks", desc := "(II)I" } : Jvm.MethodName)) ∈ lw_tbl := lw_at lw_m1 180 rfl
theorem q296 : (Jvm.Cond.instanceMethod ({ cls := "BulbInAStaff", name := "asks", desc := "(II)I" } : Jvm.MethodName)) ∈ lw_all := lw_g (lw_at lw_m1 181 rfl) rfl
theorem q297 : (Jvm.Cond.code ({ cls := "BulbInAStaff", name := "asks", desc := "(II)I" } : Jvm.MethodName) prog_1_method_36_code (3 : Nat) (Option.some Jvm.ClassFile.FieldType.int)) ∈ lw_all := lw_g (lw_at lw_m1 182 rfl) rfl
theorem q298 : (Jvm.Cond.methodLink "BulbInAStaff" (341 : Nat) ({ cls := "BulbInAStaff$Node", name := "worth", desc := "()I" } : Jvm.MethodName)) ∈ lw_all := lw_g (lw_at lw_m1 183 rfl) rfl
theorem q315 : (Jvm.Cond.methodLink "BulbInAStaff" (344 : Nat) ({ cls := "BulbInAStaff", name := "held", desc := "(III)I" } : Jvm.MethodName)) ∈ lw_all := lw_g (lw_at lw_m1 200 rfl) rfl
theorem q316 : (Jvm.Cond.static ({ cls := "BulbInAStaff", name := "held", desc := "(III)I" } : Jvm.MethodName)) ∈ lw_all := lw_g (lw_at lw_m1 201 rfl) rfl
theorem q317 : (Jvm.Cond.code ({ cls := "BulbInAStaff", name := "held", desc := "(III)I" } : Jvm.MethodName) prog_1_method_2_code (3 : Nat) (Option.some Jvm.ClassFile.FieldType.int)) ∈ lw_all := lw_g (lw_at lw_m1 202 rfl) rfl
theorem q318 : (Jvm.Cond.methodLink "BulbInAStaff" (1 : Nat) ({ cls := "java/lang/Math", name := "min", desc := "(II)I" } : Jvm.MethodName)) ∈ lw_all := lw_g (lw_at lw_m1 203 rfl) rfl
theorem q321 : (Jvm.Cond.methodLink "BulbInAStaff" (7 : Nat) ({ cls := "java/lang/Math", name := "max", desc := "(II)I" } : Jvm.MethodName)) ∈ lw_all := lw_g (lw_at lw_m1 206 rfl) rfl
theorem q324 : (Jvm.Cond.methodLink "BulbInAStaff" (347 : Nat) ({ cls := "BulbInAStaff$Bulb", name := "heldRots", desc := "(II)I" } : Jvm.MethodName)) ∈ lw_all := lw_g (lw_at lw_m1 209 rfl) rfl
theorem q358 : (Jvm.Cond.methodLink "BulbInAStaff" (102 : Nat) ({ cls := "BulbInAStaff$Bulb", name := "heldGrows", desc := "(III)I" } : Jvm.MethodName)) ∈ lw_all := lw_g (lw_at lw_m2 3 rfl) rfl
theorem q391 : (Jvm.Cond.methodLink "BulbInAStaff" (106 : Nat) ({ cls := "BulbInAStaff$Bulb", name := "heldFlowers", desc := "()I" } : Jvm.MethodName)) ∈ lw_all := lw_g (lw_at lw_m2 36 rfl) rfl
theorem q423 : (Jvm.Cond.methodLink "BulbInAStaff" (90 : Nat) ({ cls := "BulbInAStaff", name := "becomes", desc := "(III)V" } : Jvm.MethodName)) ∈ lw_all := lw_g (lw_at lw_m2 68 rfl) rfl
theorem q424 : (Jvm.Cond.privateMethod ({ cls := "BulbInAStaff", name := "becomes", desc := "(III)V" } : Jvm.MethodName)) ∈ lw_tbl := lw_at lw_m2 69 rfl
theorem q425 : (Jvm.Cond.instanceMethod ({ cls := "BulbInAStaff", name := "becomes", desc := "(III)V" } : Jvm.MethodName)) ∈ lw_all := lw_g (lw_at lw_m2 70 rfl) rfl
theorem q426 : (Jvm.Cond.code ({ cls := "BulbInAStaff", name := "becomes", desc := "(III)V" } : Jvm.MethodName) prog_1_method_8_code (4 : Nat) (Option.none : Option Jvm.ClassFile.FieldType)) ∈ lw_all := lw_g (lw_at lw_m2 71 rfl) rfl
theorem q429 : (Jvm.Cond.instanceMethod ({ cls := "BulbInAStaff", name := "feed", desc := "(I)I" } : Jvm.MethodName)) ∈ lw_all := lw_g (lw_at lw_m2 74 rfl) rfl
theorem q430 : (Jvm.Cond.selects "BulbInAStaff" ({ cls := "BulbInAStaff", name := "feed", desc := "(I)I" } : Jvm.MethodName) ({ cls := "BulbInAStaff", name := "feed", desc := "(I)I" } : Jvm.MethodName)) ∈ lw_all := lw_g (lw_at lw_m2 75 rfl) rfl
theorem q431 : (Jvm.Cond.code ({ cls := "BulbInAStaff", name := "feed", desc := "(I)I" } : Jvm.MethodName) prog_1_method_31_code (2 : Nat) (Option.some Jvm.ClassFile.FieldType.int)) ∈ lw_all := lw_g (lw_at lw_m2 76 rfl) rfl
theorem q432 : (Jvm.Cond.constantLong "BulbInAStaff" (265 : Nat) (255 : Int64)) ∈ lw_all := lw_g (lw_at lw_m2 77 rfl) rfl
theorem q434 : (Jvm.Cond.instanceMethod ({ cls := "BulbInAStaff", name := "text", desc := "()I" } : Jvm.MethodName)) ∈ lw_all := lw_g (lw_at lw_m2 79 rfl) rfl
theorem q435 : (Jvm.Cond.selects "BulbInAStaff" ({ cls := "BulbInAStaff", name := "text", desc := "()I" } : Jvm.MethodName) ({ cls := "BulbInAStaff", name := "text", desc := "()I" } : Jvm.MethodName)) ∈ lw_all := lw_g (lw_at lw_m2 80 rfl) rfl
theorem q436 : (Jvm.Cond.code ({ cls := "BulbInAStaff", name := "text", desc := "()I" } : Jvm.MethodName) prog_1_method_32_code (1 : Nat) (Option.some Jvm.ClassFile.FieldType.int)) ∈ lw_all := lw_g (lw_at lw_m2 81 rfl) rfl
theorem q437 : (Jvm.Cond.methodLink "BulbInAStaff" (262 : Nat) ({ cls := "BulbInAStaff", name := "newText", desc := "()I" } : Jvm.MethodName)) ∈ lw_all := lw_g (lw_at lw_m2 82 rfl) rfl
theorem q438 : (Jvm.Cond.privateMethod ({ cls := "BulbInAStaff", name := "newText", desc := "()I" } : Jvm.MethodName)) ∈ lw_tbl := lw_at lw_m2 83 rfl
theorem q439 : (Jvm.Cond.instanceMethod ({ cls := "BulbInAStaff", name := "newText", desc := "()I" } : Jvm.MethodName)) ∈ lw_all := lw_g (lw_at lw_m2 84 rfl) rfl
theorem q440 : (Jvm.Cond.codeWith ({ cls := "BulbInAStaff", name := "newText", desc := "()I" } : Jvm.MethodName) prog_1_method_29_code (3 : Nat) (Option.some Jvm.ClassFile.FieldType.int) [((28 : Nat), (83 : Nat), (86 : Nat), (253 : Nat))]) ∈ lw_all := lw_g (lw_at lw_m2 85 rfl) rfl
theorem q441 : (Jvm.Cond.classLink "BulbInAStaff" (253 : Nat) "BulbInAStaff$Faulty") ∈ lw_all := lw_g (lw_at lw_m2 86 rfl) rfl
theorem q442 : (Jvm.Cond.classLink "BulbInAStaff" (251 : Nat) "BulbInAStaff$Node") ∈ lw_all := lw_g (lw_at lw_m2 87 rfl) rfl
theorem q444 : (Jvm.Cond.methodLink "BulbInAStaff" (190 : Nat) ({ cls := "BulbInAStaff", name := "next", desc := "()V" } : Jvm.MethodName)) ∈ lw_all := lw_g (lw_at lw_m2 89 rfl) rfl
theorem q445 : (Jvm.Cond.privateMethod ({ cls := "BulbInAStaff", name := "next", desc := "()V" } : Jvm.MethodName)) ∈ lw_tbl := lw_at lw_m2 90 rfl
theorem q446 : (Jvm.Cond.instanceMethod ({ cls := "BulbInAStaff", name := "next", desc := "()V" } : Jvm.MethodName)) ∈ lw_all := lw_g (lw_at lw_m2 91 rfl) rfl
theorem q447 : (Jvm.Cond.code ({ cls := "BulbInAStaff", name := "next", desc := "()V" } : Jvm.MethodName) prog_1_method_15_code (2 : Nat) (Option.none : Option Jvm.ClassFile.FieldType)) ∈ lw_all := lw_g (lw_at lw_m2 92 rfl) rfl
theorem q448 : (Jvm.Cond.methodLink "BulbInAStaff" (137 : Nat) ({ cls := "BulbInAStaff", name := "byteAt", desc := "(I)I" } : Jvm.MethodName)) ∈ lw_all := lw_g (lw_at lw_m2 93 rfl) rfl
theorem q449 : (Jvm.Cond.privateMethod ({ cls := "BulbInAStaff", name := "byteAt", desc := "(I)I" } : Jvm.MethodName)) ∈ lw_tbl := lw_at lw_m2 94 rfl
theorem q450 : (Jvm.Cond.instanceMethod ({ cls := "BulbInAStaff", name := "byteAt", desc := "(I)I" } : Jvm.MethodName)) ∈ lw_all := lw_g (lw_at lw_m2 95 rfl) rfl
theorem q451 : (Jvm.Cond.code ({ cls := "BulbInAStaff", name := "byteAt", desc := "(I)I" } : Jvm.MethodName) prog_1_method_12_code (2 : Nat) (Option.some Jvm.ClassFile.FieldType.int)) ∈ lw_all := lw_g (lw_at lw_m2 96 rfl) rfl
theorem q452 : (Jvm.Cond.methodLink "BulbInAStaff" (146 : Nat) ({ cls := "BulbInAStaff", name := "isLetter", desc := "(I)Z" } : Jvm.MethodName)) ∈ lw_all := lw_g (lw_at lw_m2 97 rfl) rfl
theorem q453 : (Jvm.Cond.static ({ cls := "BulbInAStaff", name := "isLetter", desc := "(I)Z" } : Jvm.MethodName)) ∈ lw_all := lw_g (lw_at lw_m2 98 rfl) rfl
theorem q454 : (Jvm.Cond.code ({ cls := "BulbInAStaff", name := "isLetter", desc := "(I)Z" } : Jvm.MethodName) prog_1_method_13_code (1 : Nat) (Option.some Jvm.ClassFile.FieldType.boolean)) ∈ lw_all := lw_g (lw_at lw_m2 99 rfl) rfl
theorem q455 : (Jvm.Cond.constantLong "BulbInAStaff" (126 : Nat) (97 : Int64)) ∈ lw_all := lw_g (lw_at lw_m2 100 rfl) rfl
theorem q456 : (Jvm.Cond.constantLong "BulbInAStaff" (128 : Nat) (122 : Int64)) ∈ lw_all := lw_g (lw_at lw_m2 101 rfl) rfl
theorem q457 : (Jvm.Cond.methodLink "BulbInAStaff" (149 : Nat) ({ cls := "BulbInAStaff", name := "word", desc := "()V" } : Jvm.MethodName)) ∈ lw_all := lw_g (lw_at lw_m2 102 rfl) rfl
theorem q458 : (Jvm.Cond.privateMethod ({ cls := "BulbInAStaff", name := "word", desc := "()V" } : Jvm.MethodName)) ∈ lw_tbl := lw_at lw_m2 103 rfl
theorem q459 : (Jvm.Cond.instanceMethod ({ cls := "BulbInAStaff", name := "word", desc := "()V" } : Jvm.MethodName)) ∈ lw_all := lw_g (lw_at lw_m2 104 rfl) rfl
theorem q460 : (Jvm.Cond.code ({ cls := "BulbInAStaff", name := "word", desc := "()V" } : Jvm.MethodName) prog_1_method_17_code (2 : Nat) (Option.none : Option Jvm.ClassFile.FieldType)) ∈ lw_all := lw_g (lw_at lw_m2 105 rfl) rfl
theorem q461 : (Jvm.Cond.methodLink "BulbInAStaff" (183 : Nat) ({ cls := "BulbInAStaff", name := "placeIn", desc := "([Ljava/lang/String;)I" } : Jvm.MethodName)) ∈ lw_all := lw_g (lw_at lw_m2 106 rfl) rfl
theorem q462 : (Jvm.Cond.privateMethod ({ cls := "BulbInAStaff", name := "placeIn", desc := "([Ljava/lang/String;)I" } : Jvm.MethodName)) ∈ lw_tbl := lw_at lw_m2 107 rfl
theorem q463 : (Jvm.Cond.instanceMethod ({ cls := "BulbInAStaff", name := "placeIn", desc := "([Ljava/lang/String;)I" } : Jvm.MethodName)) ∈ lw_all := lw_g (lw_at lw_m2 108 rfl) rfl
theorem q464 : (Jvm.Cond.code ({ cls := "BulbInAStaff", name := "placeIn", desc := "([Ljava/lang/String;)I" } : Jvm.MethodName) prog_1_method_16_code (5 : Nat) (Option.some Jvm.ClassFile.FieldType.int)) ∈ lw_all := lw_g (lw_at lw_m2 109 rfl) rfl
theorem q465 : (Jvm.Cond.methodLink "BulbInAStaff" (173 : Nat) ({ cls := "java/lang/String", name := "length", desc := "()I" } : Jvm.MethodName)) ∈ lw_all := lw_g (lw_at lw_m2 110 rfl) rfl
theorem q475 : (Jvm.Cond.methodLink "BulbInAStaff" (175 : Nat) ({ cls := "java/lang/String", name := "charAt", desc := "(I)C" } : Jvm.MethodName)) ∈ lw_all := lw_g (lw_at lw_m2 120 rfl) rfl
theorem q513 : (Jvm.Cond.methodLink "BulbInAStaff" (153 : Nat) ({ cls := "BulbInAStaff", name := "isDigit", desc := "(I)Z" } : Jvm.MethodName)) ∈ lw_all := lw_g (lw_at lw_m2 158 rfl) rfl
theorem q514 : (Jvm.Cond.static ({ cls := "BulbInAStaff", name := "isDigit", desc := "(I)Z" } : Jvm.MethodName)) ∈ lw_all := lw_g (lw_at lw_m2 159 rfl) rfl
theorem q515 : (Jvm.Cond.code ({ cls := "BulbInAStaff", name := "isDigit", desc := "(I)Z" } : Jvm.MethodName) prog_1_method_14_code (1 : Nat) (Option.some Jvm.ClassFile.FieldType.boolean)) ∈ lw_all := lw_g (lw_at lw_m2 160 rfl) rfl
theorem q516 : (Jvm.Cond.constantLong "BulbInAStaff" (130 : Nat) (48 : Int64)) ∈ lw_all := lw_g (lw_at lw_m2 161 rfl) rfl
theorem q517 : (Jvm.Cond.constantLong "BulbInAStaff" (132 : Nat) (57 : Int64)) ∈ lw_all := lw_g (lw_at lw_m2 162 rfl) rfl
theorem q518 : (Jvm.Cond.methodLink "BulbInAStaff" (156 : Nat) ({ cls := "BulbInAStaff", name := "digits", desc := "()V" } : Jvm.MethodName)) ∈ lw_all := lw_g (lw_at lw_m2 163 rfl) rfl
theorem q519 : (Jvm.Cond.privateMethod ({ cls := "BulbInAStaff", name := "digits", desc := "()V" } : Jvm.MethodName)) ∈ lw_tbl := lw_at lw_m2 164 rfl
theorem q520 : (Jvm.Cond.instanceMethod ({ cls := "BulbInAStaff", name := "digits", desc := "()V" } : Jvm.MethodName)) ∈ lw_all := lw_g (lw_at lw_m2 165 rfl) rfl
theorem q521 : (Jvm.Cond.code ({ cls := "BulbInAStaff", name := "digits", desc := "()V" } : Jvm.MethodName) prog_1_method_18_code (1 : Nat) (Option.none : Option Jvm.ClassFile.FieldType)) ∈ lw_all := lw_g (lw_at lw_m2 166 rfl) rfl
theorem q522 : (Jvm.Cond.stringRef "BulbInAStaff" (162 : Nat) "();+-*<=") ∈ lw_tbl := lw_at lw_m2 167 rfl
theorem q523 : (Jvm.Cond.methodLink "BulbInAStaff" (164 : Nat) ({ cls := "java/lang/String", name := "indexOf", desc := "(I)I" } : Jvm.MethodName)) ∈ lw_all := lw_g (lw_at lw_m2 168 rfl) rfl
theorem q578 : (Jvm.Cond.methodLink "BulbInAStaff" (204 : Nat) ({ cls := "BulbInAStaff", name := "isKey", desc := "(I)Z" } : Jvm.MethodName)) ∈ lw_all := lw_g (lw_at lw_m2 223 rfl) rfl
theorem q579 : (Jvm.Cond.privateMethod ({ cls := "BulbInAStaff", name := "isKey", desc := "(I)Z" } : Jvm.MethodName)) ∈ lw_tbl := lw_at lw_m2 224 rfl
theorem q580 : (Jvm.Cond.instanceMethod ({ cls := "BulbInAStaff", name := "isKey", desc := "(I)Z" } : Jvm.MethodName)) ∈ lw_all := lw_g (lw_at lw_m2 225 rfl) rfl
theorem q581 : (Jvm.Cond.code ({ cls := "BulbInAStaff", name := "isKey", desc := "(I)Z" } : Jvm.MethodName) prog_1_method_20_code (2 : Nat) (Option.some Jvm.ClassFile.FieldType.boolean)) ∈ lw_all := lw_g (lw_at lw_m2 226 rfl) rfl
theorem q582 : (Jvm.Cond.methodLink "BulbInAStaff" (196 : Nat) ({ cls := "BulbInAStaff", name := "need", desc := "(Z)V" } : Jvm.MethodName)) ∈ lw_all := lw_g (lw_at lw_m2 227 rfl) rfl
theorem q583 : (Jvm.Cond.privateMethod ({ cls := "BulbInAStaff", name := "need", desc := "(Z)V" } : Jvm.MethodName)) ∈ lw_tbl := lw_at lw_m2 228 rfl
theorem q584 : (Jvm.Cond.instanceMethod ({ cls := "BulbInAStaff", name := "need", desc := "(Z)V" } : Jvm.MethodName)) ∈ lw_all := lw_g (lw_at lw_m2 229 rfl) rfl
theorem q585 : (Jvm.Cond.code ({ cls := "BulbInAStaff", name := "need", desc := "(Z)V" } : Jvm.MethodName) prog_1_method_21_code (2 : Nat) (Option.none : Option Jvm.ClassFile.FieldType)) ∈ lw_all := lw_g (lw_at lw_m2 230 rfl) rfl
theorem q586 : (Jvm.Cond.methodLink "BulbInAStaff" (245 : Nat) ({ cls := "BulbInAStaff", name := "either", desc := "()LBulbInAStaff$Node;" } : Jvm.MethodName)) ∈ lw_all := lw_g (lw_at lw_m2 231 rfl) rfl
theorem q587 : (Jvm.Cond.privateMethod ({ cls := "BulbInAStaff", name := "either", desc := "()LBulbInAStaff$Node;" } : Jvm.MethodName)) ∈ lw_tbl := lw_at lw_m2 232 rfl
theorem q588 : (Jvm.Cond.instanceMethod ({ cls := "BulbInAStaff", name := "either", desc := "()LBulbInAStaff$Node;" } : Jvm.MethodName)) ∈ lw_all := lw_g (lw_at lw_m2 233 rfl) rfl
theorem q589 : (Jvm.Cond.code ({ cls := "BulbInAStaff", name := "either", desc := "()LBulbInAStaff$Node;" } : Jvm.MethodName) prog_1_method_23_code (2 : Nat) (Option.some (Jvm.ClassFile.FieldType.object "BulbInAStaff$Node"))) ∈ lw_all := lw_g (lw_at lw_m2 234 rfl) rfl
theorem q590 : (Jvm.Cond.methodLink "BulbInAStaff" (200 : Nat) ({ cls := "BulbInAStaff", name := "both", desc := "()LBulbInAStaff$Node;" } : Jvm.MethodName)) ∈ lw_all := lw_g (lw_at lw_m2 235 rfl) rfl
theorem q591 : (Jvm.Cond.privateMethod ({ cls := "BulbInAStaff", name := "both", desc := "()LBulbInAStaff$Node;" } : Jvm.MethodName)) ∈ lw_tbl := lw_at lw_m2 236 rfl
theorem q592 : (Jvm.Cond.instanceMethod ({ cls := "BulbInAStaff", name := "both", desc := "()LBulbInAStaff$Node;" } : Jvm.MethodName)) ∈ lw_all := lw_g (lw_at lw_m2 237 rfl) rfl
theorem q593 : (Jvm.Cond.code ({ cls := "BulbInAStaff", name := "both", desc := "()LBulbInAStaff$Node;" } : Jvm.MethodName) prog_1_method_24_code (2 : Nat) (Option.some (Jvm.ClassFile.FieldType.object "BulbInAStaff$Node"))) ∈ lw_all := lw_g (lw_at lw_m2 238 rfl) rfl
theorem q594 : (Jvm.Cond.methodLink "BulbInAStaff" (212 : Nat) ({ cls := "BulbInAStaff", name := "not", desc := "()LBulbInAStaff$Node;" } : Jvm.MethodName)) ∈ lw_all := lw_g (lw_at lw_m2 239 rfl) rfl
theorem q595 : (Jvm.Cond.privateMethod ({ cls := "BulbInAStaff", name := "not", desc := "()LBulbInAStaff$Node;" } : Jvm.MethodName)) ∈ lw_tbl := lw_at lw_m3 0 rfl
theorem q596 : (Jvm.Cond.instanceMethod ({ cls := "BulbInAStaff", name := "not", desc := "()LBulbInAStaff$Node;" } : Jvm.MethodName)) ∈ lw_all := lw_g (lw_at lw_m3 1 rfl) rfl
theorem q597 : (Jvm.Cond.code ({ cls := "BulbInAStaff", name := "not", desc := "()LBulbInAStaff$Node;" } : Jvm.MethodName) prog_1_method_25_code (3 : Nat) (Option.some (Jvm.ClassFile.FieldType.object "BulbInAStaff$Node"))) ∈ lw_all := lw_g (lw_at lw_m3 2 rfl) rfl
theorem q598 : (Jvm.Cond.methodLink "BulbInAStaff" (215 : Nat) ({ cls := "BulbInAStaff", name := "openOne", desc := "()V" } : Jvm.MethodName)) ∈ lw_all := lw_g (lw_at lw_m3 3 rfl) rfl
theorem q599 : (Jvm.Cond.privateMethod ({ cls := "BulbInAStaff", name := "openOne", desc := "()V" } : Jvm.MethodName)) ∈ lw_tbl := lw_at lw_m3 4 rfl
theorem q600 : (Jvm.Cond.instanceMethod ({ cls := "BulbInAStaff", name := "openOne", desc := "()V" } : Jvm.MethodName)) ∈ lw_all := lw_g (lw_at lw_m3 5 rfl) rfl
theorem q601 : (Jvm.Cond.code ({ cls := "BulbInAStaff", name := "openOne", desc := "()V" } : Jvm.MethodName) prog_1_method_22_code (1 : Nat) (Option.none : Option Jvm.ClassFile.FieldType)) ∈ lw_all := lw_g (lw_at lw_m3 6 rfl) rfl
theorem q602 : (Jvm.Cond.classLink "BulbInAStaff" (218 : Nat) "BulbInAStaff$Turned") ∈ lw_all := lw_g (lw_at lw_m3 7 rfl) rfl
theorem q604 : (Jvm.Cond.methodLink "BulbInAStaff" (220 : Nat) ({ cls := "BulbInAStaff$Turned", name := "<init>", desc := "(LBulbInAStaff$Node;Z)V" } : Jvm.MethodName)) ∈ lw_all := lw_g (lw_at lw_m3 9 rfl) rfl
theorem q619 : (Jvm.Cond.methodLink "BulbInAStaff" (223 : Nat) ({ cls := "BulbInAStaff", name := "plus", desc := "()LBulbInAStaff$Node;" } : Jvm.MethodName)) ∈ lw_all := lw_g (lw_at lw_m3 24 rfl) rfl
theorem q620 : (Jvm.Cond.privateMethod ({ cls := "BulbInAStaff", name := "plus", desc := "()LBulbInAStaff$Node;" } : Jvm.MethodName)) ∈ lw_tbl := lw_at lw_m3 25 rfl
theorem q621 : (Jvm.Cond.instanceMethod ({ cls := "BulbInAStaff", name := "plus", desc := "()LBulbInAStaff$Node;" } : Jvm.MethodName)) ∈ lw_all := lw_g (lw_at lw_m3 26 rfl) rfl
theorem q622 : (Jvm.Cond.code ({ cls := "BulbInAStaff", name := "plus", desc := "()LBulbInAStaff$Node;" } : Jvm.MethodName) prog_1_method_26_code (3 : Nat) (Option.some (Jvm.ClassFile.FieldType.object "BulbInAStaff$Node"))) ∈ lw_all := lw_g (lw_at lw_m3 27 rfl) rfl
theorem q623 : (Jvm.Cond.methodLink "BulbInAStaff" (229 : Nat) ({ cls := "BulbInAStaff", name := "times", desc := "()LBulbInAStaff$Node;" } : Jvm.MethodName)) ∈ lw_all := lw_g (lw_at lw_m3 28 rfl) rfl
theorem q624 : (Jvm.Cond.privateMethod ({ cls := "BulbInAStaff", name := "times", desc := "()LBulbInAStaff$Node;" } : Jvm.MethodName)) ∈ lw_tbl := lw_at lw_m3 29 rfl
theorem q625 : (Jvm.Cond.instanceMethod ({ cls := "BulbInAStaff", name := "times", desc := "()LBulbInAStaff$Node;" } : Jvm.MethodName)) ∈ lw_all := lw_g (lw_at lw_m3 30 rfl) rfl
theorem q626 : (Jvm.Cond.code ({ cls := "BulbInAStaff", name := "times", desc := "()LBulbInAStaff$Node;" } : Jvm.MethodName) prog_1_method_27_code (2 : Nat) (Option.some (Jvm.ClassFile.FieldType.object "BulbInAStaff$Node"))) ∈ lw_all := lw_g (lw_at lw_m3 31 rfl) rfl
theorem q627 : (Jvm.Cond.methodLink "BulbInAStaff" (232 : Nat) ({ cls := "BulbInAStaff", name := "one", desc := "()LBulbInAStaff$Node;" } : Jvm.MethodName)) ∈ lw_all := lw_g (lw_at lw_m3 32 rfl) rfl
theorem q628 : (Jvm.Cond.privateMethod ({ cls := "BulbInAStaff", name := "one", desc := "()LBulbInAStaff$Node;" } : Jvm.MethodName)) ∈ lw_tbl := lw_at lw_m3 33 rfl
theorem q629 : (Jvm.Cond.instanceMethod ({ cls := "BulbInAStaff", name := "one", desc := "()LBulbInAStaff$Node;" } : Jvm.MethodName)) ∈ lw_all := lw_g (lw_at lw_m3 34 rfl) rfl
theorem q630 : (Jvm.Cond.code ({ cls := "BulbInAStaff", name := "one", desc := "()LBulbInAStaff$Node;" } : Jvm.MethodName) prog_1_method_28_code (3 : Nat) (Option.some (Jvm.ClassFile.FieldType.object "BulbInAStaff$Node"))) ∈ lw_all := lw_g (lw_at lw_m3 35 rfl) rfl
theorem q631 : (Jvm.Cond.classLink "BulbInAStaff" (235 : Nat) "BulbInAStaff$Number") ∈ lw_all := lw_g (lw_at lw_m3 36 rfl) rfl
theorem q633 : (Jvm.Cond.methodLink "BulbInAStaff" (237 : Nat) ({ cls := "BulbInAStaff$Number", name := "<init>", desc := "(I)V" } : Jvm.MethodName)) ∈ lw_all := lw_g (lw_at lw_m3 38 rfl) rfl
theorem q641 : (Jvm.Cond.classLink "BulbInAStaff" (240 : Nat) "BulbInAStaff$Name") ∈ lw_all := lw_g (lw_at lw_m3 46 rfl) rfl
theorem q643 : (Jvm.Cond.methodLink "BulbInAStaff" (242 : Nat) ({ cls := "BulbInAStaff$Name", name := "<init>", desc := "(LBulbInAStaff;I)V" } : Jvm.MethodName)) ∈ lw_all := lw_g (lw_at lw_m3 48 rfl) rfl
theorem q654 : (Jvm.Cond.methodLink "BulbInAStaff" (226 : Nat) ({ cls := "BulbInAStaff", name := "isSign", desc := "(I)Z" } : Jvm.MethodName)) ∈ lw_all := lw_g (lw_at lw_m3 59 rfl) rfl
theorem q655 : (Jvm.Cond.privateMethod ({ cls := "BulbInAStaff", name := "isSign", desc := "(I)Z" } : Jvm.MethodName)) ∈ lw_tbl := lw_at lw_m3 60 rfl
theorem q656 : (Jvm.Cond.instanceMethod ({ cls := "BulbInAStaff", name := "isSign", desc := "(I)Z" } : Jvm.MethodName)) ∈ lw_all := lw_g (lw_at lw_m3 61 rfl) rfl
theorem q657 : (Jvm.Cond.code ({ cls := "BulbInAStaff", name := "isSign", desc := "(I)Z" } : Jvm.MethodName) prog_1_method_19_code (2 : Nat) (Option.some Jvm.ClassFile.FieldType.boolean)) ∈ lw_all := lw_g (lw_at lw_m3 62 rfl) rfl
theorem q658 : (Jvm.Cond.classLink "BulbInAStaff" (207 : Nat) "BulbInAStaff$Two") ∈ lw_all := lw_g (lw_at lw_m3 63 rfl) rfl
theorem q660 : (Jvm.Cond.methodLink "BulbInAStaff" (209 : Nat) ({ cls := "BulbInAStaff$Two", name := "<init>", desc := "(ILBulbInAStaff$Node;LBulbInAStaff$Node;)V" } : Jvm.MethodName)) ∈ lw_all := lw_g (lw_at lw_m3 65 rfl) rfl
theorem q676 : (Jvm.Cond.instanceMethod ({ cls := "BulbInAStaff", name := "<init>", desc := "()V" } : Jvm.MethodName)) ∈ lw_all := lw_g (lw_at lw_m3 81 rfl) rfl
theorem q677 : (Jvm.Cond.code ({ cls := "BulbInAStaff", name := "<init>", desc := "()V" } : Jvm.MethodName) prog_1_method_34_code (1 : Nat) (Option.none : Option Jvm.ClassFile.FieldType)) ∈ lw_all := lw_g (lw_at lw_m3 82 rfl) rfl
theorem q678 : (Jvm.Cond.methodLink "BulbInAStaff" (267 : Nat) ({ cls := "java/lang/Object", name := "<init>", desc := "()V" } : Jvm.MethodName)) ∈ lw_all := lw_g (lw_at lw_m3 83 rfl) rfl
theorem q736 : (Jvm.Cond.methodLink "BulbInAStaff" (271 : Nat) ({ cls := "BulbInAStaff$Faulty", name := "<init>", desc := "()V" } : Jvm.MethodName)) ∈ lw_all := lw_g (lw_at lw_m3 141 rfl) rfl
theorem q762 : (Jvm.Cond.classLink "BulbInAStaff" (272 : Nat) "[LBulbInAStaff$Node;") ∈ lw_all := lw_g (lw_at lw_m3 167 rfl) rfl
theorem q764 : (Jvm.Cond.classLink "BulbInAStaff" (165 : Nat) "java/lang/String") ∈ lw_all := lw_g (lw_at lw_m3 169 rfl) rfl
theorem q766 : (Jvm.Cond.stringRef "BulbInAStaff" (274 : Nat) "rots") ∈ lw_tbl := lw_at lw_m3 171 rfl
theorem q767 : (Jvm.Cond.stringRef "BulbInAStaff" (276 : Nat) "pays") ∈ lw_tbl := lw_at lw_m3 172 rfl
theorem q768 : (Jvm.Cond.stringRef "BulbInAStaff" (278 : Nat) "finds") ∈ lw_tbl := lw_at lw_m3 173 rfl
theorem q769 : (Jvm.Cond.stringRef "BulbInAStaff" (280 : Nat) "or") ∈ lw_tbl := lw_at lw_m3 174 rfl
theorem q770 : (Jvm.Cond.stringRef "BulbInAStaff" (282 : Nat) "and") ∈ lw_tbl := lw_at lw_m3 175 rfl
theorem q771 : (Jvm.Cond.stringRef "BulbInAStaff" (284 : Nat) "not") ∈ lw_tbl := lw_at lw_m3 176 rfl
theorem q772 : (Jvm.Cond.stringRef "BulbInAStaff" (285 : Nat) "soil") ∈ lw_tbl := lw_at lw_m3 177 rfl
theorem q773 : (Jvm.Cond.stringRef "BulbInAStaff" (287 : Nat) "year") ∈ lw_tbl := lw_at lw_m3 178 rfl
theorem q774 : (Jvm.Cond.stringRef "BulbInAStaff" (288 : Nat) "number") ∈ lw_tbl := lw_at lw_m3 179 rfl
theorem q775 : (Jvm.Cond.stringRef "BulbInAStaff" (289 : Nat) "bulbs") ∈ lw_tbl := lw_at lw_m3 180 rfl
theorem q776 : (Jvm.Cond.stringRef "BulbInAStaff" (291 : Nat) "garden") ∈ lw_tbl := lw_at lw_m3 181 rfl
theorem q777 : (Jvm.Cond.stringRef "BulbInAStaff" (292 : Nat) "guards") ∈ lw_tbl := lw_at lw_m3 182 rfl
theorem q778 : (Jvm.Cond.classLink "BulbInAStaff" (296 : Nat) "[[I") ∈ lw_all := lw_g (lw_at lw_m3 183 rfl) rfl
theorem q780 : (Jvm.Cond.classLink "BulbInAStaff" (319 : Nat) "BulbInAStaff$Sheet") ∈ lw_all := lw_g (lw_at lw_m3 185 rfl) rfl
theorem q783 : (Jvm.Cond.methodLinkNest "BulbInAStaff" (321 : Nat) ({ cls := "BulbInAStaff$Sheet", name := "<init>", desc := "()V" } : Jvm.MethodName) "BulbInAStaff") ∈ lw_tbl := lw_at lw_m3 188 rfl
theorem q787 : (Jvm.Cond.fieldLinkNest "BulbInAStaff" (451 : Nat) "BulbInAStaff$Sheet" "row" "Ljava/lang/Object;" "BulbInAStaff") ∈ lw_tbl := lw_at lw_m3 192 rfl
theorem q791 : (Jvm.Cond.stringRef "BulbInAStaff" (326 : Nat) "rots 20 ; pays 9 ; finds guards ;") ∈ lw_tbl := lw_at lw_m3 196 rfl
theorem q792 : (Jvm.Cond.methodLink "BulbInAStaff" (328 : Nat) ({ cls := "BulbInAStaff", name := "firstText", desc := "(Ljava/lang/String;)V" } : Jvm.MethodName)) ∈ lw_all := lw_g (lw_at lw_m3 197 rfl) rfl
theorem q793 : (Jvm.Cond.privateMethod ({ cls := "BulbInAStaff", name := "firstText", desc := "(Ljava/lang/String;)V" } : Jvm.MethodName)) ∈ lw_tbl := lw_at lw_m3 198 rfl
theorem q794 : (Jvm.Cond.instanceMethod ({ cls := "BulbInAStaff", name := "firstText", desc := "(Ljava/lang/String;)V" } : Jvm.MethodName)) ∈ lw_all := lw_g (lw_at lw_m3 199 rfl) rfl
theorem q795 : (Jvm.Cond.code ({ cls := "BulbInAStaff", name := "firstText", desc := "(Ljava/lang/String;)V" } : Jvm.MethodName) prog_1_method_30_code (3 : Nat) (Option.none : Option Jvm.ClassFile.FieldType)) ∈ lw_all := lw_g (lw_at lw_m3 200 rfl) rfl
theorem q797 : (Jvm.Cond.fieldLink "BulbInAStaff" (51 : Nat) "BulbInAStaff" "plants" "[LBulbInAStaff$Bulb;") ∈ lw_all := lw_g (lw_at lw_m3 202 rfl) rfl
theorem q798 : (Jvm.Cond.fieldLink "BulbInAStaff" (18 : Nat) "BulbInAStaff" "many" "I") ∈ lw_all := lw_g (lw_at lw_m3 203 rfl) rfl
theorem q800 : (Jvm.Cond.fieldLink "BulbInAStaff" (66 : Nat) "BulbInAStaff" "year" "I") ∈ lw_all := lw_g (lw_at lw_m3 205 rfl) rfl
theorem q802 : (Jvm.Cond.fieldLink "BulbInAStaff" (69 : Nat) "BulbInAStaff" "guards" "I") ∈ lw_all := lw_g (lw_at lw_m3 207 rfl) rfl
theorem q803 : (Jvm.Cond.fieldLink "BulbInAStaff" (354 : Nat) "BulbInAStaff" "sold" "I") ∈ lw_all := lw_g (lw_at lw_m3 208 rfl) rfl
theorem q805 : (Jvm.Cond.fieldLink "BulbInAStaff" (72 : Nat) "BulbInAStaff" "soils" "[I") ∈ lw_all := lw_g (lw_at lw_m3 210 rfl) rfl
theorem q806 : (Jvm.Cond.fieldLink "BulbInAStaff" (169 : Nat) "BulbInAStaff" "faulty" "LBulbInAStaff$Faulty;") ∈ lw_all := lw_g (lw_at lw_m3 211 rfl) rfl
theorem q808 : (Jvm.Cond.fieldLink "BulbInAStaff" (338 : Nat) "BulbInAStaff" "forPlant" "I") ∈ lw_all := lw_g (lw_at lw_m3 213 rfl) rfl
theorem q809 : (Jvm.Cond.fieldLink "BulbInAStaff" (255 : Nat) "BulbInAStaff" "texts" "[[LBulbInAStaff$Node;") ∈ lw_all := lw_g (lw_at lw_m3 214 rfl) rfl
theorem q810 : (Jvm.Cond.fieldLink "BulbInAStaff" (259 : Nat) "BulbInAStaff" "textMany" "I") ∈ lw_all := lw_g (lw_at lw_m3 215 rfl) rfl
theorem q811 : (Jvm.Cond.fieldLink "BulbInAStaff" (179 : Nat) "BulbInAStaff" "keys" "[Ljava/lang/String;") ∈ lw_all := lw_g (lw_at lw_m3 216 rfl) rfl
theorem q812 : (Jvm.Cond.fieldLink "BulbInAStaff" (187 : Nat) "BulbInAStaff" "names" "[Ljava/lang/String;") ∈ lw_all := lw_g (lw_at lw_m3 217 rfl) rfl
theorem q813 : (Jvm.Cond.fieldLink "BulbInAStaff" (122 : Nat) "BulbInAStaff" "tape" "[B") ∈ lw_all := lw_g (lw_at lw_m3 218 rfl) rfl
theorem q814 : (Jvm.Cond.fieldLink "BulbInAStaff" (248 : Nat) "BulbInAStaff" "taped" "I") ∈ lw_all := lw_g (lw_at lw_m3 219 rfl) rfl
theorem q815 : (Jvm.Cond.fieldLink "BulbInAStaff" (119 : Nat) "BulbInAStaff" "length" "I") ∈ lw_all := lw_g (lw_at lw_m3 220 rfl) rfl
theorem q816 : (Jvm.Cond.fieldLink "BulbInAStaff" (134 : Nat) "BulbInAStaff" "at" "I") ∈ lw_all := lw_g (lw_at lw_m3 221 rfl) rfl
theorem q817 : (Jvm.Cond.fieldLink "BulbInAStaff" (140 : Nat) "BulbInAStaff" "begin" "I") ∈ lw_all := lw_g (lw_at lw_m3 222 rfl) rfl
theorem q818 : (Jvm.Cond.fieldLink "BulbInAStaff" (143 : Nat) "BulbInAStaff" "token" "I") ∈ lw_all := lw_g (lw_at lw_m3 223 rfl) rfl
theorem q819 : (Jvm.Cond.fieldLink "BulbInAStaff" (159 : Nat) "BulbInAStaff" "value" "I") ∈ lw_all := lw_g (lw_at lw_m3 224 rfl) rfl
theorem q820 : (Jvm.Cond.fieldLink "BulbInAStaff" (193 : Nat) "BulbInAStaff" "opens" "I") ∈ lw_all := lw_g (lw_at lw_m3 225 rfl) rfl
theorem q821 : (Jvm.Cond.fieldLink "BulbInAStaff" (335 : Nat) "BulbInAStaff" "rule" "I") ∈ lw_all := lw_g (lw_at lw_m3 226 rfl) rfl
theorem q822 : (Jvm.Cond.fieldLink "BulbInAStaff" (293 : Nat) "BulbInAStaff" "kept" "[I") ∈ lw_all := lw_g (lw_at lw_m3 227 rfl) rfl
theorem q823 : (Jvm.Cond.fieldLink "BulbInAStaff" (298 : Nat) "BulbInAStaff" "manyBehind" "[[I") ∈ lw_all := lw_g (lw_at lw_m3 228 rfl) rfl
theorem q824 : (Jvm.Cond.fieldLink "BulbInAStaff" (301 : Nat) "BulbInAStaff" "bloomBehind" "[I") ∈ lw_all := lw_g (lw_at lw_m3 229 rfl) rfl
theorem q825 : (Jvm.Cond.fieldLink "BulbInAStaff" (304 : Nat) "BulbInAStaff" "worthBehind" "[I") ∈ lw_all := lw_g (lw_at lw_m3 230 rfl) rfl
theorem q826 : (Jvm.Cond.fieldLink "BulbInAStaff" (307 : Nat) "BulbInAStaff" "lastFlowers" "[I") ∈ lw_all := lw_g (lw_at lw_m3 231 rfl) rfl
theorem q827 : (Jvm.Cond.fieldLink "BulbInAStaff" (487 : Nat) "BulbInAStaff" "hasImage" "Z") ∈ lw_all := lw_g (lw_at lw_m3 232 rfl) rfl
theorem q828 : (Jvm.Cond.fieldLink "BulbInAStaff" (310 : Nat) "BulbInAStaff" "imageSoils" "[I") ∈ lw_all := lw_g (lw_at lw_m3 233 rfl) rfl
theorem q829 : (Jvm.Cond.fieldLink "BulbInAStaff" (313 : Nat) "BulbInAStaff" "imagePlants" "[[I") ∈ lw_all := lw_g (lw_at lw_m3 234 rfl) rfl
theorem q830 : (Jvm.Cond.fieldLink "BulbInAStaff" (316 : Nat) "BulbInAStaff" "imageNumbers" "[I") ∈ lw_all := lw_g (lw_at lw_m3 235 rfl) rfl
theorem q831 : (Jvm.Cond.fieldLink "BulbInAStaff" (322 : Nat) "BulbInAStaff" "sheets" "[LBulbInAStaff$Sheet;") ∈ lw_all := lw_g (lw_at lw_m3 236 rfl) rfl
theorem q832 : (Jvm.Cond.laysFinal "BulbInAStaff" "BulbInAStaff" "plants" "[LBulbInAStaff$Bulb;") ∈ lw_all := lw_g (lw_at lw_m3 237 rfl) rfl
theorem q833 : (Jvm.Cond.soleField "BulbInAStaff" "plants") ∈ lw_all := lw_g (lw_at lw_m3 238 rfl) rfl
theorem q834 : (Jvm.Cond.lays "BulbInAStaff" "BulbInAStaff" "many" "I") ∈ lw_all := lw_g (lw_at lw_m3 239 rfl) rfl
theorem q835 : (Jvm.Cond.soleField "BulbInAStaff" "many") ∈ lw_all := lw_g (lw_at lw_m4 0 rfl) rfl
theorem q836 : (Jvm.Cond.lays "BulbInAStaff" "BulbInAStaff" "year" "I") ∈ lw_all := lw_g (lw_at lw_m4 1 rfl) rfl
theorem q837 : (Jvm.Cond.soleField "BulbInAStaff" "year") ∈ lw_all := lw_g (lw_at lw_m4 2 rfl) rfl
theorem q838 : (Jvm.Cond.lays "BulbInAStaff" "BulbInAStaff" "guards" "I") ∈ lw_all := lw_g (lw_at lw_m4 3 rfl) rfl
theorem q839 : (Jvm.Cond.soleField "BulbInAStaff" "guards") ∈ lw_all := lw_g (lw_at lw_m4 4 rfl) rfl
theorem q840 : (Jvm.Cond.lays "BulbInAStaff" "BulbInAStaff" "sold" "I") ∈ lw_all := lw_g (lw_at lw_m4 5 rfl) rfl
theorem q841 : (Jvm.Cond.soleField "BulbInAStaff" "sold") ∈ lw_all := lw_g (lw_at lw_m4 6 rfl) rfl
theorem q842 : (Jvm.Cond.laysFinal "BulbInAStaff" "BulbInAStaff" "soils" "[I") ∈ lw_all := lw_g (lw_at lw_m4 7 rfl) rfl
theorem q843 : (Jvm.Cond.soleField "BulbInAStaff" "soils") ∈ lw_all := lw_g (lw_at lw_m4 8 rfl) rfl
theorem q844 : (Jvm.Cond.laysFinal "BulbInAStaff" "BulbInAStaff" "faulty" "LBulbInAStaff$Faulty;") ∈ lw_all := lw_g (lw_at lw_m4 9 rfl) rfl
theorem q845 : (Jvm.Cond.soleField "BulbInAStaff" "faulty") ∈ lw_all := lw_g (lw_at lw_m4 10 rfl) rfl
theorem q846 : (Jvm.Cond.lays "BulbInAStaff" "BulbInAStaff" "forPlant" "I") ∈ lw_all := lw_g (lw_at lw_m4 11 rfl) rfl
theorem q847 : (Jvm.Cond.soleField "BulbInAStaff" "forPlant") ∈ lw_all := lw_g (lw_at lw_m4 12 rfl) rfl
theorem q848 : (Jvm.Cond.laysFinal "BulbInAStaff" "BulbInAStaff" "texts" "[[LBulbInAStaff$Node;") ∈ lw_all := lw_g (lw_at lw_m4 13 rfl) rfl
theorem q849 : (Jvm.Cond.soleField "BulbInAStaff" "texts") ∈ lw_all := lw_g (lw_at lw_m4 14 rfl) rfl
theorem q850 : (Jvm.Cond.lays "BulbInAStaff" "BulbInAStaff" "textMany" "I") ∈ lw_all := lw_g (lw_at lw_m4 15 rfl) rfl
theorem q851 : (Jvm.Cond.soleField "BulbInAStaff" "textMany") ∈ lw_all := lw_g (lw_at lw_m4 16 rfl) rfl
theorem q852 : (Jvm.Cond.laysFinal "BulbInAStaff" "BulbInAStaff" "keys" "[Ljava/lang/String;") ∈ lw_all := lw_g (lw_at lw_m4 17 rfl) rfl
theorem q853 : (Jvm.Cond.soleField "BulbInAStaff" "keys") ∈ lw_all := lw_g (lw_at lw_m4 18 rfl) rfl
theorem q854 : (Jvm.Cond.laysFinal "BulbInAStaff" "BulbInAStaff" "names" "[Ljava/lang/String;") ∈ lw_all := lw_g (lw_at lw_m4 19 rfl) rfl
theorem q855 : (Jvm.Cond.soleField "BulbInAStaff" "names") ∈ lw_all := lw_g (lw_at lw_m4 20 rfl) rfl
theorem q856 : (Jvm.Cond.laysFinal "BulbInAStaff" "BulbInAStaff" "tape" "[B") ∈ lw_all := lw_g (lw_at lw_m4 21 rfl) rfl
theorem q857 : (Jvm.Cond.soleField "BulbInAStaff" "tape") ∈ lw_all := lw_g (lw_at lw_m4 22 rfl) rfl
theorem q858 : (Jvm.Cond.lays "BulbInAStaff" "BulbInAStaff" "taped" "I") ∈ lw_all := lw_g (lw_at lw_m4 23 rfl) rfl
theorem q859 : (Jvm.Cond.soleField "BulbInAStaff" "taped") ∈ lw_all := lw_g (lw_at lw_m4 24 rfl) rfl
theorem q860 : (Jvm.Cond.lays "BulbInAStaff" "BulbInAStaff" "length" "I") ∈ lw_all := lw_g (lw_at lw_m4 25 rfl) rfl
theorem q861 : (Jvm.Cond.soleField "BulbInAStaff" "length") ∈ lw_all := lw_g (lw_at lw_m4 26 rfl) rfl
theorem q862 : (Jvm.Cond.lays "BulbInAStaff" "BulbInAStaff" "at" "I") ∈ lw_all := lw_g (lw_at lw_m4 27 rfl) rfl
theorem q863 : (Jvm.Cond.soleField "BulbInAStaff" "at") ∈ lw_all := lw_g (lw_at lw_m4 28 rfl) rfl
theorem q864 : (Jvm.Cond.lays "BulbInAStaff" "BulbInAStaff" "begin" "I") ∈ lw_all := lw_g (lw_at lw_m4 29 rfl) rfl
theorem q865 : (Jvm.Cond.soleField "BulbInAStaff" "begin") ∈ lw_all := lw_g (lw_at lw_m4 30 rfl) rfl
theorem q866 : (Jvm.Cond.lays "BulbInAStaff" "BulbInAStaff" "token" "I") ∈ lw_all := lw_g (lw_at lw_m4 31 rfl) rfl
theorem q867 : (Jvm.Cond.soleField "BulbInAStaff" "token") ∈ lw_all := lw_g (lw_at lw_m4 32 rfl) rfl
theorem q868 : (Jvm.Cond.lays "BulbInAStaff" "BulbInAStaff" "value" "I") ∈ lw_all := lw_g (lw_at lw_m4 33 rfl) rfl
theorem q869 : (Jvm.Cond.soleField "BulbInAStaff" "value") ∈ lw_all := lw_g (lw_at lw_m4 34 rfl) rfl
theorem q870 : (Jvm.Cond.lays "BulbInAStaff" "BulbInAStaff" "opens" "I") ∈ lw_all := lw_g (lw_at lw_m4 35 rfl) rfl
theorem q871 : (Jvm.Cond.soleField "BulbInAStaff" "opens") ∈ lw_all := lw_g (lw_at lw_m4 36 rfl) rfl
theorem q872 : (Jvm.Cond.lays "BulbInAStaff" "BulbInAStaff" "rule" "I") ∈ lw_all := lw_g (lw_at lw_m4 37 rfl) rfl
theorem q873 : (Jvm.Cond.soleField "BulbInAStaff" "rule") ∈ lw_all := lw_g (lw_at lw_m4 38 rfl) rfl
theorem q874 : (Jvm.Cond.laysFinal "BulbInAStaff" "BulbInAStaff" "kept" "[I") ∈ lw_all := lw_g (lw_at lw_m4 39 rfl) rfl
theorem q875 : (Jvm.Cond.soleField "BulbInAStaff" "kept") ∈ lw_all := lw_g (lw_at lw_m4 40 rfl) rfl
theorem q876 : (Jvm.Cond.laysFinal "BulbInAStaff" "BulbInAStaff" "manyBehind" "[[I") ∈ lw_all := lw_g (lw_at lw_m4 41 rfl) rfl
theorem q877 : (Jvm.Cond.soleField "BulbInAStaff" "manyBehind") ∈ lw_all := lw_g (lw_at lw_m4 42 rfl) rfl
theorem q878 : (Jvm.Cond.laysFinal "BulbInAStaff" "BulbInAStaff" "bloomBehind" "[I") ∈ lw_all := lw_g (lw_at lw_m4 43 rfl) rfl
theorem q879 : (Jvm.Cond.soleField "BulbInAStaff" "bloomBehind") ∈ lw_all := lw_g (lw_at lw_m4 44 rfl) rfl
theorem q880 : (Jvm.Cond.laysFinal "BulbInAStaff" "BulbInAStaff" "worthBehind" "[I") ∈ lw_all := lw_g (lw_at lw_m4 45 rfl) rfl
theorem q881 : (Jvm.Cond.soleField "BulbInAStaff" "worthBehind") ∈ lw_all := lw_g (lw_at lw_m4 46 rfl) rfl
theorem q882 : (Jvm.Cond.laysFinal "BulbInAStaff" "BulbInAStaff" "lastFlowers" "[I") ∈ lw_all := lw_g (lw_at lw_m4 47 rfl) rfl
theorem q883 : (Jvm.Cond.soleField "BulbInAStaff" "lastFlowers") ∈ lw_all := lw_g (lw_at lw_m4 48 rfl) rfl
theorem q884 : (Jvm.Cond.lays "BulbInAStaff" "BulbInAStaff" "hasImage" "Z") ∈ lw_all := lw_g (lw_at lw_m4 49 rfl) rfl
theorem q885 : (Jvm.Cond.soleField "BulbInAStaff" "hasImage") ∈ lw_all := lw_g (lw_at lw_m4 50 rfl) rfl
theorem q886 : (Jvm.Cond.laysFinal "BulbInAStaff" "BulbInAStaff" "imageSoils" "[I") ∈ lw_all := lw_g (lw_at lw_m4 51 rfl) rfl
theorem q887 : (Jvm.Cond.soleField "BulbInAStaff" "imageSoils") ∈ lw_all := lw_g (lw_at lw_m4 52 rfl) rfl
theorem q888 : (Jvm.Cond.laysFinal "BulbInAStaff" "BulbInAStaff" "imagePlants" "[[I") ∈ lw_all := lw_g (lw_at lw_m4 53 rfl) rfl
theorem q889 : (Jvm.Cond.soleField "BulbInAStaff" "imagePlants") ∈ lw_all := lw_g (lw_at lw_m4 54 rfl) rfl
theorem q890 : (Jvm.Cond.laysFinal "BulbInAStaff" "BulbInAStaff" "imageNumbers" "[I") ∈ lw_all := lw_g (lw_at lw_m4 55 rfl) rfl
theorem q891 : (Jvm.Cond.soleField "BulbInAStaff" "imageNumbers") ∈ lw_all := lw_g (lw_at lw_m4 56 rfl) rfl
theorem q892 : (Jvm.Cond.laysFinal "BulbInAStaff" "BulbInAStaff" "sheets" "[LBulbInAStaff$Sheet;") ∈ lw_all := lw_g (lw_at lw_m4 57 rfl) rfl
theorem q893 : (Jvm.Cond.soleField "BulbInAStaff" "sheets") ∈ lw_all := lw_g (lw_at lw_m4 58 rfl) rfl
theorem q894 : (Jvm.Cond.superclass "BulbInAStaff" "java/lang/Object") ∈ lw_all := lw_g (lw_at lw_m4 59 rfl) rfl
theorem q896 : (Jvm.Cond.instanceMethod ({ cls := "BulbInAStaff", name := "force", desc := "(I)I" } : Jvm.MethodName)) ∈ lw_all := lw_g (lw_at lw_m4 61 rfl) rfl
theorem q897 : (Jvm.Cond.selects "BulbInAStaff" ({ cls := "BulbInAStaff", name := "force", desc := "(I)I" } : Jvm.MethodName) ({ cls := "BulbInAStaff", name := "force", desc := "(I)I" } : Jvm.MethodName)) ∈ lw_all := lw_g (lw_at lw_m4 62 rfl) rfl
theorem q898 : (Jvm.Cond.code ({ cls := "BulbInAStaff", name := "force", desc := "(I)I" } : Jvm.MethodName) prog_1_method_35_code (3 : Nat) (Option.some Jvm.ClassFile.FieldType.int)) ∈ lw_all := lw_g (lw_at lw_m4 63 rfl) rfl
theorem q899 : (Jvm.Cond.methodLink "BulbInAStaff" (332 : Nat) ({ cls := "BulbInAStaff", name := "isText", desc := "(I)Z" } : Jvm.MethodName)) ∈ lw_all := lw_g (lw_at lw_m4 64 rfl) rfl
theorem q900 : (Jvm.Cond.privateMethod ({ cls := "BulbInAStaff", name := "isText", desc := "(I)Z" } : Jvm.MethodName)) ∈ lw_tbl := lw_at lw_m4 65 rfl
theorem q901 : (Jvm.Cond.instanceMethod ({ cls := "BulbInAStaff", name := "isText", desc := "(I)Z" } : Jvm.MethodName)) ∈ lw_all := lw_g (lw_at lw_m4 66 rfl) rfl
theorem q902 : (Jvm.Cond.code ({ cls := "BulbInAStaff", name := "isText", desc := "(I)Z" } : Jvm.MethodName) prog_1_method_33_code (2 : Nat) (Option.some Jvm.ClassFile.FieldType.boolean)) ∈ lw_all := lw_g (lw_at lw_m4 67 rfl) rfl
theorem q904 : (Jvm.Cond.instanceMethod ({ cls := "BulbInAStaff", name := "dig", desc := "(III)I" } : Jvm.MethodName)) ∈ lw_all := lw_g (lw_at lw_m4 69 rfl) rfl
theorem q905 : (Jvm.Cond.selects "BulbInAStaff" ({ cls := "BulbInAStaff", name := "dig", desc := "(III)I" } : Jvm.MethodName) ({ cls := "BulbInAStaff", name := "dig", desc := "(III)I" } : Jvm.MethodName)) ∈ lw_all := lw_g (lw_at lw_m4 70 rfl) rfl
theorem q906 : (Jvm.Cond.code ({ cls := "BulbInAStaff", name := "dig", desc := "(III)I" } : Jvm.MethodName) prog_1_method_39_code (5 : Nat) (Option.some Jvm.ClassFile.FieldType.int)) ∈ lw_all := lw_g (lw_at lw_m4 71 rfl) rfl
theorem q908 : (Jvm.Cond.instanceMethod ({ cls := "BulbInAStaff", name := "sell", desc := "(I)I" } : Jvm.MethodName)) ∈ lw_all := lw_g (lw_at lw_m4 73 rfl) rfl
theorem q909 : (Jvm.Cond.selects "BulbInAStaff" ({ cls := "BulbInAStaff", name := "sell", desc := "(I)I" } : Jvm.MethodName) ({ cls := "BulbInAStaff", name := "sell", desc := "(I)I" } : Jvm.MethodName)) ∈ lw_all := lw_g (lw_at lw_m4 74 rfl) rfl
theorem q910 : (Jvm.Cond.code ({ cls := "BulbInAStaff", name := "sell", desc := "(I)I" } : Jvm.MethodName) prog_1_method_40_code (3 : Nat) (Option.some Jvm.ClassFile.FieldType.int)) ∈ lw_all := lw_g (lw_at lw_m4 75 rfl) rfl
theorem q911 : (Jvm.Cond.methodLink "BulbInAStaff" (350 : Nat) ({ cls := "BulbInAStaff", name := "worthOf", desc := "(I)I" } : Jvm.MethodName)) ∈ lw_all := lw_g (lw_at lw_m4 76 rfl) rfl
theorem q912 : (Jvm.Cond.privateMethod ({ cls := "BulbInAStaff", name := "worthOf", desc := "(I)I" } : Jvm.MethodName)) ∈ lw_tbl := lw_at lw_m4 77 rfl
theorem q913 : (Jvm.Cond.instanceMethod ({ cls := "BulbInAStaff", name := "worthOf", desc := "(I)I" } : Jvm.MethodName)) ∈ lw_all := lw_g (lw_at lw_m4 78 rfl) rfl
theorem q914 : (Jvm.Cond.code ({ cls := "BulbInAStaff", name := "worthOf", desc := "(I)I" } : Jvm.MethodName) prog_1_method_38_code (2 : Nat) (Option.some Jvm.ClassFile.FieldType.int)) ∈ lw_all := lw_g (lw_at lw_m4 79 rfl) rfl
theorem q915 : (Jvm.Cond.constant "BulbInAStaff" (353 : Nat) (999999999 : Int32)) ∈ lw_all := lw_g (lw_at lw_m4 80 rfl) rfl
theorem q917 : (Jvm.Cond.instanceMethod ({ cls := "BulbInAStaff", name := "year", desc := "()I" } : Jvm.MethodName)) ∈ lw_all := lw_g (lw_at lw_m4 82 rfl) rfl
theorem q918 : (Jvm.Cond.selects "BulbInAStaff" ({ cls := "BulbInAStaff", name := "year", desc := "()I" } : Jvm.MethodName) ({ cls := "BulbInAStaff", name := "year", desc := "()I" } : Jvm.MethodName)) ∈ lw_all := lw_g (lw_at lw_m4 83 rfl) rfl
theorem q919 : (Jvm.Cond.code ({ cls := "BulbInAStaff", name := "year", desc := "()I" } : Jvm.MethodName) prog_1_method_44_code (1 : Nat) (Option.some Jvm.ClassFile.FieldType.int)) ∈ lw_all := lw_g (lw_at lw_m4 84 rfl) rfl
theorem q920 : (Jvm.Cond.methodLink "BulbInAStaff" (357 : Nat) ({ cls := "BulbInAStaff", name := "yearOf", desc := "()V" } : Jvm.MethodName)) ∈ lw_all := lw_g (lw_at lw_m4 85 rfl) rfl
theorem q921 : (Jvm.Cond.privateMethod ({ cls := "BulbInAStaff", name := "yearOf", desc := "()V" } : Jvm.MethodName)) ∈ lw_tbl := lw_at lw_m4 86 rfl
theorem q922 : (Jvm.Cond.instanceMethod ({ cls := "BulbInAStaff", name := "yearOf", desc := "()V" } : Jvm.MethodName)) ∈ lw_all := lw_g (lw_at lw_m4 87 rfl) rfl
theorem q923 : (Jvm.Cond.code ({ cls := "BulbInAStaff", name := "yearOf", desc := "()V" } : Jvm.MethodName) prog_1_method_41_code (4 : Nat) (Option.none : Option Jvm.ClassFile.FieldType)) ∈ lw_all := lw_g (lw_at lw_m4 88 rfl) rfl
theorem q924 : (Jvm.Cond.methodLink "BulbInAStaff" (360 : Nat) ({ cls := "BulbInAStaff", name := "all", desc := "()I" } : Jvm.MethodName)) ∈ lw_all := lw_g (lw_at lw_m4 89 rfl) rfl
theorem q925 : (Jvm.Cond.privateMethod ({ cls := "BulbInAStaff", name := "all", desc := "()I" } : Jvm.MethodName)) ∈ lw_tbl := lw_at lw_m4 90 rfl
theorem q926 : (Jvm.Cond.instanceMethod ({ cls := "BulbInAStaff", name := "all", desc := "()I" } : Jvm.MethodName)) ∈ lw_all := lw_g (lw_at lw_m4 91 rfl) rfl
theorem q927 : (Jvm.Cond.code ({ cls := "BulbInAStaff", name := "all", desc := "()I" } : Jvm.MethodName) prog_1_method_42_code (3 : Nat) (Option.some Jvm.ClassFile.FieldType.int)) ∈ lw_all := lw_g (lw_at lw_m4 92 rfl) rfl
theorem q929 : (Jvm.Cond.instanceMethod ({ cls := "BulbInAStaff", name := "run", desc := "(II)I" } : Jvm.MethodName)) ∈ lw_all := lw_g (lw_at lw_m4 94 rfl) rfl
theorem q930 : (Jvm.Cond.selects "BulbInAStaff" ({ cls := "BulbInAStaff", name := "run", desc := "(II)I" } : Jvm.MethodName) ({ cls := "BulbInAStaff", name := "run", desc := "(II)I" } : Jvm.MethodName)) ∈ lw_all := lw_g (lw_at lw_m4 95 rfl) rfl
theorem q931 : (Jvm.Cond.code ({ cls := "BulbInAStaff", name := "run", desc := "(II)I" } : Jvm.MethodName) prog_1_method_51_code (3 : Nat) (Option.some Jvm.ClassFile.FieldType.int)) ∈ lw_all := lw_g (lw_at lw_m4 96 rfl) rfl
theorem q932 : (Jvm.Cond.methodLink "BulbInAStaff" (377 : Nat) ({ cls := "BulbInAStaff", name := "areYears", desc := "(I)Z" } : Jvm.MethodName)) ∈ lw_all := lw_g (lw_at lw_m4 97 rfl) rfl
theorem q933 : (Jvm.Cond.static ({ cls := "BulbInAStaff", name := "areYears", desc := "(I)Z" } : Jvm.MethodName)) ∈ lw_all := lw_g (lw_at lw_m4 98 rfl) rfl
theorem q934 : (Jvm.Cond.code ({ cls := "BulbInAStaff", name := "areYears", desc := "(I)Z" } : Jvm.MethodName) prog_1_method_49_code (1 : Nat) (Option.some Jvm.ClassFile.FieldType.boolean)) ∈ lw_all := lw_g (lw_at lw_m4 99 rfl) rfl
theorem q935 : (Jvm.Cond.constantLong "BulbInAStaff" (375 : Nat) (30 : Int64)) ∈ lw_all := lw_g (lw_at lw_m4 100 rfl) rfl
theorem q936 : (Jvm.Cond.constantLong "BulbInAStaff" (380 : Nat) (29 : Int64)) ∈ lw_all := lw_g (lw_at lw_m4 101 rfl) rfl
theorem q937 : (Jvm.Cond.methodLink "BulbInAStaff" (382 : Nat) ({ cls := "BulbInAStaff", name := "runs", desc := "(I)V" } : Jvm.MethodName)) ∈ lw_all := lw_g (lw_at lw_m4 102 rfl) rfl
theorem q938 : (Jvm.Cond.privateMethod ({ cls := "BulbInAStaff", name := "runs", desc := "(I)V" } : Jvm.MethodName)) ∈ lw_tbl := lw_at lw_m4 103 rfl
theorem q939 : (Jvm.Cond.instanceMethod ({ cls := "BulbInAStaff", name := "runs", desc := "(I)V" } : Jvm.MethodName)) ∈ lw_all := lw_g (lw_at lw_m4 104 rfl) rfl
theorem q940 : (Jvm.Cond.codeWith ({ cls := "BulbInAStaff", name := "runs", desc := "(I)V" } : Jvm.MethodName) prog_1_method_48_code (5 : Nat) (Option.none : Option Jvm.ClassFile.FieldType) [((9 : Nat), (36 : Nat), (44 : Nat), (0 : Nat)), ((44 : Nat), (46 : Nat), (44 : Nat), (0 : Nat))]) ∈ lw_all := lw_g (lw_at lw_m4 105 rfl) rfl
theorem q941 : (Jvm.Cond.methodLink "BulbInAStaff" (366 : Nat) ({ cls := "BulbInAStaff", name := "keeps", desc := "()V" } : Jvm.MethodName)) ∈ lw_all := lw_g (lw_at lw_m4 106 rfl) rfl
theorem q942 : (Jvm.Cond.privateMethod ({ cls := "BulbInAStaff", name := "keeps", desc := "()V" } : Jvm.MethodName)) ∈ lw_tbl := lw_at lw_m4 107 rfl
theorem q943 : (Jvm.Cond.instanceMethod ({ cls := "BulbInAStaff", name := "keeps", desc := "()V" } : Jvm.MethodName)) ∈ lw_all := lw_g (lw_at lw_m4 108 rfl) rfl
theorem q944 : (Jvm.Cond.code ({ cls := "BulbInAStaff", name := "keeps", desc := "()V" } : Jvm.MethodName) prog_1_method_45_code (2 : Nat) (Option.none : Option Jvm.ClassFile.FieldType)) ∈ lw_all := lw_g (lw_at lw_m4 109 rfl) rfl
theorem q945 : (Jvm.Cond.methodLink "BulbInAStaff" (369 : Nat) ({ cls := "BulbInAStaff", name := "tellsBehind", desc := "(I)V" } : Jvm.MethodName)) ∈ lw_all := lw_g (lw_at lw_m4 110 rfl) rfl
theorem q946 : (Jvm.Cond.privateMethod ({ cls := "BulbInAStaff", name := "tellsBehind", desc := "(I)V" } : Jvm.MethodName)) ∈ lw_tbl := lw_at lw_m4 111 rfl
theorem q947 : (Jvm.Cond.instanceMethod ({ cls := "BulbInAStaff", name := "tellsBehind", desc := "(I)V" } : Jvm.MethodName)) ∈ lw_all := lw_g (lw_at lw_m4 112 rfl) rfl
theorem q948 : (Jvm.Cond.code ({ cls := "BulbInAStaff", name := "tellsBehind", desc := "(I)V" } : Jvm.MethodName) prog_1_method_47_code (3 : Nat) (Option.none : Option Jvm.ClassFile.FieldType)) ∈ lw_all := lw_g (lw_at lw_m4 113 rfl) rfl
theorem q949 : (Jvm.Cond.methodLink "BulbInAStaff" (363 : Nat) ({ cls := "BulbInAStaff", name := "bloom", desc := "()I" } : Jvm.MethodName)) ∈ lw_all := lw_g (lw_at lw_m4 114 rfl) rfl
theorem q950 : (Jvm.Cond.privateMethod ({ cls := "BulbInAStaff", name := "bloom", desc := "()I" } : Jvm.MethodName)) ∈ lw_tbl := lw_at lw_m4 115 rfl
theorem q951 : (Jvm.Cond.instanceMethod ({ cls := "BulbInAStaff", name := "bloom", desc := "()I" } : Jvm.MethodName)) ∈ lw_all := lw_g (lw_at lw_m4 116 rfl) rfl
theorem q952 : (Jvm.Cond.code ({ cls := "BulbInAStaff", name := "bloom", desc := "()I" } : Jvm.MethodName) prog_1_method_43_code (3 : Nat) (Option.some Jvm.ClassFile.FieldType.int)) ∈ lw_all := lw_g (lw_at lw_m4 117 rfl) rfl
theorem q953 : (Jvm.Cond.methodLink "BulbInAStaff" (372 : Nat) ({ cls := "BulbInAStaff", name := "laysBack", desc := "(I)V" } : Jvm.MethodName)) ∈ lw_all := lw_g (lw_at lw_m4 118 rfl) rfl
theorem q954 : (Jvm.Cond.privateMethod ({ cls := "BulbInAStaff", name := "laysBack", desc := "(I)V" } : Jvm.MethodName)) ∈ lw_tbl := lw_at lw_m4 119 rfl
theorem q955 : (Jvm.Cond.instanceMethod ({ cls := "BulbInAStaff", name := "laysBack", desc := "(I)V" } : Jvm.MethodName)) ∈ lw_all := lw_g (lw_at lw_m4 120 rfl) rfl
theorem q956 : (Jvm.Cond.code ({ cls := "BulbInAStaff", name := "laysBack", desc := "(I)V" } : Jvm.MethodName) prog_1_method_46_code (3 : Nat) (Option.none : Option Jvm.ClassFile.FieldType)) ∈ lw_all := lw_g (lw_at lw_m4 121 rfl) rfl
theorem q957 : (Jvm.Cond.methodLink "BulbInAStaff" (385 : Nat) ({ cls := "BulbInAStaff", name := "toldRun", desc := "(II)I" } : Jvm.MethodName)) ∈ lw_all := lw_g (lw_at lw_m4 122 rfl) rfl
theorem q958 : (Jvm.Cond.privateMethod ({ cls := "BulbInAStaff", name := "toldRun", desc := "(II)I" } : Jvm.MethodName)) ∈ lw_tbl := lw_at lw_m4 123 rfl
theorem q959 : (Jvm.Cond.instanceMethod ({ cls := "BulbInAStaff", name := "toldRun", desc := "(II)I" } : Jvm.MethodName)) ∈ lw_all := lw_g (lw_at lw_m4 124 rfl) rfl
theorem q960 : (Jvm.Cond.code ({ cls := "BulbInAStaff", name := "toldRun", desc := "(II)I" } : Jvm.MethodName) prog_1_method_50_code (8 : Nat) (Option.some Jvm.ClassFile.FieldType.int)) ∈ lw_all := lw_g (lw_at lw_m4 125 rfl) rfl
theorem q962 : (Jvm.Cond.instanceMethod ({ cls := "BulbInAStaff", name := "first", desc := "(II)I" } : Jvm.MethodName)) ∈ lw_all := lw_g (lw_at lw_m4 127 rfl) rfl
theorem q963 : (Jvm.Cond.selects "BulbInAStaff" ({ cls := "BulbInAStaff", name := "first", desc := "(II)I" } : Jvm.MethodName) ({ cls := "BulbInAStaff", name := "first", desc := "(II)I" } : Jvm.MethodName)) ∈ lw_all := lw_g (lw_at lw_m4 128 rfl) rfl
theorem q964 : (Jvm.Cond.code ({ cls := "BulbInAStaff", name := "first", desc := "(II)I" } : Jvm.MethodName) prog_1_method_52_code (4 : Nat) (Option.some Jvm.ClassFile.FieldType.int)) ∈ lw_all := lw_g (lw_at lw_m4 129 rfl) rfl
theorem q965 : (Jvm.Cond.constantLong "BulbInAStaff" (388 : Nat) (99999 : Int64)) ∈ lw_all := lw_g (lw_at lw_m4 130 rfl) rfl
theorem q967 : (Jvm.Cond.instanceMethod ({ cls := "BulbInAStaff", name := "found", desc := "(III)J" } : Jvm.MethodName)) ∈ lw_all := lw_g (lw_at lw_m4 132 rfl) rfl
theorem q968 : (Jvm.Cond.selects "BulbInAStaff" ({ cls := "BulbInAStaff", name := "found", desc := "(III)J" } : Jvm.MethodName) ({ cls := "BulbInAStaff", name := "found", desc := "(III)J" } : Jvm.MethodName)) ∈ lw_all := lw_g (lw_at lw_m4 133 rfl) rfl
theorem q969 : (Jvm.Cond.code ({ cls := "BulbInAStaff", name := "found", desc := "(III)J" } : Jvm.MethodName) prog_1_method_55_code (7 : Nat) (Option.some Jvm.ClassFile.FieldType.long)) ∈ lw_all := lw_g (lw_at lw_m4 134 rfl) rfl
theorem q970 : (Jvm.Cond.constantLong "BulbInAStaff" (390 : Nat) (8 : Int64)) ∈ lw_all := lw_g (lw_at lw_m4 135 rfl) rfl
theorem q971 : (Jvm.Cond.constantLong "BulbInAStaff" (392 : Nat) (-4611686018427387904 : Int64)) ∈ lw_all := lw_g (lw_at lw_m4 136 rfl) rfl
theorem q972 : (Jvm.Cond.constantLong "BulbInAStaff" (394 : Nat) (100 : Int64)) ∈ lw_all := lw_g (lw_at lw_m4 137 rfl) rfl
theorem q973 : (Jvm.Cond.methodLink "BulbInAStaff" (396 : Nat) ({ cls := "BulbInAStaff", name := "notFound", desc := "(II)J" } : Jvm.MethodName)) ∈ lw_all := lw_g (lw_at lw_m4 138 rfl) rfl
theorem q974 : (Jvm.Cond.privateMethod ({ cls := "BulbInAStaff", name := "notFound", desc := "(II)J" } : Jvm.MethodName)) ∈ lw_tbl := lw_at lw_m4 139 rfl
theorem q975 : (Jvm.Cond.instanceMethod ({ cls := "BulbInAStaff", name := "notFound", desc := "(II)J" } : Jvm.MethodName)) ∈ lw_all := lw_g (lw_at lw_m4 140 rfl) rfl
theorem q976 : (Jvm.Cond.codeWith ({ cls := "BulbInAStaff", name := "notFound", desc := "(II)J" } : Jvm.MethodName) prog_1_method_54_code (8 : Nat) (Option.some Jvm.ClassFile.FieldType.long) [((12 : Nat), (46 : Nat), (54 : Nat), (0 : Nat)), ((54 : Nat), (56 : Nat), (54 : Nat), (0 : Nat))]) ∈ lw_all := lw_g (lw_at lw_m4 141 rfl) rfl
theorem q977 : (Jvm.Cond.methodLink "BulbInAStaff" (400 : Nat) ({ cls := "BulbInAStaff", name := "lowest", desc := "(JJI)J" } : Jvm.MethodName)) ∈ lw_all := lw_g (lw_at lw_m4 142 rfl) rfl
theorem q978 : (Jvm.Cond.static ({ cls := "BulbInAStaff", name := "lowest", desc := "(JJI)J" } : Jvm.MethodName)) ∈ lw_all := lw_g (lw_at lw_m4 143 rfl) rfl
theorem q979 : (Jvm.Cond.code ({ cls := "BulbInAStaff", name := "lowest", desc := "(JJI)J" } : Jvm.MethodName) prog_1_method_53_code (11 : Nat) (Option.some Jvm.ClassFile.FieldType.long)) ∈ lw_all := lw_g (lw_at lw_m4 144 rfl) rfl
theorem q981 : (Jvm.Cond.instanceMethod ({ cls := "BulbInAStaff", name := "soil", desc := "(III)I" } : Jvm.MethodName)) ∈ lw_all := lw_g (lw_at lw_m4 146 rfl) rfl
theorem q982 : (Jvm.Cond.selects "BulbInAStaff" ({ cls := "BulbInAStaff", name := "soil", desc := "(III)I" } : Jvm.MethodName) ({ cls := "BulbInAStaff", name := "soil", desc := "(III)I" } : Jvm.MethodName)) ∈ lw_all := lw_g (lw_at lw_m4 147 rfl) rfl
theorem q983 : (Jvm.Cond.code ({ cls := "BulbInAStaff", name := "soil", desc := "(III)I" } : Jvm.MethodName) prog_1_method_57_code (8 : Nat) (Option.some Jvm.ClassFile.FieldType.int)) ∈ lw_all := lw_g (lw_at lw_m4 148 rfl) rfl
theorem q984 : (Jvm.Cond.methodLink "BulbInAStaff" (404 : Nat) ({ cls := "BulbInAStaff", name := "manyBy", desc := "(IIII)I" } : Jvm.MethodName)) ∈ lw_all := lw_g (lw_at lw_m4 149 rfl) rfl
theorem q985 : (Jvm.Cond.privateMethod ({ cls := "BulbInAStaff", name := "manyBy", desc := "(IIII)I" } : Jvm.MethodName)) ∈ lw_tbl := lw_at lw_m4 150 rfl
theorem q986 : (Jvm.Cond.instanceMethod ({ cls := "BulbInAStaff", name := "manyBy", desc := "(IIII)I" } : Jvm.MethodName)) ∈ lw_all := lw_g (lw_at lw_m4 151 rfl) rfl
theorem q987 : (Jvm.Cond.codeWith ({ cls := "BulbInAStaff", name := "manyBy", desc := "(IIII)I" } : Jvm.MethodName) prog_1_method_56_code (8 : Nat) (Option.some Jvm.ClassFile.FieldType.int) [((8 : Nat), (31 : Nat), (42 : Nat), (0 : Nat)), ((42 : Nat), (44 : Nat), (42 : Nat), (0 : Nat))]) ∈ lw_all := lw_g (lw_at lw_m4 152 rfl) rfl
theorem q989 : (Jvm.Cond.instanceMethod ({ cls := "BulbInAStaff", name := "sown", desc := "(II)I" } : Jvm.MethodName)) ∈ lw_all := lw_g (lw_at lw_m4 154 rfl) rfl
theorem q990 : (Jvm.Cond.selects "BulbInAStaff" ({ cls := "BulbInAStaff", name := "sown", desc := "(II)I" } : Jvm.MethodName) ({ cls := "BulbInAStaff", name := "sown", desc := "(II)I" } : Jvm.MethodName)) ∈ lw_all := lw_g (lw_at lw_m4 155 rfl) rfl
theorem q991 : (Jvm.Cond.code ({ cls := "BulbInAStaff", name := "sown", desc := "(II)I" } : Jvm.MethodName) prog_1_method_59_code (5 : Nat) (Option.some Jvm.ClassFile.FieldType.int)) ∈ lw_all := lw_g (lw_at lw_m4 156 rfl) rfl
theorem q992 : (Jvm.Cond.constantLong "BulbInAStaff" (408 : Nat) (59 : Int64)) ∈ lw_all := lw_g (lw_at lw_m4 157 rfl) rfl
theorem q993 : (Jvm.Cond.methodLink "BulbInAStaff" (410 : Nat) ({ cls := "BulbInAStaff", name := "isLeft", desc := "(LBulbInAStaff$Bulb;I)Z" } : Jvm.MethodName)) ∈ lw_all := lw_g (lw_at lw_m4 158 rfl) rfl
theorem q994 : (Jvm.Cond.privateMethod ({ cls := "BulbInAStaff", name := "isLeft", desc := "(LBulbInAStaff$Bulb;I)Z" } : Jvm.MethodName)) ∈ lw_tbl := lw_at lw_m4 159 rfl
theorem q995 : (Jvm.Cond.instanceMethod ({ cls := "BulbInAStaff", name := "isLeft", desc := "(LBulbInAStaff$Bulb;I)Z" } : Jvm.MethodName)) ∈ lw_all := lw_g (lw_at lw_m4 160 rfl) rfl
theorem q996 : (Jvm.Cond.codeWith ({ cls := "BulbInAStaff", name := "isLeft", desc := "(LBulbInAStaff$Bulb;I)Z" } : Jvm.MethodName) prog_1_method_58_code (5 : Nat) (Option.some Jvm.ClassFile.FieldType.boolean) [((0 : Nat), (47 : Nat), (69 : Nat), (0 : Nat)), ((69 : Nat), (71 : Nat), (69 : Nat), (0 : Nat))]) ∈ lw_all := lw_g (lw_at lw_m4 161 rfl) rfl
theorem q998 : (Jvm.Cond.instanceMethod ({ cls := "BulbInAStaff", name := "safest", desc := "(I)I" } : Jvm.MethodName)) ∈ lw_all := lw_g (lw_at lw_m4 163 rfl) rfl
theorem q999 : (Jvm.Cond.selects "BulbInAStaff" ({ cls := "BulbInAStaff", name := "safest", desc := "(I)I" } : Jvm.MethodName) ({ cls := "BulbInAStaff", name := "safest", desc := "(I)I" } : Jvm.MethodName)) ∈ lw_all := lw_g (lw_at lw_m4 164 rfl) rfl
theorem q1000 : (Jvm.Cond.code ({ cls := "BulbInAStaff", name := "safest", desc := "(I)I" } : Jvm.MethodName) prog_1_method_60_code (8 : Nat) (Option.some Jvm.ClassFile.FieldType.int)) ∈ lw_all := lw_g (lw_at lw_m4 165 rfl) rfl
theorem q1001 : (Jvm.Cond.constantLong "BulbInAStaff" (414 : Nat) (-1 : Int64)) ∈ lw_all := lw_g (lw_at lw_m4 166 rfl) rfl
theorem q1002 : (Jvm.Cond.methodLink "BulbInAStaff" (416 : Nat) ({ cls := "java/lang/Math", name := "max", desc := "(JJ)J" } : Jvm.MethodName)) ∈ lw_all := lw_g (lw_at lw_m4 167 rfl) rfl
theorem q1006 : (Jvm.Cond.instanceMethod ({ cls := "BulbInAStaff", name := "when", desc := "(II)I" } : Jvm.MethodName)) ∈ lw_all := lw_g (lw_at lw_m4 171 rfl) rfl
theorem q1007 : (Jvm.Cond.selects "BulbInAStaff" ({ cls := "BulbInAStaff", name := "when", desc := "(II)I" } : Jvm.MethodName) ({ cls := "BulbInAStaff", name := "when", desc := "(II)I" } : Jvm.MethodName)) ∈ lw_all := lw_g (lw_at lw_m4 172 rfl) rfl
theorem q1008 : (Jvm.Cond.code ({ cls := "BulbInAStaff", name := "when", desc := "(II)I" } : Jvm.MethodName) prog_1_method_61_code (5 : Nat) (Option.some Jvm.ClassFile.FieldType.int)) ∈ lw_all := lw_g (lw_at lw_m4 173 rfl) rfl
theorem q1010 : (Jvm.Cond.instanceMethod ({ cls := "BulbInAStaff", name := "enough", desc := "(III)I" } : Jvm.MethodName)) ∈ lw_all := lw_g (lw_at lw_m4 175 rfl) rfl
theorem q1011 : (Jvm.Cond.selects "BulbInAStaff" ({ cls := "BulbInAStaff", name := "enough", desc := "(III)I" } : Jvm.MethodName) ({ cls := "BulbInAStaff", name := "enough", desc := "(III)I" } : Jvm.MethodName)) ∈ lw_all := lw_g (lw_at lw_m4 176 rfl) rfl
theorem q1012 : (Jvm.Cond.code ({ cls := "BulbInAStaff", name := "enough", desc := "(III)I" } : Jvm.MethodName) prog_1_method_62_code (5 : Nat) (Option.some Jvm.ClassFile.FieldType.int)) ∈ lw_all := lw_g (lw_at lw_m4 177 rfl) rfl
theorem q1014 : (Jvm.Cond.instanceMethod ({ cls := "BulbInAStaff", name := "tells", desc := "(III)I" } : Jvm.MethodName)) ∈ lw_all := lw_g (lw_at lw_m4 179 rfl) rfl
theorem q1015 : (Jvm.Cond.selects "BulbInAStaff" ({ cls := "BulbInAStaff", name := "tells", desc := "(III)I" } : Jvm.MethodName) ({ cls := "BulbInAStaff", name := "tells", desc := "(III)I" } : Jvm.MethodName)) ∈ lw_all := lw_g (lw_at lw_m4 180 rfl) rfl
theorem q1016 : (Jvm.Cond.code ({ cls := "BulbInAStaff", name := "tells", desc := "(III)I" } : Jvm.MethodName) prog_1_method_70_code (5 : Nat) (Option.some Jvm.ClassFile.FieldType.int)) ∈ lw_all := lw_g (lw_at lw_m4 181 rfl) rfl
theorem q1017 : (Jvm.Cond.methodLink "BulbInAStaff" (446 : Nat) ({ cls := "BulbInAStaff", name := "isSheet", desc := "(I)Z" } : Jvm.MethodName)) ∈ lw_all := lw_g (lw_at lw_m4 182 rfl) rfl
theorem q1018 : (Jvm.Cond.static ({ cls := "BulbInAStaff", name := "isSheet", desc := "(I)Z" } : Jvm.MethodName)) ∈ lw_all := lw_g (lw_at lw_m4 183 rfl) rfl
theorem q1019 : (Jvm.Cond.code ({ cls := "BulbInAStaff", name := "isSheet", desc := "(I)Z" } : Jvm.MethodName) prog_1_method_78_code (1 : Nat) (Option.some Jvm.ClassFile.FieldType.boolean)) ∈ lw_all := lw_g (lw_at lw_m4 184 rfl) rfl
theorem q1020 : (Jvm.Cond.constantLong "BulbInAStaff" (449 : Nat) (6 : Int64)) ∈ lw_all := lw_g (lw_at lw_m4 185 rfl) rfl
theorem q1021 : (Jvm.Cond.methodLink "BulbInAStaff" (419 : Nat) ({ cls := "BulbInAStaff", name := "sortOf", desc := "(Ljava/lang/Object;)I" } : Jvm.MethodName)) ∈ lw_all := lw_g (lw_at lw_m4 186 rfl) rfl
theorem q1022 : (Jvm.Cond.static ({ cls := "BulbInAStaff", name := "sortOf", desc := "(Ljava/lang/Object;)I" } : Jvm.MethodName)) ∈ lw_all := lw_g (lw_at lw_m4 187 rfl) rfl
theorem q1023 : (Jvm.Cond.code ({ cls := "BulbInAStaff", name := "sortOf", desc := "(Ljava/lang/Object;)I" } : Jvm.MethodName) prog_1_method_86_code (1 : Nat) (Option.some Jvm.ClassFile.FieldType.int)) ∈ lw_all := lw_g (lw_at lw_m4 188 rfl) rfl
theorem q1024 : (Jvm.Cond.classLink "BulbInAStaff" (499 : Nat) "[B") ∈ lw_all := lw_g (lw_at lw_m4 189 rfl) rfl
theorem q1025 : (Jvm.Cond.classLink "BulbInAStaff" (503 : Nat) "[S") ∈ lw_all := lw_g (lw_at lw_m4 190 rfl) rfl
theorem q1026 : (Jvm.Cond.methodLink "BulbInAStaff" (423 : Nat) ({ cls := "BulbInAStaff", name := "lengthOf", desc := "(Ljava/lang/Object;I)I" } : Jvm.MethodName)) ∈ lw_all := lw_g (lw_at lw_m4 191 rfl) rfl
theorem q1027 : (Jvm.Cond.static ({ cls := "BulbInAStaff", name := "lengthOf", desc := "(Ljava/lang/Object;I)I" } : Jvm.MethodName)) ∈ lw_all := lw_g (lw_at lw_m4 192 rfl) rfl
theorem q1028 : (Jvm.Cond.code ({ cls := "BulbInAStaff", name := "lengthOf", desc := "(Ljava/lang/Object;I)I" } : Jvm.MethodName) prog_1_method_84_code (2 : Nat) (Option.some Jvm.ClassFile.FieldType.int)) ∈ lw_all := lw_g (lw_at lw_m4 193 rfl) rfl
theorem q1029 : (Jvm.Cond.classLink "BulbInAStaff" (505 : Nat) "[I") ∈ lw_all := lw_g (lw_at lw_m4 194 rfl) rfl
theorem q1030 : (Jvm.Cond.methodLink "BulbInAStaff" (435 : Nat) ({ cls := "BulbInAStaff", name := "otherwise", desc := "(Ljava/lang/Object;I)I" } : Jvm.MethodName)) ∈ lw_all := lw_g (lw_at lw_m4 195 rfl) rfl
theorem q1031 : (Jvm.Cond.privateMethod ({ cls := "BulbInAStaff", name := "otherwise", desc := "(Ljava/lang/Object;I)I" } : Jvm.MethodName)) ∈ lw_tbl := lw_at lw_m4 196 rfl
theorem q1032 : (Jvm.Cond.instanceMethod ({ cls := "BulbInAStaff", name := "otherwise", desc := "(Ljava/lang/Object;I)I" } : Jvm.MethodName)) ∈ lw_all := lw_g (lw_at lw_m4 197 rfl) rfl
theorem q1033 : (Jvm.Cond.code ({ cls := "BulbInAStaff", name := "otherwise", desc := "(Ljava/lang/Object;I)I" } : Jvm.MethodName) prog_1_method_63_code (5 : Nat) (Option.some Jvm.ClassFile.FieldType.int)) ∈ lw_all := lw_g (lw_at lw_m4 198 rfl) rfl
theorem q1034 : (Jvm.Cond.methodLink "BulbInAStaff" (427 : Nat) ({ cls := "BulbInAStaff", name := "item", desc := "(Ljava/lang/Object;II)I" } : Jvm.MethodName)) ∈ lw_all := lw_g (lw_at lw_m4 199 rfl) rfl
theorem q1035 : (Jvm.Cond.static ({ cls := "BulbInAStaff", name := "item", desc := "(Ljava/lang/Object;II)I" } : Jvm.MethodName)) ∈ lw_all := lw_g (lw_at lw_m4 200 rfl) rfl
theorem q1036 : (Jvm.Cond.code ({ cls := "BulbInAStaff", name := "item", desc := "(Ljava/lang/Object;II)I" } : Jvm.MethodName) prog_1_method_83_code (3 : Nat) (Option.some Jvm.ClassFile.FieldType.int)) ∈ lw_all := lw_g (lw_at lw_m4 201 rfl) rfl
theorem q1037 : (Jvm.Cond.methodLink "BulbInAStaff" (500 : Nat) ({ cls := "BulbInAStaff", name := "asksPlace", desc := "(II)V" } : Jvm.MethodName)) ∈ lw_all := lw_g (lw_at lw_m4 202 rfl) rfl
theorem q1038 : (Jvm.Cond.static ({ cls := "BulbInAStaff", name := "asksPlace", desc := "(II)V" } : Jvm.MethodName)) ∈ lw_all := lw_g (lw_at lw_m4 203 rfl) rfl
theorem q1039 : (Jvm.Cond.code ({ cls := "BulbInAStaff", name := "asksPlace", desc := "(II)V" } : Jvm.MethodName) prog_1_method_85_code (2 : Nat) (Option.none : Option Jvm.ClassFile.FieldType)) ∈ lw_all := lw_g (lw_at lw_m4 204 rfl) rfl
theorem q1040 : (Jvm.Cond.classLink "BulbInAStaff" (511 : Nat) "java/lang/IndexOutOfBoundsException") ∈ lw_all := lw_g (lw_at lw_m4 205 rfl) rfl
theorem q1049 : (Jvm.Cond.methodLink "BulbInAStaff" (513 : Nat) ({ cls := "java/lang/IndexOutOfBoundsException", name := "<init>", desc := "()V" } : Jvm.MethodName)) ∈ lw_all := lw_g (lw_at lw_m4 214 rfl) rfl
theorem q1061 : (Jvm.Cond.methodLink "BulbInAStaff" (455 : Nat) ({ cls := "BulbInAStaff", name := "kindsOf", desc := "(Ljava/lang/Object;I)I" } : Jvm.MethodName)) ∈ lw_all := lw_g (lw_at lw_m4 226 rfl) rfl
theorem q1062 : (Jvm.Cond.privateMethod ({ cls := "BulbInAStaff", name := "kindsOf", desc := "(Ljava/lang/Object;I)I" } : Jvm.MethodName)) ∈ lw_tbl := lw_at lw_m4 227 rfl
theorem q1063 : (Jvm.Cond.instanceMethod ({ cls := "BulbInAStaff", name := "kindsOf", desc := "(Ljava/lang/Object;I)I" } : Jvm.MethodName)) ∈ lw_all := lw_g (lw_at lw_m4 228 rfl) rfl
theorem q1064 : (Jvm.Cond.code ({ cls := "BulbInAStaff", name := "kindsOf", desc := "(Ljava/lang/Object;I)I" } : Jvm.MethodName) prog_1_method_65_code (5 : Nat) (Option.some Jvm.ClassFile.FieldType.int)) ∈ lw_all := lw_g (lw_at lw_m4 229 rfl) rfl
theorem q1065 : (Jvm.Cond.methodLink "BulbInAStaff" (438 : Nat) ({ cls := "BulbInAStaff", name := "isSoAs", desc := "(Ljava/lang/Object;II)Z" } : Jvm.MethodName)) ∈ lw_all := lw_g (lw_at lw_m4 230 rfl) rfl
theorem q1066 : (Jvm.Cond.privateMethod ({ cls := "BulbInAStaff", name := "isSoAs", desc := "(Ljava/lang/Object;II)Z" } : Jvm.MethodName)) ∈ lw_tbl := lw_at lw_m4 231 rfl
theorem q1067 : (Jvm.Cond.instanceMethod ({ cls := "BulbInAStaff", name := "isSoAs", desc := "(Ljava/lang/Object;II)Z" } : Jvm.MethodName)) ∈ lw_all := lw_g (lw_at lw_m4 232 rfl) rfl
theorem q1068 : (Jvm.Cond.codeWith ({ cls := "BulbInAStaff", name := "isSoAs", desc := "(Ljava/lang/Object;II)Z" } : Jvm.MethodName) prog_1_method_64_code (7 : Nat) (Option.some Jvm.ClassFile.FieldType.boolean) [((8 : Nat), (50 : Nat), (61 : Nat), (0 : Nat)), ((61 : Nat), (63 : Nat), (61 : Nat), (0 : Nat))]) ∈ lw_all := lw_g (lw_at lw_m4 233 rfl) rfl
theorem q1069 : (Jvm.Cond.methodLink "BulbInAStaff" (431 : Nat) ({ cls := "BulbInAStaff$Bulb", name := "like", desc := "(LBulbInAStaff$Bulb;)LBulbInAStaff$Bulb;" } : Jvm.MethodName)) ∈ lw_all := lw_g (lw_at lw_m4 234 rfl) rfl
theorem q1079 : (Jvm.Cond.methodLink "BulbInAStaff" (458 : Nat) ({ cls := "BulbInAStaff", name := "setBy", desc := "(Ljava/lang/Object;III)I" } : Jvm.MethodName)) ∈ lw_all := lw_g (lw_at lw_m5 4 rfl) rfl
theorem q1080 : (Jvm.Cond.privateMethod ({ cls := "BulbInAStaff", name := "setBy", desc := "(Ljava/lang/Object;III)I" } : Jvm.MethodName)) ∈ lw_tbl := lw_at lw_m5 5 rfl
theorem q1081 : (Jvm.Cond.instanceMethod ({ cls := "BulbInAStaff", name := "setBy", desc := "(Ljava/lang/Object;III)I" } : Jvm.MethodName)) ∈ lw_all := lw_g (lw_at lw_m5 6 rfl) rfl
theorem q1082 : (Jvm.Cond.code ({ cls := "BulbInAStaff", name := "setBy", desc := "(Ljava/lang/Object;III)I" } : Jvm.MethodName) prog_1_method_67_code (7 : Nat) (Option.some Jvm.ClassFile.FieldType.int)) ∈ lw_all := lw_g (lw_at lw_m5 7 rfl) rfl
theorem q1083 : (Jvm.Cond.methodLink "BulbInAStaff" (442 : Nat) ({ cls := "BulbInAStaff", name := "isSoBy", desc := "(Ljava/lang/Object;III)Z" } : Jvm.MethodName)) ∈ lw_all := lw_g (lw_at lw_m5 8 rfl) rfl
theorem q1084 : (Jvm.Cond.privateMethod ({ cls := "BulbInAStaff", name := "isSoBy", desc := "(Ljava/lang/Object;III)Z" } : Jvm.MethodName)) ∈ lw_tbl := lw_at lw_m5 9 rfl
theorem q1085 : (Jvm.Cond.instanceMethod ({ cls := "BulbInAStaff", name := "isSoBy", desc := "(Ljava/lang/Object;III)Z" } : Jvm.MethodName)) ∈ lw_all := lw_g (lw_at lw_m5 10 rfl) rfl
theorem q1086 : (Jvm.Cond.codeWith ({ cls := "BulbInAStaff", name := "isSoBy", desc := "(Ljava/lang/Object;III)Z" } : Jvm.MethodName) prog_1_method_66_code (8 : Nat) (Option.some Jvm.ClassFile.FieldType.boolean) [((8 : Nat), (33 : Nat), (44 : Nat), (0 : Nat)), ((44 : Nat), (46 : Nat), (44 : Nat), (0 : Nat))]) ∈ lw_all := lw_g (lw_at lw_m5 11 rfl) rfl
theorem q1087 : (Jvm.Cond.methodLink "BulbInAStaff" (462 : Nat) ({ cls := "BulbInAStaff", name := "bulbsBy", desc := "(Ljava/lang/Object;IZ)I" } : Jvm.MethodName)) ∈ lw_all := lw_g (lw_at lw_m5 12 rfl) rfl
theorem q1088 : (Jvm.Cond.privateMethod ({ cls := "BulbInAStaff", name := "bulbsBy", desc := "(Ljava/lang/Object;IZ)I" } : Jvm.MethodName)) ∈ lw_tbl := lw_at lw_m5 13 rfl
theorem q1089 : (Jvm.Cond.instanceMethod ({ cls := "BulbInAStaff", name := "bulbsBy", desc := "(Ljava/lang/Object;IZ)I" } : Jvm.MethodName)) ∈ lw_all := lw_g (lw_at lw_m5 14 rfl) rfl
theorem q1090 : (Jvm.Cond.code ({ cls := "BulbInAStaff", name := "bulbsBy", desc := "(Ljava/lang/Object;IZ)I" } : Jvm.MethodName) prog_1_method_68_code (6 : Nat) (Option.some Jvm.ClassFile.FieldType.int)) ∈ lw_all := lw_g (lw_at lw_m5 15 rfl) rfl
theorem q1091 : (Jvm.Cond.methodLink "BulbInAStaff" (466 : Nat) ({ cls := "BulbInAStaff", name := "textsOf", desc := "(Ljava/lang/Object;I)I" } : Jvm.MethodName)) ∈ lw_all := lw_g (lw_at lw_m5 16 rfl) rfl
theorem q1092 : (Jvm.Cond.privateMethod ({ cls := "BulbInAStaff", name := "textsOf", desc := "(Ljava/lang/Object;I)I" } : Jvm.MethodName)) ∈ lw_tbl := lw_at lw_m5 17 rfl
theorem q1093 : (Jvm.Cond.instanceMethod ({ cls := "BulbInAStaff", name := "textsOf", desc := "(Ljava/lang/Object;I)I" } : Jvm.MethodName)) ∈ lw_all := lw_g (lw_at lw_m5 18 rfl) rfl
theorem q1094 : (Jvm.Cond.codeWith ({ cls := "BulbInAStaff", name := "textsOf", desc := "(Ljava/lang/Object;I)I" } : Jvm.MethodName) prog_1_method_69_code (7 : Nat) (Option.some Jvm.ClassFile.FieldType.int) [((8 : Nat), (55 : Nat), (63 : Nat), (0 : Nat)), ((63 : Nat), (65 : Nat), (63 : Nat), (0 : Nat))]) ∈ lw_all := lw_g (lw_at lw_m5 19 rfl) rfl
theorem q1096 : (Jvm.Cond.instanceMethod ({ cls := "BulbInAStaff", name := "film", desc := "(III)I" } : Jvm.MethodName)) ∈ lw_all := lw_g (lw_at lw_m5 21 rfl) rfl
theorem q1097 : (Jvm.Cond.selects "BulbInAStaff" ({ cls := "BulbInAStaff", name := "film", desc := "(III)I" } : Jvm.MethodName) ({ cls := "BulbInAStaff", name := "film", desc := "(III)I" } : Jvm.MethodName)) ∈ lw_all := lw_g (lw_at lw_m5 22 rfl) rfl
theorem q1098 : (Jvm.Cond.code ({ cls := "BulbInAStaff", name := "film", desc := "(III)I" } : Jvm.MethodName) prog_1_method_71_code (5 : Nat) (Option.some Jvm.ClassFile.FieldType.int)) ∈ lw_all := lw_g (lw_at lw_m5 23 rfl) rfl
theorem q1099 : (Jvm.Cond.methodLink "BulbInAStaff" (469 : Nat) ({ cls := "BulbInAStaff", name := "sheet", desc := "(III)I" } : Jvm.MethodName)) ∈ lw_all := lw_g (lw_at lw_m5 24 rfl) rfl
theorem q1100 : (Jvm.Cond.instanceMethod ({ cls := "BulbInAStaff", name := "sheet", desc := "(III)I" } : Jvm.MethodName)) ∈ lw_all := lw_g (lw_at lw_m5 25 rfl) rfl
theorem q1101 : (Jvm.Cond.selects "BulbInAStaff" ({ cls := "BulbInAStaff", name := "sheet", desc := "(III)I" } : Jvm.MethodName) ({ cls := "BulbInAStaff", name := "sheet", desc := "(III)I" } : Jvm.MethodName)) ∈ lw_all := lw_g (lw_at lw_m5 26 rfl) rfl
theorem q1102 : (Jvm.Cond.codeWith ({ cls := "BulbInAStaff", name := "sheet", desc := "(III)I" } : Jvm.MethodName) prog_1_method_80_code (5 : Nat) (Option.some Jvm.ClassFile.FieldType.int) [((52 : Nat), (67 : Nat), (68 : Nat), (497 : Nat))]) ∈ lw_all := lw_g (lw_at lw_m5 27 rfl) rfl
theorem q1103 : (Jvm.Cond.classLink "BulbInAStaff" (497 : Nat) "java/lang/NegativeArraySizeException") ∈ lw_all := lw_g (lw_at lw_m5 28 rfl) rfl
theorem q1130 : (Jvm.Cond.constantLong "BulbInAStaff" (491 : Nat) (2 : Int64)) ∈ lw_all := lw_g (lw_at lw_m5 55 rfl) rfl
theorem q1131 : (Jvm.Cond.methodLink "BulbInAStaff" (493 : Nat) ({ cls := "BulbInAStaff", name := "rowOf", desc := "(II)Ljava/lang/Object;" } : Jvm.MethodName)) ∈ lw_all := lw_g (lw_at lw_m5 56 rfl) rfl
theorem q1132 : (Jvm.Cond.static ({ cls := "BulbInAStaff", name := "rowOf", desc := "(II)Ljava/lang/Object;" } : Jvm.MethodName)) ∈ lw_all := lw_g (lw_at lw_m5 57 rfl) rfl
theorem q1133 : (Jvm.Cond.code ({ cls := "BulbInAStaff", name := "rowOf", desc := "(II)Ljava/lang/Object;" } : Jvm.MethodName) prog_1_method_79_code (2 : Nat) (Option.some (Jvm.ClassFile.FieldType.object "java/lang/Object"))) ∈ lw_all := lw_g (lw_at lw_m5 58 rfl) rfl
theorem q1134 : (Jvm.Cond.methodLink "BulbInAStaff" (472 : Nat) ({ cls := "BulbInAStaff", name := "cell", desc := "(III)I" } : Jvm.MethodName)) ∈ lw_all := lw_g (lw_at lw_m5 59 rfl) rfl
theorem q1135 : (Jvm.Cond.instanceMethod ({ cls := "BulbInAStaff", name := "cell", desc := "(III)I" } : Jvm.MethodName)) ∈ lw_all := lw_g (lw_at lw_m5 60 rfl) rfl
theorem q1136 : (Jvm.Cond.selects "BulbInAStaff" ({ cls := "BulbInAStaff", name := "cell", desc := "(III)I" } : Jvm.MethodName) ({ cls := "BulbInAStaff", name := "cell", desc := "(III)I" } : Jvm.MethodName)) ∈ lw_all := lw_g (lw_at lw_m5 61 rfl) rfl
theorem q1137 : (Jvm.Cond.codeWith ({ cls := "BulbInAStaff", name := "cell", desc := "(III)I" } : Jvm.MethodName) prog_1_method_82_code (5 : Nat) (Option.some Jvm.ClassFile.FieldType.int) [((10 : Nat), (24 : Nat), (25 : Nat), (509 : Nat)), ((10 : Nat), (24 : Nat), (30 : Nat), (511 : Nat))]) ∈ lw_all := lw_g (lw_at lw_m5 62 rfl) rfl
theorem q1138 : (Jvm.Cond.classLink "BulbInAStaff" (509 : Nat) "java/lang/NullPointerException") ∈ lw_all := lw_g (lw_at lw_m5 63 rfl) rfl
theorem q1175 : (Jvm.Cond.methodLink "BulbInAStaff" (506 : Nat) ({ cls := "BulbInAStaff", name := "put", desc := "(Ljava/lang/Object;II)I" } : Jvm.MethodName)) ∈ lw_all := lw_g (lw_at lw_m5 100 rfl) rfl
theorem q1176 : (Jvm.Cond.static ({ cls := "BulbInAStaff", name := "put", desc := "(Ljava/lang/Object;II)I" } : Jvm.MethodName)) ∈ lw_all := lw_g (lw_at lw_m5 101 rfl) rfl
theorem q1177 : (Jvm.Cond.code ({ cls := "BulbInAStaff", name := "put", desc := "(Ljava/lang/Object;II)I" } : Jvm.MethodName) prog_1_method_81_code (3 : Nat) (Option.some Jvm.ClassFile.FieldType.int)) ∈ lw_all := lw_g (lw_at lw_m5 102 rfl) rfl
theorem q1180 : (Jvm.Cond.instanceMethod ({ cls := "BulbInAStaff", name := "drawn", desc := "(II)I" } : Jvm.MethodName)) ∈ lw_all := lw_g (lw_at lw_m5 105 rfl) rfl
theorem q1181 : (Jvm.Cond.selects "BulbInAStaff" ({ cls := "BulbInAStaff", name := "drawn", desc := "(II)I" } : Jvm.MethodName) ({ cls := "BulbInAStaff", name := "drawn", desc := "(II)I" } : Jvm.MethodName)) ∈ lw_all := lw_g (lw_at lw_m5 106 rfl) rfl
theorem q1182 : (Jvm.Cond.code ({ cls := "BulbInAStaff", name := "drawn", desc := "(II)I" } : Jvm.MethodName) prog_1_method_73_code (3 : Nat) (Option.some Jvm.ClassFile.FieldType.int)) ∈ lw_all := lw_g (lw_at lw_m5 107 rfl) rfl
theorem q1183 : (Jvm.Cond.methodLink "BulbInAStaff" (476 : Nat) ({ cls := "BulbInAStaff", name := "allDrawn", desc := "(II)I" } : Jvm.MethodName)) ∈ lw_all := lw_g (lw_at lw_m5 108 rfl) rfl
theorem q1184 : (Jvm.Cond.privateMethod ({ cls := "BulbInAStaff", name := "allDrawn", desc := "(II)I" } : Jvm.MethodName)) ∈ lw_tbl := lw_at lw_m5 109 rfl
theorem q1185 : (Jvm.Cond.instanceMethod ({ cls := "BulbInAStaff", name := "allDrawn", desc := "(II)I" } : Jvm.MethodName)) ∈ lw_all := lw_g (lw_at lw_m5 110 rfl) rfl
theorem q1186 : (Jvm.Cond.codeWith ({ cls := "BulbInAStaff", name := "allDrawn", desc := "(II)I" } : Jvm.MethodName) prog_1_method_72_code (8 : Nat) (Option.some Jvm.ClassFile.FieldType.int) [((12 : Nat), (96 : Nat), (105 : Nat), (0 : Nat)), ((105 : Nat), (107 : Nat), (105 : Nat), (0 : Nat))]) ∈ lw_all := lw_g (lw_at lw_m5 111 rfl) rfl
theorem q1187 : (Jvm.Cond.constant "BulbInAStaff" (475 : Nat) (1103515245 : Int32)) ∈ lw_all := lw_g (lw_at lw_m5 112 rfl) rfl
theorem q1189 : (Jvm.Cond.instanceMethod ({ cls := "BulbInAStaff", name := "chance", desc := "(III)J" } : Jvm.MethodName)) ∈ lw_all := lw_g (lw_at lw_m5 114 rfl) rfl
theorem q1190 : (Jvm.Cond.selects "BulbInAStaff" ({ cls := "BulbInAStaff", name := "chance", desc := "(III)J" } : Jvm.MethodName) ({ cls := "BulbInAStaff", name := "chance", desc := "(III)J" } : Jvm.MethodName)) ∈ lw_all := lw_g (lw_at lw_m5 115 rfl) rfl
theorem q1191 : (Jvm.Cond.code ({ cls := "BulbInAStaff", name := "chance", desc := "(III)J" } : Jvm.MethodName) prog_1_method_74_code (7 : Nat) (Option.some Jvm.ClassFile.FieldType.long)) ∈ lw_all := lw_g (lw_at lw_m5 116 rfl) rfl
theorem q1192 : (Jvm.Cond.constantLong "BulbInAStaff" (479 : Nat) (20 : Int64)) ∈ lw_all := lw_g (lw_at lw_m5 117 rfl) rfl
theorem q1194 : (Jvm.Cond.instanceMethod ({ cls := "BulbInAStaff", name := "image", desc := "()I" } : Jvm.MethodName)) ∈ lw_all := lw_g (lw_at lw_m5 119 rfl) rfl
theorem q1195 : (Jvm.Cond.selects "BulbInAStaff" ({ cls := "BulbInAStaff", name := "image", desc := "()I" } : Jvm.MethodName) ({ cls := "BulbInAStaff", name := "image", desc := "()I" } : Jvm.MethodName)) ∈ lw_all := lw_g (lw_at lw_m5 120 rfl) rfl
theorem q1196 : (Jvm.Cond.code ({ cls := "BulbInAStaff", name := "image", desc := "()I" } : Jvm.MethodName) prog_1_method_75_code (3 : Nat) (Option.some Jvm.ClassFile.FieldType.int)) ∈ lw_all := lw_g (lw_at lw_m5 121 rfl) rfl
theorem q1197 : (Jvm.Cond.methodLink "BulbInAStaff" (481 : Nat) ({ cls := "java/lang/System", name := "arraycopy", desc := "(Ljava/lang/Object;ILjava/lang/Object;II)V" } : Jvm.MethodName)) ∈ lw_all := lw_g (lw_at lw_m5 122 rfl) rfl
theorem q1201 : (Jvm.Cond.instanceMethod ({ cls := "BulbInAStaff", name := "back", desc := "()I" } : Jvm.MethodName)) ∈ lw_all := lw_g (lw_at lw_m5 126 rfl) rfl
theorem q1202 : (Jvm.Cond.selects "BulbInAStaff" ({ cls := "BulbInAStaff", name := "back", desc := "()I" } : Jvm.MethodName) ({ cls := "BulbInAStaff", name := "back", desc := "()I" } : Jvm.MethodName)) ∈ lw_all := lw_g (lw_at lw_m5 127 rfl) rfl
theorem q1203 : (Jvm.Cond.code ({ cls := "BulbInAStaff", name := "back", desc := "()I" } : Jvm.MethodName) prog_1_method_76_code (3 : Nat) (Option.some Jvm.ClassFile.FieldType.int)) ∈ lw_all := lw_g (lw_at lw_m5 128 rfl) rfl
theorem q1205 : (Jvm.Cond.instanceMethod ({ cls := "BulbInAStaff", name := "count", desc := "(I)I" } : Jvm.MethodName)) ∈ lw_all := lw_g (lw_at lw_m5 130 rfl) rfl
theorem q1206 : (Jvm.Cond.selects "BulbInAStaff" ({ cls := "BulbInAStaff", name := "count", desc := "(I)I" } : Jvm.MethodName) ({ cls := "BulbInAStaff", name := "count", desc := "(I)I" } : Jvm.MethodName)) ∈ lw_all := lw_g (lw_at lw_m5 131 rfl) rfl
theorem q1207 : (Jvm.Cond.code ({ cls := "BulbInAStaff", name := "count", desc := "(I)I" } : Jvm.MethodName) prog_1_method_77_code (2 : Nat) (Option.some Jvm.ClassFile.FieldType.int)) ∈ lw_all := lw_g (lw_at lw_m5 132 rfl) rfl
theorem q1211 : (Jvm.Cond.instanceMethod ({ cls := "BulbInAStaff", name := "copy", desc := "(IIIII)I" } : Jvm.MethodName)) ∈ lw_all := lw_g (lw_at lw_m5 136 rfl) rfl
theorem q1212 : (Jvm.Cond.selects "BulbInAStaff" ({ cls := "BulbInAStaff", name := "copy", desc := "(IIIII)I" } : Jvm.MethodName) ({ cls := "BulbInAStaff", name := "copy", desc := "(IIIII)I" } : Jvm.MethodName)) ∈ lw_all := lw_g (lw_at lw_m5 137 rfl) rfl
theorem q1213 : (Jvm.Cond.code ({ cls := "BulbInAStaff", name := "copy", desc := "(IIIII)I" } : Jvm.MethodName) prog_1_method_87_code (10 : Nat) (Option.some Jvm.ClassFile.FieldType.int)) ∈ lw_all := lw_g (lw_at lw_m5 138 rfl) rfl
theorem q1215 : (Jvm.Cond.instanceMethod ({ cls := "BulbInAStaff", name := "plants", desc := "(IIII)I" } : Jvm.MethodName)) ∈ lw_all := lw_g (lw_at lw_m5 140 rfl) rfl
theorem q1216 : (Jvm.Cond.selects "BulbInAStaff" ({ cls := "BulbInAStaff", name := "plants", desc := "(IIII)I" } : Jvm.MethodName) ({ cls := "BulbInAStaff", name := "plants", desc := "(IIII)I" } : Jvm.MethodName)) ∈ lw_all := lw_g (lw_at lw_m5 141 rfl) rfl
theorem q1217 : (Jvm.Cond.codeWith ({ cls := "BulbInAStaff", name := "plants", desc := "(IIII)I" } : Jvm.MethodName) prog_1_method_89_code (6 : Nat) (Option.some Jvm.ClassFile.FieldType.int) [((35 : Nat), (52 : Nat), (53 : Nat), (520 : Nat)), ((35 : Nat), (52 : Nat), (58 : Nat), (509 : Nat)), ((35 : Nat), (52 : Nat), (63 : Nat), (511 : Nat))]) ∈ lw_all := lw_g (lw_at lw_m5 142 rfl) rfl
theorem q1218 : (Jvm.Cond.classLink "BulbInAStaff" (520 : Nat) "java/lang/ClassCastException") ∈ lw_all := lw_g (lw_at lw_m5 143 rfl) rfl
theorem q1232 : (Jvm.Cond.methodLink "BulbInAStaff" (517 : Nat) ({ cls := "BulbInAStaff", name := "came", desc := "(Ljava/lang/Object;III)I" } : Jvm.MethodName)) ∈ lw_all := lw_g (lw_at lw_m5 157 rfl) rfl
theorem q1233 : (Jvm.Cond.privateMethod ({ cls := "BulbInAStaff", name := "came", desc := "(Ljava/lang/Object;III)I" } : Jvm.MethodName)) ∈ lw_tbl := lw_at lw_m5 158 rfl
theorem q1234 : (Jvm.Cond.instanceMethod ({ cls := "BulbInAStaff", name := "came", desc := "(Ljava/lang/Object;III)I" } : Jvm.MethodName)) ∈ lw_all := lw_g (lw_at lw_m5 159 rfl) rfl
theorem q1235 : (Jvm.Cond.code ({ cls := "BulbInAStaff", name := "came", desc := "(Ljava/lang/Object;III)I" } : Jvm.MethodName) prog_1_method_88_code (10 : Nat) (Option.some Jvm.ClassFile.FieldType.int)) ∈ lw_all := lw_g (lw_at lw_m5 160 rfl) rfl
theorem q1236 : (Jvm.Cond.methodLink "BulbInAStaff" (514 : Nat) ({ cls := "BulbInAStaff", name := "plant", desc := "(III)I" } : Jvm.MethodName)) ∈ lw_all := lw_g (lw_at lw_m5 161 rfl) rfl
theorem q1238 : (Jvm.Cond.instanceMethod ({ cls := "BulbInAStaff", name := "taken", desc := "(II)I" } : Jvm.MethodName)) ∈ lw_all := lw_g (lw_at lw_m5 163 rfl) rfl
theorem q1239 : (Jvm.Cond.selects "BulbInAStaff" ({ cls := "BulbInAStaff", name := "taken", desc := "(II)I" } : Jvm.MethodName) ({ cls := "BulbInAStaff", name := "taken", desc := "(II)I" } : Jvm.MethodName)) ∈ lw_all := lw_g (lw_at lw_m5 164 rfl) rfl
theorem q1240 : (Jvm.Cond.codeWith ({ cls := "BulbInAStaff", name := "taken", desc := "(II)I" } : Jvm.MethodName) prog_1_method_91_code (4 : Nat) (Option.some Jvm.ClassFile.FieldType.int) [((15 : Nat), (40 : Nat), (41 : Nat), (509 : Nat)), ((15 : Nat), (40 : Nat), (45 : Nat), (520 : Nat))]) ∈ lw_all := lw_g (lw_at lw_m5 165 rfl) rfl
theorem q1241 : (Jvm.Cond.methodLink "BulbInAStaff" (522 : Nat) ({ cls := "BulbInAStaff", name := "as", desc := "(LBulbInAStaff$Bulb;I)LBulbInAStaff$Bulb;" } : Jvm.MethodName)) ∈ lw_all := lw_g (lw_at lw_m5 166 rfl) rfl
theorem q1242 : (Jvm.Cond.static ({ cls := "BulbInAStaff", name := "as", desc := "(LBulbInAStaff$Bulb;I)LBulbInAStaff$Bulb;" } : Jvm.MethodName)) ∈ lw_all := lw_g (lw_at lw_m5 167 rfl) rfl
theorem q1243 : (Jvm.Cond.code ({ cls := "BulbInAStaff", name := "as", desc := "(LBulbInAStaff$Bulb;I)LBulbInAStaff$Bulb;" } : Jvm.MethodName) prog_1_method_90_code (2 : Nat) (Option.some (Jvm.ClassFile.FieldType.object "BulbInAStaff$Bulb"))) ∈ lw_all := lw_g (lw_at lw_m5 168 rfl) rfl
theorem in_X0 : ∀ w ∈ wsX00, w ∈ lw_all := lw_in wsX00 [832, 834, 836, 838, 840, 842, 844, 846, 848, 850, 852, 854, 856, 858, 860, 862, 864, 866, 868, 870, 872, 874, 876, 878, 880, 882, 884, 886, 888, 890, 892] (by decide +kernel) (by decide +kernel)
theorem q120 : (Jvm.Cond.initialized "BulbInAStaff$Faulty") ∈ lw_all := lw_g (lw_at lw_m1 5 rfl) rfl
theorem q680 : (Jvm.Cond.instantiable "BulbInAStaff$Faulty" (6 : Nat)) ∈ lw_all := lw_g (lw_at lw_m3 85 rfl) rfl
theorem q681 : (Jvm.Cond.castable "BulbInAStaff$Faulty" "BulbInAStaff$Faulty") ∈ lw_tbl := lw_at lw_m3 86 rfl
theorem q688 : (Jvm.Cond.selects "BulbInAStaff$Faulty" ({ cls := "java/lang/Throwable", name := "fillInStackTrace", desc := "(I)Ljava/lang/Throwable;" } : Jvm.MethodName) ({ cls := "java/lang/Throwable", name := "fillInStackTrace", desc := "(I)Ljava/lang/Throwable;" } : Jvm.MethodName)) ∈ lw_all := lw_g (lw_at lw_m3 93 rfl) rfl
theorem q689 : (Jvm.Cond.selects "BulbInAStaff$Faulty" ({ cls := "java/lang/Throwable", name := "fillInStackTrace", desc := "()Ljava/lang/Throwable;" } : Jvm.MethodName) ({ cls := "java/lang/Throwable", name := "fillInStackTrace", desc := "()Ljava/lang/Throwable;" } : Jvm.MethodName)) ∈ lw_all := lw_g (lw_at lw_m3 94 rfl) rfl
theorem q690 : (Jvm.Cond.lays "BulbInAStaff$Faulty" "java/lang/Throwable" "cause" "Ljava/lang/Throwable;") ∈ lw_all := lw_g (lw_at lw_m3 95 rfl) rfl
theorem q692 : (Jvm.Cond.lays "BulbInAStaff$Faulty" "java/lang/Throwable" "stackTrace" "[Ljava/lang/StackTraceElement;") ∈ lw_all := lw_g (lw_at lw_m3 97 rfl) rfl
theorem q694 : (Jvm.Cond.lays "BulbInAStaff$Faulty" "java/lang/Throwable" "suppressedExceptions" "Ljava/util/List;") ∈ lw_all := lw_g (lw_at lw_m3 99 rfl) rfl
theorem q696 : (Jvm.Cond.lays "BulbInAStaff$Faulty" "java/lang/Throwable" "detailMessage" "Ljava/lang/String;") ∈ lw_all := lw_g (lw_at lw_m3 101 rfl) rfl
theorem q698 : (Jvm.Cond.lays "BulbInAStaff$Faulty" "java/lang/Throwable" "backtrace" "Ljava/lang/Object;") ∈ lw_all := lw_g (lw_at lw_m3 103 rfl) rfl
theorem q737 : (Jvm.Cond.instanceMethod ({ cls := "BulbInAStaff$Faulty", name := "<init>", desc := "()V" } : Jvm.MethodName)) ∈ lw_all := lw_g (lw_at lw_m3 142 rfl) rfl
theorem q738 : (Jvm.Cond.code ({ cls := "BulbInAStaff$Faulty", name := "<init>", desc := "()V" } : Jvm.MethodName) prog_4_method_1_code (1 : Nat) (Option.none : Option Jvm.ClassFile.FieldType)) ∈ lw_all := lw_g (lw_at lw_m3 143 rfl) rfl
theorem q739 : (Jvm.Cond.methodLink "BulbInAStaff$Faulty" (1 : Nat) ({ cls := "java/lang/RuntimeException", name := "<init>", desc := "(Ljava/lang/String;Ljava/lang/Throwable;ZZ)V" } : Jvm.MethodName)) ∈ lw_all := lw_g (lw_at lw_m3 144 rfl) rfl
theorem q757 : (Jvm.Cond.lays "BulbInAStaff$Faulty" "java/lang/Throwable" "depth" "I") ∈ lw_all := lw_g (lw_at lw_m3 162 rfl) rfl
theorem q760 : (Jvm.Cond.superclass "BulbInAStaff$Faulty" "java/lang/RuntimeException") ∈ lw_all := lw_g (lw_at lw_m3 165 rfl) rfl
theorem in_X1 : ∀ w ∈ wsX10, w ∈ lw_all := lw_in wsX10 [690, 692, 694, 696, 698, 757] (by decide +kernel) (by decide +kernel)
theorem q121 : (Jvm.Cond.initialized "BulbInAStaff$Sheet") ∈ lw_all := lw_g (lw_at lw_m1 6 rfl) rfl
theorem q782 : (Jvm.Cond.instantiable "BulbInAStaff$Sheet" (1 : Nat)) ∈ lw_all := lw_g (lw_at lw_m3 187 rfl) rfl
theorem q784 : (Jvm.Cond.instanceMethod ({ cls := "BulbInAStaff$Sheet", name := "<init>", desc := "()V" } : Jvm.MethodName)) ∈ lw_all := lw_g (lw_at lw_m3 189 rfl) rfl
theorem q785 : (Jvm.Cond.code ({ cls := "BulbInAStaff$Sheet", name := "<init>", desc := "()V" } : Jvm.MethodName) prog_9_method_1_code (1 : Nat) (Option.none : Option Jvm.ClassFile.FieldType)) ∈ lw_all := lw_g (lw_at lw_m3 190 rfl) rfl
theorem q786 : (Jvm.Cond.methodLink "BulbInAStaff$Sheet" (1 : Nat) ({ cls := "java/lang/Object", name := "<init>", desc := "()V" } : Jvm.MethodName)) ∈ lw_all := lw_g (lw_at lw_m3 191 rfl) rfl
theorem q788 : (Jvm.Cond.lays "BulbInAStaff$Sheet" "BulbInAStaff$Sheet" "row" "Ljava/lang/Object;") ∈ lw_all := lw_g (lw_at lw_m3 193 rfl) rfl
theorem q789 : (Jvm.Cond.soleField "BulbInAStaff$Sheet" "row") ∈ lw_all := lw_g (lw_at lw_m3 194 rfl) rfl
theorem q790 : (Jvm.Cond.superclass "BulbInAStaff$Sheet" "java/lang/Object") ∈ lw_all := lw_g (lw_at lw_m3 195 rfl) rfl
theorem in_X2 : ∀ w ∈ wsX20, w ∈ lw_all := lw_in wsX20 [788] (by decide +kernel) (by decide +kernel)
theorem q128 : (Jvm.Cond.initialized "BulbInAStaff$Node") ∈ lw_all := lw_g (lw_at lw_m1 13 rfl) rfl
theorem q299 : (Jvm.Cond.declares ({ cls := "BulbInAStaff$Node", name := "worth", desc := "()I" } : Jvm.MethodName)) ∈ lw_tbl := lw_at lw_m1 184 rfl
theorem q300 : (Jvm.Cond.sameMethod "BulbInAStaff$Node" "BulbInAStaff$Node" "worth" "()I") ∈ lw_all := lw_g (lw_at lw_m1 185 rfl) rfl
theorem q608 : (Jvm.Cond.instanceMethod ({ cls := "BulbInAStaff$Node", name := "<init>", desc := "()V" } : Jvm.MethodName)) ∈ lw_all := lw_g (lw_at lw_m3 13 rfl) rfl
theorem q609 : (Jvm.Cond.code ({ cls := "BulbInAStaff$Node", name := "<init>", desc := "()V" } : Jvm.MethodName) prog_6_method_1_code (1 : Nat) (Option.none : Option Jvm.ClassFile.FieldType)) ∈ lw_all := lw_g (lw_at lw_m3 14 rfl) rfl
theorem q610 : (Jvm.Cond.methodLink "BulbInAStaff$Node" (1 : Nat) ({ cls := "java/lang/Object", name := "<init>", desc := "()V" } : Jvm.MethodName)) ∈ lw_all := lw_g (lw_at lw_m3 15 rfl) rfl
theorem q129 : (Jvm.Cond.initialized "BulbInAStaff$Turned") ∈ lw_all := lw_g (lw_at lw_m1 14 rfl) rfl
theorem q307 : (Jvm.Cond.selects "BulbInAStaff$Turned" ({ cls := "BulbInAStaff$Node", name := "worth", desc := "()I" } : Jvm.MethodName) ({ cls := "BulbInAStaff$Turned", name := "worth", desc := "()I" } : Jvm.MethodName)) ∈ lw_all := lw_g (lw_at lw_m1 192 rfl) rfl
theorem q308 : (Jvm.Cond.instanceMethod ({ cls := "BulbInAStaff$Turned", name := "worth", desc := "()I" } : Jvm.MethodName)) ∈ lw_all := lw_g (lw_at lw_m1 193 rfl) rfl
theorem q309 : (Jvm.Cond.code ({ cls := "BulbInAStaff$Turned", name := "worth", desc := "()I" } : Jvm.MethodName) prog_11_method_2_code (2 : Nat) (Option.some Jvm.ClassFile.FieldType.int)) ∈ lw_all := lw_g (lw_at lw_m1 194 rfl) rfl
theorem q310 : (Jvm.Cond.methodLink "BulbInAStaff$Turned" (17 : Nat) ({ cls := "BulbInAStaff$Node", name := "worth", desc := "()I" } : Jvm.MethodName)) ∈ lw_all := lw_g (lw_at lw_m1 195 rfl) rfl
theorem q603 : (Jvm.Cond.instantiable "BulbInAStaff$Turned" (2 : Nat)) ∈ lw_all := lw_g (lw_at lw_m3 8 rfl) rfl
theorem q605 : (Jvm.Cond.instanceMethod ({ cls := "BulbInAStaff$Turned", name := "<init>", desc := "(LBulbInAStaff$Node;Z)V" } : Jvm.MethodName)) ∈ lw_all := lw_g (lw_at lw_m3 10 rfl) rfl
theorem q606 : (Jvm.Cond.code ({ cls := "BulbInAStaff$Turned", name := "<init>", desc := "(LBulbInAStaff$Node;Z)V" } : Jvm.MethodName) prog_11_method_1_code (3 : Nat) (Option.none : Option Jvm.ClassFile.FieldType)) ∈ lw_all := lw_g (lw_at lw_m3 11 rfl) rfl
theorem q607 : (Jvm.Cond.methodLinkNest "BulbInAStaff$Turned" (1 : Nat) ({ cls := "BulbInAStaff$Node", name := "<init>", desc := "()V" } : Jvm.MethodName) "BulbInAStaff") ∈ lw_tbl := lw_at lw_m3 12 rfl
theorem q611 : (Jvm.Cond.fieldLink "BulbInAStaff$Turned" (7 : Nat) "BulbInAStaff$Turned" "of" "LBulbInAStaff$Node;") ∈ lw_all := lw_g (lw_at lw_m3 16 rfl) rfl
theorem q612 : (Jvm.Cond.fieldLink "BulbInAStaff$Turned" (13 : Nat) "BulbInAStaff$Turned" "isMinus" "Z") ∈ lw_all := lw_g (lw_at lw_m3 17 rfl) rfl
theorem q613 : (Jvm.Cond.laysFinal "BulbInAStaff$Turned" "BulbInAStaff$Turned" "of" "LBulbInAStaff$Node;") ∈ lw_all := lw_g (lw_at lw_m3 18 rfl) rfl
theorem q614 : (Jvm.Cond.soleField "BulbInAStaff$Turned" "of") ∈ lw_all := lw_g (lw_at lw_m3 19 rfl) rfl
theorem q615 : (Jvm.Cond.laysFinal "BulbInAStaff$Turned" "BulbInAStaff$Turned" "isMinus" "Z") ∈ lw_all := lw_g (lw_at lw_m3 20 rfl) rfl
theorem q616 : (Jvm.Cond.soleField "BulbInAStaff$Turned" "isMinus") ∈ lw_all := lw_g (lw_at lw_m3 21 rfl) rfl
theorem q617 : (Jvm.Cond.superclass "BulbInAStaff$Turned" "BulbInAStaff$Node") ∈ lw_all := lw_g (lw_at lw_m3 22 rfl) rfl
theorem q1823 : (Jvm.Cond.castable "BulbInAStaff$Turned" "BulbInAStaff$Node") ∈ lw_tbl := lw_at lw_m8 28 rfl
theorem in_X4 : ∀ w ∈ wsX40, w ∈ lw_all := lw_in wsX40 [613, 615] (by decide +kernel) (by decide +kernel)
theorem q130 : (Jvm.Cond.initialized "BulbInAStaff$Number") ∈ lw_all := lw_g (lw_at lw_m1 15 rfl) rfl
theorem q304 : (Jvm.Cond.selects "BulbInAStaff$Number" ({ cls := "BulbInAStaff$Node", name := "worth", desc := "()I" } : Jvm.MethodName) ({ cls := "BulbInAStaff$Number", name := "worth", desc := "()I" } : Jvm.MethodName)) ∈ lw_all := lw_g (lw_at lw_m1 189 rfl) rfl
theorem q305 : (Jvm.Cond.instanceMethod ({ cls := "BulbInAStaff$Number", name := "worth", desc := "()I" } : Jvm.MethodName)) ∈ lw_all := lw_g (lw_at lw_m1 190 rfl) rfl
theorem q306 : (Jvm.Cond.code ({ cls := "BulbInAStaff$Number", name := "worth", desc := "()I" } : Jvm.MethodName) prog_7_method_2_code (1 : Nat) (Option.some Jvm.ClassFile.FieldType.int)) ∈ lw_all := lw_g (lw_at lw_m1 191 rfl) rfl
theorem q632 : (Jvm.Cond.instantiable "BulbInAStaff$Number" (1 : Nat)) ∈ lw_all := lw_g (lw_at lw_m3 37 rfl) rfl
theorem q634 : (Jvm.Cond.instanceMethod ({ cls := "BulbInAStaff$Number", name := "<init>", desc := "(I)V" } : Jvm.MethodName)) ∈ lw_all := lw_g (lw_at lw_m3 39 rfl) rfl
theorem q635 : (Jvm.Cond.code ({ cls := "BulbInAStaff$Number", name := "<init>", desc := "(I)V" } : Jvm.MethodName) prog_7_method_1_code (2 : Nat) (Option.none : Option Jvm.ClassFile.FieldType)) ∈ lw_all := lw_g (lw_at lw_m3 40 rfl) rfl
theorem q636 : (Jvm.Cond.methodLinkNest "BulbInAStaff$Number" (1 : Nat) ({ cls := "BulbInAStaff$Node", name := "<init>", desc := "()V" } : Jvm.MethodName) "BulbInAStaff") ∈ lw_tbl := lw_at lw_m3 41 rfl
theorem q637 : (Jvm.Cond.fieldLink "BulbInAStaff$Number" (7 : Nat) "BulbInAStaff$Number" "v" "I") ∈ lw_all := lw_g (lw_at lw_m3 42 rfl) rfl
theorem q638 : (Jvm.Cond.laysFinal "BulbInAStaff$Number" "BulbInAStaff$Number" "v" "I") ∈ lw_all := lw_g (lw_at lw_m3 43 rfl) rfl
theorem q639 : (Jvm.Cond.soleField "BulbInAStaff$Number" "v") ∈ lw_all := lw_g (lw_at lw_m3 44 rfl) rfl
theorem q640 : (Jvm.Cond.superclass "BulbInAStaff$Number" "BulbInAStaff$Node") ∈ lw_all := lw_g (lw_at lw_m3 45 rfl) rfl
theorem q1824 : (Jvm.Cond.castable "BulbInAStaff$Number" "BulbInAStaff$Node") ∈ lw_tbl := lw_at lw_m8 29 rfl
theorem in_X5 : ∀ w ∈ wsX50, w ∈ lw_all := lw_in wsX50 [638] (by decide +kernel) (by decide +kernel)
theorem q131 : (Jvm.Cond.initialized "BulbInAStaff$Name") ∈ lw_all := lw_g (lw_at lw_m1 16 rfl) rfl
theorem q174 : (Jvm.Cond.fieldLink "BulbInAStaff$Name" (38 : Nat) "BulbInAStaff$Bulb" "number" "I") ∈ lw_all := lw_g (lw_at lw_m1 59 rfl) rfl
theorem q181 : (Jvm.Cond.fieldLink "BulbInAStaff$Name" (30 : Nat) "BulbInAStaff$Bulb" "garden" "I") ∈ lw_all := lw_g (lw_at lw_m1 66 rfl) rfl
theorem q184 : (Jvm.Cond.fieldLink "BulbInAStaff$Name" (41 : Nat) "BulbInAStaff$Bulb" "many" "I") ∈ lw_all := lw_g (lw_at lw_m1 69 rfl) rfl
theorem q301 : (Jvm.Cond.selects "BulbInAStaff$Name" ({ cls := "BulbInAStaff$Node", name := "worth", desc := "()I" } : Jvm.MethodName) ({ cls := "BulbInAStaff$Name", name := "worth", desc := "()I" } : Jvm.MethodName)) ∈ lw_all := lw_g (lw_at lw_m1 186 rfl) rfl
theorem q302 : (Jvm.Cond.instanceMethod ({ cls := "BulbInAStaff$Name", name := "worth", desc := "()I" } : Jvm.MethodName)) ∈ lw_all := lw_g (lw_at lw_m1 187 rfl) rfl
theorem q303 : (Jvm.Cond.code ({ cls := "BulbInAStaff$Name", name := "worth", desc := "()I" } : Jvm.MethodName) prog_5_method_2_code (1 : Nat) (Option.some Jvm.ClassFile.FieldType.int)) ∈ lw_all := lw_g (lw_at lw_m1 188 rfl) rfl
theorem q642 : (Jvm.Cond.instantiable "BulbInAStaff$Name" (2 : Nat)) ∈ lw_all := lw_g (lw_at lw_m3 47 rfl) rfl
theorem q644 : (Jvm.Cond.instanceMethod ({ cls := "BulbInAStaff$Name", name := "<init>", desc := "(LBulbInAStaff;I)V" } : Jvm.MethodName)) ∈ lw_all := lw_g (lw_at lw_m3 49 rfl) rfl
theorem q645 : (Jvm.Cond.code ({ cls := "BulbInAStaff$Name", name := "<init>", desc := "(LBulbInAStaff;I)V" } : Jvm.MethodName) prog_5_method_1_code (3 : Nat) (Option.none : Option Jvm.ClassFile.FieldType)) ∈ lw_all := lw_g (lw_at lw_m3 50 rfl) rfl
theorem q646 : (Jvm.Cond.methodLinkNest "BulbInAStaff$Name" (7 : Nat) ({ cls := "BulbInAStaff$Node", name := "<init>", desc := "()V" } : Jvm.MethodName) "BulbInAStaff") ∈ lw_tbl := lw_at lw_m3 51 rfl
theorem q647 : (Jvm.Cond.fieldLink "BulbInAStaff$Name" (13 : Nat) "BulbInAStaff$Name" "which" "I") ∈ lw_all := lw_g (lw_at lw_m3 52 rfl) rfl
theorem q648 : (Jvm.Cond.fieldLink "BulbInAStaff$Name" (1 : Nat) "BulbInAStaff$Name" "this$0" "LBulbInAStaff;") ∈ lw_all := lw_g (lw_at lw_m3 53 rfl) rfl
theorem q649 : (Jvm.Cond.laysFinal "BulbInAStaff$Name" "BulbInAStaff$Name" "which" "I") ∈ lw_all := lw_g (lw_at lw_m3 54 rfl) rfl
theorem q650 : (Jvm.Cond.soleField "BulbInAStaff$Name" "which") ∈ lw_all := lw_g (lw_at lw_m3 55 rfl) rfl
theorem q651 : (Jvm.Cond.laysFinal "BulbInAStaff$Name" "BulbInAStaff$Name" "this$0" "LBulbInAStaff;") ∈ lw_all := lw_g (lw_at lw_m3 56 rfl) rfl
theorem q652 : (Jvm.Cond.soleField "BulbInAStaff$Name" "this$0") ∈ lw_all := lw_g (lw_at lw_m3 57 rfl) rfl
theorem q653 : (Jvm.Cond.superclass "BulbInAStaff$Name" "BulbInAStaff$Node") ∈ lw_all := lw_g (lw_at lw_m3 58 rfl) rfl
theorem q796 : (Jvm.Cond.fieldLinkNest "BulbInAStaff$Name" (23 : Nat) "BulbInAStaff" "plants" "[LBulbInAStaff$Bulb;" "BulbInAStaff") ∈ lw_tbl := lw_at lw_m3 201 rfl
theorem q799 : (Jvm.Cond.fieldLinkNest "BulbInAStaff$Name" (35 : Nat) "BulbInAStaff" "year" "I" "BulbInAStaff") ∈ lw_tbl := lw_at lw_m3 204 rfl
theorem q801 : (Jvm.Cond.fieldLinkNest "BulbInAStaff$Name" (44 : Nat) "BulbInAStaff" "guards" "I" "BulbInAStaff") ∈ lw_tbl := lw_at lw_m3 206 rfl
theorem q804 : (Jvm.Cond.fieldLinkNest "BulbInAStaff$Name" (17 : Nat) "BulbInAStaff" "soils" "[I" "BulbInAStaff") ∈ lw_tbl := lw_at lw_m3 209 rfl
theorem q807 : (Jvm.Cond.fieldLinkNest "BulbInAStaff$Name" (27 : Nat) "BulbInAStaff" "forPlant" "I" "BulbInAStaff") ∈ lw_tbl := lw_at lw_m3 212 rfl
theorem q1825 : (Jvm.Cond.castable "BulbInAStaff$Name" "BulbInAStaff$Node") ∈ lw_tbl := lw_at lw_m8 30 rfl
theorem in_X6 : ∀ w ∈ wsX60, w ∈ lw_all := lw_in wsX60 [649, 651] (by decide +kernel) (by decide +kernel)
theorem q132 : (Jvm.Cond.initialized "BulbInAStaff$Two") ∈ lw_all := lw_g (lw_at lw_m1 17 rfl) rfl
theorem q311 : (Jvm.Cond.instanceMethod ({ cls := "BulbInAStaff$Two", name := "worth", desc := "()I" } : Jvm.MethodName)) ∈ lw_all := lw_g (lw_at lw_m1 196 rfl) rfl
theorem q312 : (Jvm.Cond.code ({ cls := "BulbInAStaff$Two", name := "worth", desc := "()I" } : Jvm.MethodName) prog_13_method_2_code (3 : Nat) (Option.some Jvm.ClassFile.FieldType.int)) ∈ lw_all := lw_g (lw_at lw_m1 197 rfl) rfl
theorem q313 : (Jvm.Cond.methodLink "BulbInAStaff$Two" (20 : Nat) ({ cls := "BulbInAStaff$Node", name := "worth", desc := "()I" } : Jvm.MethodName)) ∈ lw_all := lw_g (lw_at lw_m1 198 rfl) rfl
theorem q314 : (Jvm.Cond.selects "BulbInAStaff$Two" ({ cls := "BulbInAStaff$Node", name := "worth", desc := "()I" } : Jvm.MethodName) ({ cls := "BulbInAStaff$Two", name := "worth", desc := "()I" } : Jvm.MethodName)) ∈ lw_all := lw_g (lw_at lw_m1 199 rfl) rfl
theorem q659 : (Jvm.Cond.instantiable "BulbInAStaff$Two" (3 : Nat)) ∈ lw_all := lw_g (lw_at lw_m3 64 rfl) rfl
theorem q661 : (Jvm.Cond.instanceMethod ({ cls := "BulbInAStaff$Two", name := "<init>", desc := "(ILBulbInAStaff$Node;LBulbInAStaff$Node;)V" } : Jvm.MethodName)) ∈ lw_all := lw_g (lw_at lw_m3 66 rfl) rfl
theorem q662 : (Jvm.Cond.code ({ cls := "BulbInAStaff$Two", name := "<init>", desc := "(ILBulbInAStaff$Node;LBulbInAStaff$Node;)V" } : Jvm.MethodName) prog_13_method_1_code (4 : Nat) (Option.none : Option Jvm.ClassFile.FieldType)) ∈ lw_all := lw_g (lw_at lw_m3 67 rfl) rfl
theorem q663 : (Jvm.Cond.methodLinkNest "BulbInAStaff$Two" (1 : Nat) ({ cls := "BulbInAStaff$Node", name := "<init>", desc := "()V" } : Jvm.MethodName) "BulbInAStaff") ∈ lw_tbl := lw_at lw_m3 68 rfl
theorem q664 : (Jvm.Cond.fieldLink "BulbInAStaff$Two" (7 : Nat) "BulbInAStaff$Two" "sign" "I") ∈ lw_all := lw_g (lw_at lw_m3 69 rfl) rfl
theorem q665 : (Jvm.Cond.fieldLink "BulbInAStaff$Two" (13 : Nat) "BulbInAStaff$Two" "a" "LBulbInAStaff$Node;") ∈ lw_all := lw_g (lw_at lw_m3 70 rfl) rfl
theorem q666 : (Jvm.Cond.fieldLink "BulbInAStaff$Two" (17 : Nat) "BulbInAStaff$Two" "b" "LBulbInAStaff$Node;") ∈ lw_all := lw_g (lw_at lw_m3 71 rfl) rfl
theorem q667 : (Jvm.Cond.laysFinal "BulbInAStaff$Two" "BulbInAStaff$Two" "sign" "I") ∈ lw_all := lw_g (lw_at lw_m3 72 rfl) rfl
theorem q668 : (Jvm.Cond.soleField "BulbInAStaff$Two" "sign") ∈ lw_all := lw_g (lw_at lw_m3 73 rfl) rfl
theorem q669 : (Jvm.Cond.laysFinal "BulbInAStaff$Two" "BulbInAStaff$Two" "a" "LBulbInAStaff$Node;") ∈ lw_all := lw_g (lw_at lw_m3 74 rfl) rfl
theorem q670 : (Jvm.Cond.soleField "BulbInAStaff$Two" "a") ∈ lw_all := lw_g (lw_at lw_m3 75 rfl) rfl
theorem q671 : (Jvm.Cond.laysFinal "BulbInAStaff$Two" "BulbInAStaff$Two" "b" "LBulbInAStaff$Node;") ∈ lw_all := lw_g (lw_at lw_m3 76 rfl) rfl
theorem q672 : (Jvm.Cond.soleField "BulbInAStaff$Two" "b") ∈ lw_all := lw_g (lw_at lw_m3 77 rfl) rfl
theorem q673 : (Jvm.Cond.superclass "BulbInAStaff$Two" "BulbInAStaff$Node") ∈ lw_all := lw_g (lw_at lw_m3 78 rfl) rfl
theorem q1826 : (Jvm.Cond.castable "BulbInAStaff$Two" "BulbInAStaff$Node") ∈ lw_tbl := lw_at lw_m8 31 rfl
theorem in_X7 : ∀ w ∈ wsX70, w ∈ lw_all := lw_in wsX70 [667, 669, 671] (by decide +kernel) (by decide +kernel)
theorem q133 : (Jvm.Cond.initialized "BulbInAStaffModel") ∈ lw_all := lw_g (lw_at lw_m1 18 rfl) rfl
theorem q1245 : (Jvm.Cond.instantiable "BulbInAStaffModel" (42 : Nat)) ∈ lw_all := lw_g (lw_at lw_m5 170 rfl) rfl
theorem q1247 : (Jvm.Cond.instanceMethod ({ cls := "BulbInAStaffModel", name := "<init>", desc := "()V" } : Jvm.MethodName)) ∈ lw_all := lw_g (lw_at lw_m5 172 rfl) rfl
theorem q1248 : (Jvm.Cond.code ({ cls := "BulbInAStaffModel", name := "<init>", desc := "()V" } : Jvm.MethodName) prog_16_method_4_code (2 : Nat) (Option.none : Option Jvm.ClassFile.FieldType)) ∈ lw_all := lw_g (lw_at lw_m5 173 rfl) rfl
theorem q1249 : (Jvm.Cond.methodLink "BulbInAStaffModel" (7 : Nat) ({ cls := "java/lang/Object", name := "<init>", desc := "()V" } : Jvm.MethodName)) ∈ lw_all := lw_g (lw_at lw_m5 174 rfl) rfl
theorem q1250 : (Jvm.Cond.methodLink "BulbInAStaffModel" (60 : Nat) ({ cls := "BulbInAStaffModel", name := "spell", desc := "(IIIIIIIII)V" } : Jvm.MethodName)) ∈ lw_all := lw_g (lw_at lw_m5 175 rfl) rfl
theorem q1251 : (Jvm.Cond.privateMethod ({ cls := "BulbInAStaffModel", name := "spell", desc := "(IIIIIIIII)V" } : Jvm.MethodName)) ∈ lw_tbl := lw_at lw_m5 176 rfl
theorem q1252 : (Jvm.Cond.instanceMethod ({ cls := "BulbInAStaffModel", name := "spell", desc := "(IIIIIIIII)V" } : Jvm.MethodName)) ∈ lw_all := lw_g (lw_at lw_m5 177 rfl) rfl
theorem q1253 : (Jvm.Cond.code ({ cls := "BulbInAStaffModel", name := "spell", desc := "(IIIIIIIII)V" } : Jvm.MethodName) prog_16_method_5_code (10 : Nat) (Option.none : Option Jvm.ClassFile.FieldType)) ∈ lw_all := lw_g (lw_at lw_m5 178 rfl) rfl
theorem q1254 : (Jvm.Cond.fieldLink "BulbInAStaffModel" (13 : Nat) "BulbInAStaffModel" "texts" "[I") ∈ lw_all := lw_g (lw_at lw_m5 179 rfl) rfl
theorem q1255 : (Jvm.Cond.fieldLink "BulbInAStaffModel" (17 : Nat) "BulbInAStaffModel" "textSize" "[I") ∈ lw_all := lw_g (lw_at lw_m5 180 rfl) rfl
theorem q1256 : (Jvm.Cond.fieldLink "BulbInAStaffModel" (64 : Nat) "BulbInAStaffModel" "textCount" "I") ∈ lw_all := lw_g (lw_at lw_m5 181 rfl) rfl
theorem q1257 : (Jvm.Cond.fieldLink "BulbInAStaffModel" (104 : Nat) "BulbInAStaffModel" "rule" "I") ∈ lw_all := lw_g (lw_at lw_m5 182 rfl) rfl
theorem q1258 : (Jvm.Cond.fieldLink "BulbInAStaffModel" (20 : Nat) "BulbInAStaffModel" "tape" "[I") ∈ lw_all := lw_g (lw_at lw_m5 183 rfl) rfl
theorem q1259 : (Jvm.Cond.fieldLink "BulbInAStaffModel" (129 : Nat) "BulbInAStaffModel" "taped" "I") ∈ lw_all := lw_g (lw_at lw_m5 184 rfl) rfl
theorem q1260 : (Jvm.Cond.fieldLink "BulbInAStaffModel" (101 : Nat) "BulbInAStaffModel" "yearNow" "I") ∈ lw_all := lw_g (lw_at lw_m5 185 rfl) rfl
theorem q1261 : (Jvm.Cond.fieldLink "BulbInAStaffModel" (23 : Nat) "BulbInAStaffModel" "guardsNow" "I") ∈ lw_all := lw_g (lw_at lw_m5 186 rfl) rfl
theorem q1262 : (Jvm.Cond.fieldLink "BulbInAStaffModel" (343 : Nat) "BulbInAStaffModel" "soldAll" "I") ∈ lw_all := lw_g (lw_at lw_m5 187 rfl) rfl
theorem q1263 : (Jvm.Cond.fieldLink "BulbInAStaffModel" (26 : Nat) "BulbInAStaffModel" "soils" "[I") ∈ lw_all := lw_g (lw_at lw_m5 188 rfl) rfl
theorem q1264 : (Jvm.Cond.fieldLink "BulbInAStaffModel" (29 : Nat) "BulbInAStaffModel" "kinds" "[I") ∈ lw_all := lw_g (lw_at lw_m5 189 rfl) rfl
theorem q1265 : (Jvm.Cond.fieldLink "BulbInAStaffModel" (32 : Nat) "BulbInAStaffModel" "rows" "[I") ∈ lw_all := lw_g (lw_at lw_m5 190 rfl) rfl
theorem q1266 : (Jvm.Cond.fieldLink "BulbInAStaffModel" (67 : Nat) "BulbInAStaffModel" "many" "I") ∈ lw_all := lw_g (lw_at lw_m5 191 rfl) rfl
theorem q1267 : (Jvm.Cond.fieldLink "BulbInAStaffModel" (185 : Nat) "BulbInAStaffModel" "ofSoil" "I") ∈ lw_all := lw_g (lw_at lw_m5 192 rfl) rfl
theorem q1268 : (Jvm.Cond.fieldLink "BulbInAStaffModel" (188 : Nat) "BulbInAStaffModel" "ofYear" "I") ∈ lw_all := lw_g (lw_at lw_m5 193 rfl) rfl
theorem q1269 : (Jvm.Cond.fieldLink "BulbInAStaffModel" (191 : Nat) "BulbInAStaffModel" "ofNumber" "I") ∈ lw_all := lw_g (lw_at lw_m5 194 rfl) rfl
theorem q1270 : (Jvm.Cond.fieldLink "BulbInAStaffModel" (194 : Nat) "BulbInAStaffModel" "ofBulbs" "I") ∈ lw_all := lw_g (lw_at lw_m5 195 rfl) rfl
theorem q1271 : (Jvm.Cond.fieldLink "BulbInAStaffModel" (197 : Nat) "BulbInAStaffModel" "ofGarden" "I") ∈ lw_all := lw_g (lw_at lw_m5 196 rfl) rfl
theorem q1272 : (Jvm.Cond.fieldLink "BulbInAStaffModel" (200 : Nat) "BulbInAStaffModel" "ofGuards" "I") ∈ lw_all := lw_g (lw_at lw_m5 197 rfl) rfl
theorem q1273 : (Jvm.Cond.fieldLink "BulbInAStaffModel" (135 : Nat) "BulbInAStaffModel" "from" "I") ∈ lw_all := lw_g (lw_at lw_m5 198 rfl) rfl
theorem q1274 : (Jvm.Cond.fieldLink "BulbInAStaffModel" (132 : Nat) "BulbInAStaffModel" "size" "I") ∈ lw_all := lw_g (lw_at lw_m5 199 rfl) rfl
theorem q1275 : (Jvm.Cond.fieldLink "BulbInAStaffModel" (138 : Nat) "BulbInAStaffModel" "here" "I") ∈ lw_all := lw_g (lw_at lw_m5 200 rfl) rfl
theorem q1276 : (Jvm.Cond.fieldLink "BulbInAStaffModel" (147 : Nat) "BulbInAStaffModel" "token" "I") ∈ lw_all := lw_g (lw_at lw_m5 201 rfl) rfl
theorem q1277 : (Jvm.Cond.fieldLink "BulbInAStaffModel" (144 : Nat) "BulbInAStaffModel" "tokenAt" "I") ∈ lw_all := lw_g (lw_at lw_m5 202 rfl) rfl
theorem q1278 : (Jvm.Cond.fieldLink "BulbInAStaffModel" (158 : Nat) "BulbInAStaffModel" "tokenWorth" "J") ∈ lw_all := lw_g (lw_at lw_m5 203 rfl) rfl
theorem q1279 : (Jvm.Cond.fieldLink "BulbInAStaffModel" (172 : Nat) "BulbInAStaffModel" "open" "I") ∈ lw_all := lw_g (lw_at lw_m5 204 rfl) rfl
theorem q1280 : (Jvm.Cond.fieldLink "BulbInAStaffModel" (162 : Nat) "BulbInAStaffModel" "bad" "Z") ∈ lw_all := lw_g (lw_at lw_m5 205 rfl) rfl
theorem q1281 : (Jvm.Cond.fieldLink "BulbInAStaffModel" (166 : Nat) "BulbInAStaffModel" "fault" "I") ∈ lw_all := lw_g (lw_at lw_m5 206 rfl) rfl
theorem q1282 : (Jvm.Cond.fieldLink "BulbInAStaffModel" (35 : Nat) "BulbInAStaffModel" "rowsAside" "[I") ∈ lw_all := lw_g (lw_at lw_m5 207 rfl) rfl
theorem q1283 : (Jvm.Cond.fieldLink "BulbInAStaffModel" (353 : Nat) "BulbInAStaffModel" "yearAside" "I") ∈ lw_all := lw_g (lw_at lw_m5 208 rfl) rfl
theorem q1284 : (Jvm.Cond.fieldLink "BulbInAStaffModel" (38 : Nat) "BulbInAStaffModel" "soilsKept" "[I") ∈ lw_all := lw_g (lw_at lw_m5 209 rfl) rfl
theorem q1285 : (Jvm.Cond.fieldLink "BulbInAStaffModel" (41 : Nat) "BulbInAStaffModel" "rowsKept" "[I") ∈ lw_all := lw_g (lw_at lw_m5 210 rfl) rfl
theorem q1286 : (Jvm.Cond.fieldLink "BulbInAStaffModel" (44 : Nat) "BulbInAStaffModel" "manyKept" "I") ∈ lw_all := lw_g (lw_at lw_m5 211 rfl) rfl
theorem q1287 : (Jvm.Cond.fieldLink "BulbInAStaffModel" (416 : Nat) "BulbInAStaffModel" "yearKept" "I") ∈ lw_all := lw_g (lw_at lw_m5 212 rfl) rfl
theorem q1288 : (Jvm.Cond.fieldLink "BulbInAStaffModel" (419 : Nat) "BulbInAStaffModel" "guardsKept" "I") ∈ lw_all := lw_g (lw_at lw_m5 213 rfl) rfl
theorem q1289 : (Jvm.Cond.fieldLink "BulbInAStaffModel" (422 : Nat) "BulbInAStaffModel" "soldKept" "I") ∈ lw_all := lw_g (lw_at lw_m5 214 rfl) rfl
theorem q1290 : (Jvm.Cond.fieldLink "BulbInAStaffModel" (425 : Nat) "BulbInAStaffModel" "ruleKept" "I") ∈ lw_all := lw_g (lw_at lw_m5 215 rfl) rfl
theorem q1291 : (Jvm.Cond.fieldLink "BulbInAStaffModel" (47 : Nat) "BulbInAStaffModel" "isThere" "[Z") ∈ lw_all := lw_g (lw_at lw_m5 216 rfl) rfl
theorem q1292 : (Jvm.Cond.fieldLink "BulbInAStaffModel" (51 : Nat) "BulbInAStaffModel" "sorts" "[I") ∈ lw_all := lw_g (lw_at lw_m5 217 rfl) rfl
theorem q1293 : (Jvm.Cond.fieldLink "BulbInAStaffModel" (54 : Nat) "BulbInAStaffModel" "sheetSize" "[I") ∈ lw_all := lw_g (lw_at lw_m5 218 rfl) rfl
theorem q1294 : (Jvm.Cond.fieldLink "BulbInAStaffModel" (57 : Nat) "BulbInAStaffModel" "items" "[I") ∈ lw_all := lw_g (lw_at lw_m5 219 rfl) rfl
theorem q1295 : (Jvm.Cond.lays "BulbInAStaffModel" "BulbInAStaffModel" "thrown" "I") ∈ lw_all := lw_g (lw_at lw_m5 220 rfl) rfl
theorem q1296 : (Jvm.Cond.soleField "BulbInAStaffModel" "thrown") ∈ lw_all := lw_g (lw_at lw_m5 221 rfl) rfl
theorem q1297 : (Jvm.Cond.laysFinal "BulbInAStaffModel" "BulbInAStaffModel" "texts" "[I") ∈ lw_all := lw_g (lw_at lw_m5 222 rfl) rfl
theorem q1298 : (Jvm.Cond.soleField "BulbInAStaffModel" "texts") ∈ lw_all := lw_g (lw_at lw_m5 223 rfl) rfl
theorem q1299 : (Jvm.Cond.laysFinal "BulbInAStaffModel" "BulbInAStaffModel" "textSize" "[I") ∈ lw_all := lw_g (lw_at lw_m5 224 rfl) rfl
theorem q1300 : (Jvm.Cond.soleField "BulbInAStaffModel" "textSize") ∈ lw_all := lw_g (lw_at lw_m5 225 rfl) rfl
theorem q1301 : (Jvm.Cond.lays "BulbInAStaffModel" "BulbInAStaffModel" "textCount" "I") ∈ lw_all := lw_g (lw_at lw_m5 226 rfl) rfl
theorem q1302 : (Jvm.Cond.soleField "BulbInAStaffModel" "textCount") ∈ lw_all := lw_g (lw_at lw_m5 227 rfl) rfl
theorem q1303 : (Jvm.Cond.lays "BulbInAStaffModel" "BulbInAStaffModel" "rule" "I") ∈ lw_all := lw_g (lw_at lw_m5 228 rfl) rfl
theorem q1304 : (Jvm.Cond.soleField "BulbInAStaffModel" "rule") ∈ lw_all := lw_g (lw_at lw_m5 229 rfl) rfl
theorem q1305 : (Jvm.Cond.laysFinal "BulbInAStaffModel" "BulbInAStaffModel" "tape" "[I") ∈ lw_all := lw_g (lw_at lw_m5 230 rfl) rfl
theorem q1306 : (Jvm.Cond.soleField "BulbInAStaffModel" "tape") ∈ lw_all := lw_g (lw_at lw_m5 231 rfl) rfl
theorem q1307 : (Jvm.Cond.lays "BulbInAStaffModel" "BulbInAStaffModel" "taped" "I") ∈ lw_all := lw_g (lw_at lw_m5 232 rfl) rfl
theorem q1308 : (Jvm.Cond.soleField "BulbInAStaffModel" "taped") ∈ lw_all := lw_g (lw_at lw_m5 233 rfl) rfl
theorem q1309 : (Jvm.Cond.lays "BulbInAStaffModel" "BulbInAStaffModel" "yearNow" "I") ∈ lw_all := lw_g (lw_at lw_m5 234 rfl) rfl
theorem q1310 : (Jvm.Cond.soleField "BulbInAStaffModel" "yearNow") ∈ lw_all := lw_g (lw_at lw_m5 235 rfl) rfl
theorem q1311 : (Jvm.Cond.lays "BulbInAStaffModel" "BulbInAStaffModel" "guardsNow" "I") ∈ lw_all := lw_g (lw_at lw_m5 236 rfl) rfl
theorem q1312 : (Jvm.Cond.soleField "BulbInAStaffModel" "guardsNow") ∈ lw_all := lw_g (lw_at lw_m5 237 rfl) rfl
theorem q1313 : (Jvm.Cond.lays "BulbInAStaffModel" "BulbInAStaffModel" "soldAll" "I") ∈ lw_all := lw_g (lw_at lw_m5 238 rfl) rfl
theorem q1314 : (Jvm.Cond.soleField "BulbInAStaffModel" "soldAll") ∈ lw_all := lw_g (lw_at lw_m5 239 rfl) rfl
theorem q1315 : (Jvm.Cond.laysFinal "BulbInAStaffModel" "BulbInAStaffModel" "soils" "[I") ∈ lw_all := lw_g (lw_at lw_m6 0 rfl) rfl
theorem q1316 : (Jvm.Cond.soleField "BulbInAStaffModel" "soils") ∈ lw_all := lw_g (lw_at lw_m6 1 rfl) rfl
theorem q1317 : (Jvm.Cond.laysFinal "BulbInAStaffModel" "BulbInAStaffModel" "kinds" "[I") ∈ lw_all := lw_g (lw_at lw_m6 2 rfl) rfl
theorem q1318 : (Jvm.Cond.soleField "BulbInAStaffModel" "kinds") ∈ lw_all := lw_g (lw_at lw_m6 3 rfl) rfl
theorem q1319 : (Jvm.Cond.laysFinal "BulbInAStaffModel" "BulbInAStaffModel" "rows" "[I") ∈ lw_all := lw_g (lw_at lw_m6 4 rfl) rfl
theorem q1320 : (Jvm.Cond.soleField "BulbInAStaffModel" "rows") ∈ lw_all := lw_g (lw_at lw_m6 5 rfl) rfl
theorem q1321 : (Jvm.Cond.lays "BulbInAStaffModel" "BulbInAStaffModel" "many" "I") ∈ lw_all := lw_g (lw_at lw_m6 6 rfl) rfl
theorem q1322 : (Jvm.Cond.soleField "BulbInAStaffModel" "many") ∈ lw_all := lw_g (lw_at lw_m6 7 rfl) rfl
theorem q1323 : (Jvm.Cond.lays "BulbInAStaffModel" "BulbInAStaffModel" "ofSoil" "I") ∈ lw_all := lw_g (lw_at lw_m6 8 rfl) rfl
theorem q1324 : (Jvm.Cond.soleField "BulbInAStaffModel" "ofSoil") ∈ lw_all := lw_g (lw_at lw_m6 9 rfl) rfl
theorem q1325 : (Jvm.Cond.lays "BulbInAStaffModel" "BulbInAStaffModel" "ofYear" "I") ∈ lw_all := lw_g (lw_at lw_m6 10 rfl) rfl
theorem q1326 : (Jvm.Cond.soleField "BulbInAStaffModel" "ofYear") ∈ lw_all := lw_g (lw_at lw_m6 11 rfl) rfl
theorem q1327 : (Jvm.Cond.lays "BulbInAStaffModel" "BulbInAStaffModel" "ofNumber" "I") ∈ lw_all := lw_g (lw_at lw_m6 12 rfl) rfl
theorem q1328 : (Jvm.Cond.soleField "BulbInAStaffModel" "ofNumber") ∈ lw_all := lw_g (lw_at lw_m6 13 rfl) rfl
theorem q1329 : (Jvm.Cond.lays "BulbInAStaffModel" "BulbInAStaffModel" "ofBulbs" "I") ∈ lw_all := lw_g (lw_at lw_m6 14 rfl) rfl
theorem q1330 : (Jvm.Cond.soleField "BulbInAStaffModel" "ofBulbs") ∈ lw_all := lw_g (lw_at lw_m6 15 rfl) rfl
theorem q1331 : (Jvm.Cond.lays "BulbInAStaffModel" "BulbInAStaffModel" "ofGarden" "I") ∈ lw_all := lw_g (lw_at lw_m6 16 rfl) rfl
theorem q1332 : (Jvm.Cond.soleField "BulbInAStaffModel" "ofGarden") ∈ lw_all := lw_g (lw_at lw_m6 17 rfl) rfl
theorem q1333 : (Jvm.Cond.lays "BulbInAStaffModel" "BulbInAStaffModel" "ofGuards" "I") ∈ lw_all := lw_g (lw_at lw_m6 18 rfl) rfl
theorem q1334 : (Jvm.Cond.soleField "BulbInAStaffModel" "ofGuards") ∈ lw_all := lw_g (lw_at lw_m6 19 rfl) rfl
theorem q1335 : (Jvm.Cond.lays "BulbInAStaffModel" "BulbInAStaffModel" "from" "I") ∈ lw_all := lw_g (lw_at lw_m6 20 rfl) rfl
theorem q1336 : (Jvm.Cond.soleField "BulbInAStaffModel" "from") ∈ lw_all := lw_g (lw_at lw_m6 21 rfl) rfl
theorem q1337 : (Jvm.Cond.lays "BulbInAStaffModel" "BulbInAStaffModel" "size" "I") ∈ lw_all := lw_g (lw_at lw_m6 22 rfl) rfl
theorem q1338 : (Jvm.Cond.soleField "BulbInAStaffModel" "size") ∈ lw_all := lw_g (lw_at lw_m6 23 rfl) rfl
theorem q1339 : (Jvm.Cond.lays "BulbInAStaffModel" "BulbInAStaffModel" "here" "I") ∈ lw_all := lw_g (lw_at lw_m6 24 rfl) rfl
theorem q1340 : (Jvm.Cond.soleField "BulbInAStaffModel" "here") ∈ lw_all := lw_g (lw_at lw_m6 25 rfl) rfl
theorem q1341 : (Jvm.Cond.lays "BulbInAStaffModel" "BulbInAStaffModel" "token" "I") ∈ lw_all := lw_g (lw_at lw_m6 26 rfl) rfl
theorem q1342 : (Jvm.Cond.soleField "BulbInAStaffModel" "token") ∈ lw_all := lw_g (lw_at lw_m6 27 rfl) rfl
theorem q1343 : (Jvm.Cond.lays "BulbInAStaffModel" "BulbInAStaffModel" "tokenAt" "I") ∈ lw_all := lw_g (lw_at lw_m6 28 rfl) rfl
theorem q1344 : (Jvm.Cond.soleField "BulbInAStaffModel" "tokenAt") ∈ lw_all := lw_g (lw_at lw_m6 29 rfl) rfl
theorem q1345 : (Jvm.Cond.lays "BulbInAStaffModel" "BulbInAStaffModel" "tokenWorth" "J") ∈ lw_all := lw_g (lw_at lw_m6 30 rfl) rfl
theorem q1346 : (Jvm.Cond.soleField "BulbInAStaffModel" "tokenWorth") ∈ lw_all := lw_g (lw_at lw_m6 31 rfl) rfl
theorem q1347 : (Jvm.Cond.lays "BulbInAStaffModel" "BulbInAStaffModel" "open" "I") ∈ lw_all := lw_g (lw_at lw_m6 32 rfl) rfl
theorem q1348 : (Jvm.Cond.soleField "BulbInAStaffModel" "open") ∈ lw_all := lw_g (lw_at lw_m6 33 rfl) rfl
theorem q1349 : (Jvm.Cond.lays "BulbInAStaffModel" "BulbInAStaffModel" "bad" "Z") ∈ lw_all := lw_g (lw_at lw_m6 34 rfl) rfl
theorem q1350 : (Jvm.Cond.soleField "BulbInAStaffModel" "bad") ∈ lw_all := lw_g (lw_at lw_m6 35 rfl) rfl
theorem q1351 : (Jvm.Cond.lays "BulbInAStaffModel" "BulbInAStaffModel" "fault" "I") ∈ lw_all := lw_g (lw_at lw_m6 36 rfl) rfl
theorem q1352 : (Jvm.Cond.soleField "BulbInAStaffModel" "fault") ∈ lw_all := lw_g (lw_at lw_m6 37 rfl) rfl
theorem q1353 : (Jvm.Cond.laysFinal "BulbInAStaffModel" "BulbInAStaffModel" "rowsAside" "[I") ∈ lw_all := lw_g (lw_at lw_m6 38 rfl) rfl
theorem q1354 : (Jvm.Cond.soleField "BulbInAStaffModel" "rowsAside") ∈ lw_all := lw_g (lw_at lw_m6 39 rfl) rfl
theorem q1355 : (Jvm.Cond.lays "BulbInAStaffModel" "BulbInAStaffModel" "yearAside" "I") ∈ lw_all := lw_g (lw_at lw_m6 40 rfl) rfl
theorem q1356 : (Jvm.Cond.soleField "BulbInAStaffModel" "yearAside") ∈ lw_all := lw_g (lw_at lw_m6 41 rfl) rfl
theorem q1357 : (Jvm.Cond.laysFinal "BulbInAStaffModel" "BulbInAStaffModel" "soilsKept" "[I") ∈ lw_all := lw_g (lw_at lw_m6 42 rfl) rfl
theorem q1358 : (Jvm.Cond.soleField "BulbInAStaffModel" "soilsKept") ∈ lw_all := lw_g (lw_at lw_m6 43 rfl) rfl
theorem q1359 : (Jvm.Cond.laysFinal "BulbInAStaffModel" "BulbInAStaffModel" "rowsKept" "[I") ∈ lw_all := lw_g (lw_at lw_m6 44 rfl) rfl
theorem q1360 : (Jvm.Cond.soleField "BulbInAStaffModel" "rowsKept") ∈ lw_all := lw_g (lw_at lw_m6 45 rfl) rfl
theorem q1361 : (Jvm.Cond.lays "BulbInAStaffModel" "BulbInAStaffModel" "manyKept" "I") ∈ lw_all := lw_g (lw_at lw_m6 46 rfl) rfl
theorem q1362 : (Jvm.Cond.soleField "BulbInAStaffModel" "manyKept") ∈ lw_all := lw_g (lw_at lw_m6 47 rfl) rfl
theorem q1363 : (Jvm.Cond.lays "BulbInAStaffModel" "BulbInAStaffModel" "yearKept" "I") ∈ lw_all := lw_g (lw_at lw_m6 48 rfl) rfl
theorem q1364 : (Jvm.Cond.soleField "BulbInAStaffModel" "yearKept") ∈ lw_all := lw_g (lw_at lw_m6 49 rfl) rfl
theorem q1365 : (Jvm.Cond.lays "BulbInAStaffModel" "BulbInAStaffModel" "guardsKept" "I") ∈ lw_all := lw_g (lw_at lw_m6 50 rfl) rfl
theorem q1366 : (Jvm.Cond.soleField "BulbInAStaffModel" "guardsKept") ∈ lw_all := lw_g (lw_at lw_m6 51 rfl) rfl
theorem q1367 : (Jvm.Cond.lays "BulbInAStaffModel" "BulbInAStaffModel" "soldKept" "I") ∈ lw_all := lw_g (lw_at lw_m6 52 rfl) rfl
theorem q1368 : (Jvm.Cond.soleField "BulbInAStaffModel" "soldKept") ∈ lw_all := lw_g (lw_at lw_m6 53 rfl) rfl
theorem q1369 : (Jvm.Cond.lays "BulbInAStaffModel" "BulbInAStaffModel" "ruleKept" "I") ∈ lw_all := lw_g (lw_at lw_m6 54 rfl) rfl
theorem q1370 : (Jvm.Cond.soleField "BulbInAStaffModel" "ruleKept") ∈ lw_all := lw_g (lw_at lw_m6 55 rfl) rfl
theorem q1371 : (Jvm.Cond.laysFinal "BulbInAStaffModel" "BulbInAStaffModel" "isThere" "[Z") ∈ lw_all := lw_g (lw_at lw_m6 56 rfl) rfl
theorem q1372 : (Jvm.Cond.soleField "BulbInAStaffModel" "isThere") ∈ lw_all := lw_g (lw_at lw_m6 57 rfl) rfl
theorem q1373 : (Jvm.Cond.laysFinal "BulbInAStaffModel" "BulbInAStaffModel" "sorts" "[I") ∈ lw_all := lw_g (lw_at lw_m6 58 rfl) rfl
theorem q1374 : (Jvm.Cond.soleField "BulbInAStaffModel" "sorts") ∈ lw_all := lw_g (lw_at lw_m6 59 rfl) rfl
theorem q1375 : (Jvm.Cond.laysFinal "BulbInAStaffModel" "BulbInAStaffModel" "sheetSize" "[I") ∈ lw_all := lw_g (lw_at lw_m6 60 rfl) rfl
theorem q1376 : (Jvm.Cond.soleField "BulbInAStaffModel" "sheetSize") ∈ lw_all := lw_g (lw_at lw_m6 61 rfl) rfl
theorem q1377 : (Jvm.Cond.laysFinal "BulbInAStaffModel" "BulbInAStaffModel" "items" "[I") ∈ lw_all := lw_g (lw_at lw_m6 62 rfl) rfl
theorem q1378 : (Jvm.Cond.soleField "BulbInAStaffModel" "items") ∈ lw_all := lw_g (lw_at lw_m6 63 rfl) rfl
theorem q1379 : (Jvm.Cond.superclass "BulbInAStaffModel" "java/lang/Object") ∈ lw_all := lw_g (lw_at lw_m6 64 rfl) rfl
theorem q1382 : (Jvm.Cond.instanceMethod ({ cls := "BulbInAStaffModel", name := "set", desc := "(III)I" } : Jvm.MethodName)) ∈ lw_all := lw_g (lw_at lw_m6 67 rfl) rfl
theorem q1383 : (Jvm.Cond.selects "BulbInAStaffModel" ({ cls := "BulbInAStaffModel", name := "set", desc := "(III)I" } : Jvm.MethodName) ({ cls := "BulbInAStaffModel", name := "set", desc := "(III)I" } : Jvm.MethodName)) ∈ lw_all := lw_g (lw_at lw_m6 68 rfl) rfl
theorem q1384 : (Jvm.Cond.code ({ cls := "BulbInAStaffModel", name := "set", desc := "(III)I" } : Jvm.MethodName) prog_16_method_10_code (5 : Nat) (Option.some Jvm.ClassFile.FieldType.int)) ∈ lw_all := lw_g (lw_at lw_m6 69 rfl) rfl
theorem q1385 : (Jvm.Cond.constantLong "BulbInAStaffModel" (83 : Nat) (5 : Int64)) ∈ lw_all := lw_g (lw_at lw_m6 70 rfl) rfl
theorem q1386 : (Jvm.Cond.methodLink "BulbInAStaffModel" (70 : Nat) ({ cls := "BulbInAStaffModel", name := "in", desc := "(JJJ)Z" } : Jvm.MethodName)) ∈ lw_all := lw_g (lw_at lw_m6 71 rfl) rfl
theorem q1387 : (Jvm.Cond.static ({ cls := "BulbInAStaffModel", name := "in", desc := "(JJJ)Z" } : Jvm.MethodName)) ∈ lw_all := lw_g (lw_at lw_m6 72 rfl) rfl
theorem q1388 : (Jvm.Cond.code ({ cls := "BulbInAStaffModel", name := "in", desc := "(JJJ)Z" } : Jvm.MethodName) prog_16_method_2_code (6 : Nat) (Option.some Jvm.ClassFile.FieldType.boolean)) ∈ lw_all := lw_g (lw_at lw_m6 73 rfl) rfl
theorem q1389 : (Jvm.Cond.methodLink "BulbInAStaffModel" (85 : Nat) ({ cls := "BulbInAStaffModel", name := "isOf", desc := "(II)Z" } : Jvm.MethodName)) ∈ lw_all := lw_g (lw_at lw_m6 74 rfl) rfl
theorem q1390 : (Jvm.Cond.privateMethod ({ cls := "BulbInAStaffModel", name := "isOf", desc := "(II)Z" } : Jvm.MethodName)) ∈ lw_tbl := lw_at lw_m6 75 rfl
theorem q1391 : (Jvm.Cond.instanceMethod ({ cls := "BulbInAStaffModel", name := "isOf", desc := "(II)Z" } : Jvm.MethodName)) ∈ lw_all := lw_g (lw_at lw_m6 76 rfl) rfl
theorem q1392 : (Jvm.Cond.code ({ cls := "BulbInAStaffModel", name := "isOf", desc := "(II)Z" } : Jvm.MethodName) prog_16_method_8_code (3 : Nat) (Option.some Jvm.ClassFile.FieldType.boolean)) ∈ lw_all := lw_g (lw_at lw_m6 77 rfl) rfl
theorem q1393 : (Jvm.Cond.methodLink "BulbInAStaffModel" (76 : Nat) ({ cls := "BulbInAStaffModel", name := "isGarden", desc := "(I)Z" } : Jvm.MethodName)) ∈ lw_all := lw_g (lw_at lw_m6 78 rfl) rfl
theorem q1394 : (Jvm.Cond.static ({ cls := "BulbInAStaffModel", name := "isGarden", desc := "(I)Z" } : Jvm.MethodName)) ∈ lw_all := lw_g (lw_at lw_m6 79 rfl) rfl
theorem q1395 : (Jvm.Cond.code ({ cls := "BulbInAStaffModel", name := "isGarden", desc := "(I)Z" } : Jvm.MethodName) prog_16_method_7_code (1 : Nat) (Option.some Jvm.ClassFile.FieldType.boolean)) ∈ lw_all := lw_g (lw_at lw_m6 80 rfl) rfl
theorem q1396 : (Jvm.Cond.constantLong "BulbInAStaffModel" (74 : Nat) (7 : Int64)) ∈ lw_all := lw_g (lw_at lw_m6 81 rfl) rfl
theorem q1397 : (Jvm.Cond.methodLink "BulbInAStaffModel" (80 : Nat) ({ cls := "BulbInAStaffModel", name := "isPlanting", desc := "(I)Z" } : Jvm.MethodName)) ∈ lw_all := lw_g (lw_at lw_m6 82 rfl) rfl
theorem q1398 : (Jvm.Cond.privateMethod ({ cls := "BulbInAStaffModel", name := "isPlanting", desc := "(I)Z" } : Jvm.MethodName)) ∈ lw_tbl := lw_at lw_m6 83 rfl
theorem q1399 : (Jvm.Cond.instanceMethod ({ cls := "BulbInAStaffModel", name := "isPlanting", desc := "(I)Z" } : Jvm.MethodName)) ∈ lw_all := lw_g (lw_at lw_m6 84 rfl) rfl
theorem q1400 : (Jvm.Cond.code ({ cls := "BulbInAStaffModel", name := "isPlanting", desc := "(I)Z" } : Jvm.MethodName) prog_16_method_6_code (2 : Nat) (Option.some Jvm.ClassFile.FieldType.boolean)) ∈ lw_all := lw_g (lw_at lw_m6 85 rfl) rfl
theorem q1401 : (Jvm.Cond.methodLink "BulbInAStaffModel" (89 : Nat) ({ cls := "BulbInAStaffModel", name := "mostOf", desc := "(I)I" } : Jvm.MethodName)) ∈ lw_all := lw_g (lw_at lw_m6 86 rfl) rfl
theorem q1402 : (Jvm.Cond.static ({ cls := "BulbInAStaffModel", name := "mostOf", desc := "(I)I" } : Jvm.MethodName)) ∈ lw_all := lw_g (lw_at lw_m6 87 rfl) rfl
theorem q1403 : (Jvm.Cond.code ({ cls := "BulbInAStaffModel", name := "mostOf", desc := "(I)I" } : Jvm.MethodName) prog_16_method_9_code (1 : Nat) (Option.some Jvm.ClassFile.FieldType.int)) ∈ lw_all := lw_g (lw_at lw_m6 88 rfl) rfl
theorem q1404 : (Jvm.Cond.methodLink "BulbInAStaffModel" (93 : Nat) ({ cls := "BulbInAStaffModel", name := "told", desc := "(II)I" } : Jvm.MethodName)) ∈ lw_all := lw_g (lw_at lw_m6 89 rfl) rfl
theorem q1405 : (Jvm.Cond.instanceMethod ({ cls := "BulbInAStaffModel", name := "told", desc := "(II)I" } : Jvm.MethodName)) ∈ lw_all := lw_g (lw_at lw_m6 90 rfl) rfl
theorem q1406 : (Jvm.Cond.selects "BulbInAStaffModel" ({ cls := "BulbInAStaffModel", name := "told", desc := "(II)I" } : Jvm.MethodName) ({ cls := "BulbInAStaffModel", name := "told", desc := "(II)I" } : Jvm.MethodName)) ∈ lw_all := lw_g (lw_at lw_m6 91 rfl) rfl
theorem q1407 : (Jvm.Cond.code ({ cls := "BulbInAStaffModel", name := "told", desc := "(II)I" } : Jvm.MethodName) prog_16_method_14_code (4 : Nat) (Option.some Jvm.ClassFile.FieldType.int)) ∈ lw_all := lw_g (lw_at lw_m6 92 rfl) rfl
theorem q1408 : (Jvm.Cond.constantLong "BulbInAStaffModel" (113 : Nat) (10 : Int64)) ∈ lw_all := lw_g (lw_at lw_m6 93 rfl) rfl
theorem q1409 : (Jvm.Cond.methodLink "BulbInAStaffModel" (115 : Nat) ({ cls := "BulbInAStaffModel", name := "rotsOf", desc := "(I)I" } : Jvm.MethodName)) ∈ lw_all := lw_g (lw_at lw_m6 94 rfl) rfl
theorem q1410 : (Jvm.Cond.privateMethod ({ cls := "BulbInAStaffModel", name := "rotsOf", desc := "(I)I" } : Jvm.MethodName)) ∈ lw_tbl := lw_at lw_m6 95 rfl
theorem q1411 : (Jvm.Cond.instanceMethod ({ cls := "BulbInAStaffModel", name := "rotsOf", desc := "(I)I" } : Jvm.MethodName)) ∈ lw_all := lw_g (lw_at lw_m6 96 rfl) rfl
theorem q1412 : (Jvm.Cond.code ({ cls := "BulbInAStaffModel", name := "rotsOf", desc := "(I)I" } : Jvm.MethodName) prog_16_method_65_code (5 : Nat) (Option.some Jvm.ClassFile.FieldType.int)) ∈ lw_all := lw_g (lw_at lw_m6 97 rfl) rfl
theorem q1413 : (Jvm.Cond.methodLink "BulbInAStaffModel" (124 : Nat) ({ cls := "BulbInAStaffModel", name := "says", desc := "(II)I" } : Jvm.MethodName)) ∈ lw_all := lw_g (lw_at lw_m6 98 rfl) rfl
theorem q1414 : (Jvm.Cond.privateMethod ({ cls := "BulbInAStaffModel", name := "says", desc := "(II)I" } : Jvm.MethodName)) ∈ lw_tbl := lw_at lw_m6 99 rfl
theorem q1415 : (Jvm.Cond.instanceMethod ({ cls := "BulbInAStaffModel", name := "says", desc := "(II)I" } : Jvm.MethodName)) ∈ lw_all := lw_g (lw_at lw_m6 100 rfl) rfl
theorem q1416 : (Jvm.Cond.code ({ cls := "BulbInAStaffModel", name := "says", desc := "(II)I" } : Jvm.MethodName) prog_16_method_64_code (3 : Nat) (Option.some Jvm.ClassFile.FieldType.int)) ∈ lw_all := lw_g (lw_at lw_m6 101 rfl) rfl
theorem q1417 : (Jvm.Cond.methodLink "BulbInAStaffModel" (330 : Nat) ({ cls := "BulbInAStaffModel", name := "read", desc := "(II)I" } : Jvm.MethodName)) ∈ lw_all := lw_g (lw_at lw_m6 102 rfl) rfl
theorem q1418 : (Jvm.Cond.privateMethod ({ cls := "BulbInAStaffModel", name := "read", desc := "(II)I" } : Jvm.MethodName)) ∈ lw_tbl := lw_at lw_m6 103 rfl
theorem q1419 : (Jvm.Cond.instanceMethod ({ cls := "BulbInAStaffModel", name := "read", desc := "(II)I" } : Jvm.MethodName)) ∈ lw_all := lw_g (lw_at lw_m6 104 rfl) rfl
theorem q1420 : (Jvm.Cond.code ({ cls := "BulbInAStaffModel", name := "read", desc := "(II)I" } : Jvm.MethodName) prog_16_method_61_code (6 : Nat) (Option.some Jvm.ClassFile.FieldType.int)) ∈ lw_all := lw_g (lw_at lw_m6 105 rfl) rfl
theorem q1421 : (Jvm.Cond.methodLink "BulbInAStaffModel" (178 : Nat) ({ cls := "BulbInAStaffModel", name := "next", desc := "()V" } : Jvm.MethodName)) ∈ lw_all := lw_g (lw_at lw_m6 106 rfl) rfl
theorem q1422 : (Jvm.Cond.privateMethod ({ cls := "BulbInAStaffModel", name := "next", desc := "()V" } : Jvm.MethodName)) ∈ lw_tbl := lw_at lw_m6 107 rfl
theorem q1423 : (Jvm.Cond.instanceMethod ({ cls := "BulbInAStaffModel", name := "next", desc := "()V" } : Jvm.MethodName)) ∈ lw_all := lw_g (lw_at lw_m6 108 rfl) rfl
theorem q1424 : (Jvm.Cond.code ({ cls := "BulbInAStaffModel", name := "next", desc := "()V" } : Jvm.MethodName) prog_16_method_17_code (3 : Nat) (Option.none : Option Jvm.ClassFile.FieldType)) ∈ lw_all := lw_g (lw_at lw_m6 109 rfl) rfl
theorem q1425 : (Jvm.Cond.methodLink "BulbInAStaffModel" (141 : Nat) ({ cls := "BulbInAStaffModel", name := "byteAt", desc := "(I)I" } : Jvm.MethodName)) ∈ lw_all := lw_g (lw_at lw_m6 110 rfl) rfl
theorem q1426 : (Jvm.Cond.privateMethod ({ cls := "BulbInAStaffModel", name := "byteAt", desc := "(I)I" } : Jvm.MethodName)) ∈ lw_tbl := lw_at lw_m6 111 rfl
theorem q1427 : (Jvm.Cond.instanceMethod ({ cls := "BulbInAStaffModel", name := "byteAt", desc := "(I)I" } : Jvm.MethodName)) ∈ lw_all := lw_g (lw_at lw_m6 112 rfl) rfl
theorem q1428 : (Jvm.Cond.code ({ cls := "BulbInAStaffModel", name := "byteAt", desc := "(I)I" } : Jvm.MethodName) prog_16_method_16_code (2 : Nat) (Option.some Jvm.ClassFile.FieldType.int)) ∈ lw_all := lw_g (lw_at lw_m6 113 rfl) rfl
theorem q1429 : (Jvm.Cond.constantLong "BulbInAStaffModel" (150 : Nat) (97 : Int64)) ∈ lw_all := lw_g (lw_at lw_m6 114 rfl) rfl
theorem q1430 : (Jvm.Cond.constantLong "BulbInAStaffModel" (152 : Nat) (122 : Int64)) ∈ lw_all := lw_g (lw_at lw_m6 115 rfl) rfl
theorem q1431 : (Jvm.Cond.constantLong "BulbInAStaffModel" (154 : Nat) (48 : Int64)) ∈ lw_all := lw_g (lw_at lw_m6 116 rfl) rfl
theorem q1432 : (Jvm.Cond.constantLong "BulbInAStaffModel" (156 : Nat) (57 : Int64)) ∈ lw_all := lw_g (lw_at lw_m6 117 rfl) rfl
theorem q1433 : (Jvm.Cond.methodLink "BulbInAStaffModel" (181 : Nat) ({ cls := "BulbInAStaffModel", name := "isWord", desc := "(IIIIIIII)Z" } : Jvm.MethodName)) ∈ lw_all := lw_g (lw_at lw_m6 118 rfl) rfl
theorem q1434 : (Jvm.Cond.privateMethod ({ cls := "BulbInAStaffModel", name := "isWord", desc := "(IIIIIIII)Z" } : Jvm.MethodName)) ∈ lw_tbl := lw_at lw_m6 119 rfl
theorem q1435 : (Jvm.Cond.instanceMethod ({ cls := "BulbInAStaffModel", name := "isWord", desc := "(IIIIIIII)Z" } : Jvm.MethodName)) ∈ lw_all := lw_g (lw_at lw_m6 120 rfl) rfl
theorem q1436 : (Jvm.Cond.code ({ cls := "BulbInAStaffModel", name := "isWord", desc := "(IIIIIIII)Z" } : Jvm.MethodName) prog_16_method_20_code (9 : Nat) (Option.some Jvm.ClassFile.FieldType.boolean)) ∈ lw_all := lw_g (lw_at lw_m6 121 rfl) rfl
theorem q1437 : (Jvm.Cond.methodLink "BulbInAStaffModel" (169 : Nat) ({ cls := "BulbInAStaffModel", name := "isLetter", desc := "(II)Z" } : Jvm.MethodName)) ∈ lw_all := lw_g (lw_at lw_m6 122 rfl) rfl
theorem q1438 : (Jvm.Cond.privateMethod ({ cls := "BulbInAStaffModel", name := "isLetter", desc := "(II)Z" } : Jvm.MethodName)) ∈ lw_tbl := lw_at lw_m6 123 rfl
theorem q1439 : (Jvm.Cond.instanceMethod ({ cls := "BulbInAStaffModel", name := "isLetter", desc := "(II)Z" } : Jvm.MethodName)) ∈ lw_all := lw_g (lw_at lw_m6 124 rfl) rfl
theorem q1440 : (Jvm.Cond.code ({ cls := "BulbInAStaffModel", name := "isLetter", desc := "(II)Z" } : Jvm.MethodName) prog_16_method_19_code (3 : Nat) (Option.some Jvm.ClassFile.FieldType.boolean)) ∈ lw_all := lw_g (lw_at lw_m6 125 rfl) rfl
theorem q1441 : (Jvm.Cond.methodLink "BulbInAStaffModel" (326 : Nat) ({ cls := "BulbInAStaffModel", name := "part", desc := "(Z)I" } : Jvm.MethodName)) ∈ lw_all := lw_g (lw_at lw_m6 126 rfl) rfl
theorem q1442 : (Jvm.Cond.privateMethod ({ cls := "BulbInAStaffModel", name := "part", desc := "(Z)I" } : Jvm.MethodName)) ∈ lw_tbl := lw_at lw_m6 127 rfl
theorem q1443 : (Jvm.Cond.instanceMethod ({ cls := "BulbInAStaffModel", name := "part", desc := "(Z)I" } : Jvm.MethodName)) ∈ lw_all := lw_g (lw_at lw_m6 128 rfl) rfl
theorem q1444 : (Jvm.Cond.code ({ cls := "BulbInAStaffModel", name := "part", desc := "(Z)I" } : Jvm.MethodName) prog_16_method_60_code (3 : Nat) (Option.some Jvm.ClassFile.FieldType.int)) ∈ lw_all := lw_g (lw_at lw_m6 129 rfl) rfl
theorem q1445 : (Jvm.Cond.methodLink "BulbInAStaffModel" (175 : Nat) ({ cls := "BulbInAStaffModel", name := "fail", desc := "()V" } : Jvm.MethodName)) ∈ lw_all := lw_g (lw_at lw_m6 130 rfl) rfl
theorem q1446 : (Jvm.Cond.privateMethod ({ cls := "BulbInAStaffModel", name := "fail", desc := "()V" } : Jvm.MethodName)) ∈ lw_tbl := lw_at lw_m6 131 rfl
theorem q1447 : (Jvm.Cond.instanceMethod ({ cls := "BulbInAStaffModel", name := "fail", desc := "()V" } : Jvm.MethodName)) ∈ lw_all := lw_g (lw_at lw_m6 132 rfl) rfl
theorem q1448 : (Jvm.Cond.code ({ cls := "BulbInAStaffModel", name := "fail", desc := "()V" } : Jvm.MethodName) prog_16_method_18_code (1 : Nat) (Option.none : Option Jvm.ClassFile.FieldType)) ∈ lw_all := lw_g (lw_at lw_m6 133 rfl) rfl
theorem q1449 : (Jvm.Cond.methodLink "BulbInAStaffModel" (323 : Nat) ({ cls := "BulbInAStaffModel", name := "either0", desc := "()I" } : Jvm.MethodName)) ∈ lw_all := lw_g (lw_at lw_m6 134 rfl) rfl
theorem q1450 : (Jvm.Cond.privateMethod ({ cls := "BulbInAStaffModel", name := "either0", desc := "()I" } : Jvm.MethodName)) ∈ lw_tbl := lw_at lw_m6 135 rfl
theorem q1451 : (Jvm.Cond.instanceMethod ({ cls := "BulbInAStaffModel", name := "either0", desc := "()I" } : Jvm.MethodName)) ∈ lw_all := lw_g (lw_at lw_m6 136 rfl) rfl
theorem q1452 : (Jvm.Cond.code ({ cls := "BulbInAStaffModel", name := "either0", desc := "()I" } : Jvm.MethodName) prog_16_method_59_code (3 : Nat) (Option.some Jvm.ClassFile.FieldType.int)) ∈ lw_all := lw_g (lw_at lw_m6 137 rfl) rfl
theorem q1453 : (Jvm.Cond.methodLink "BulbInAStaffModel" (320 : Nat) ({ cls := "BulbInAStaffModel", name := "both0", desc := "()I" } : Jvm.MethodName)) ∈ lw_all := lw_g (lw_at lw_m6 138 rfl) rfl
theorem q1454 : (Jvm.Cond.privateMethod ({ cls := "BulbInAStaffModel", name := "both0", desc := "()I" } : Jvm.MethodName)) ∈ lw_tbl := lw_at lw_m6 139 rfl
theorem q1455 : (Jvm.Cond.instanceMethod ({ cls := "BulbInAStaffModel", name := "both0", desc := "()I" } : Jvm.MethodName)) ∈ lw_all := lw_g (lw_at lw_m6 140 rfl) rfl
theorem q1456 : (Jvm.Cond.code ({ cls := "BulbInAStaffModel", name := "both0", desc := "()I" } : Jvm.MethodName) prog_16_method_58_code (3 : Nat) (Option.some Jvm.ClassFile.FieldType.int)) ∈ lw_all := lw_g (lw_at lw_m6 141 rfl) rfl
theorem q1457 : (Jvm.Cond.methodLink "BulbInAStaffModel" (317 : Nat) ({ cls := "BulbInAStaffModel", name := "not0", desc := "()I" } : Jvm.MethodName)) ∈ lw_all := lw_g (lw_at lw_m6 142 rfl) rfl
theorem q1458 : (Jvm.Cond.privateMethod ({ cls := "BulbInAStaffModel", name := "not0", desc := "()I" } : Jvm.MethodName)) ∈ lw_tbl := lw_at lw_m6 143 rfl
theorem q1459 : (Jvm.Cond.instanceMethod ({ cls := "BulbInAStaffModel", name := "not0", desc := "()I" } : Jvm.MethodName)) ∈ lw_all := lw_g (lw_at lw_m6 144 rfl) rfl
theorem q1460 : (Jvm.Cond.code ({ cls := "BulbInAStaffModel", name := "not0", desc := "()I" } : Jvm.MethodName) prog_16_method_57_code (4 : Nat) (Option.some Jvm.ClassFile.FieldType.int)) ∈ lw_all := lw_g (lw_at lw_m6 145 rfl) rfl
theorem q1461 : (Jvm.Cond.methodLink "BulbInAStaffModel" (206 : Nat) ({ cls := "BulbInAStaffModel", name := "opens", desc := "()Z" } : Jvm.MethodName)) ∈ lw_all := lw_g (lw_at lw_m6 146 rfl) rfl
theorem q1462 : (Jvm.Cond.privateMethod ({ cls := "BulbInAStaffModel", name := "opens", desc := "()Z" } : Jvm.MethodName)) ∈ lw_tbl := lw_at lw_m6 147 rfl
theorem q1463 : (Jvm.Cond.instanceMethod ({ cls := "BulbInAStaffModel", name := "opens", desc := "()Z" } : Jvm.MethodName)) ∈ lw_all := lw_g (lw_at lw_m6 148 rfl) rfl
theorem q1464 : (Jvm.Cond.code ({ cls := "BulbInAStaffModel", name := "opens", desc := "()Z" } : Jvm.MethodName) prog_16_method_22_code (1 : Nat) (Option.some Jvm.ClassFile.FieldType.boolean)) ∈ lw_all := lw_g (lw_at lw_m6 149 rfl) rfl
theorem q1465 : (Jvm.Cond.methodLink "BulbInAStaffModel" (299 : Nat) ({ cls := "BulbInAStaffModel", name := "not1", desc := "()I" } : Jvm.MethodName)) ∈ lw_all := lw_g (lw_at lw_m6 150 rfl) rfl
theorem q1466 : (Jvm.Cond.privateMethod ({ cls := "BulbInAStaffModel", name := "not1", desc := "()I" } : Jvm.MethodName)) ∈ lw_tbl := lw_at lw_m6 151 rfl
theorem q1467 : (Jvm.Cond.instanceMethod ({ cls := "BulbInAStaffModel", name := "not1", desc := "()I" } : Jvm.MethodName)) ∈ lw_all := lw_g (lw_at lw_m6 152 rfl) rfl
theorem q1468 : (Jvm.Cond.code ({ cls := "BulbInAStaffModel", name := "not1", desc := "()I" } : Jvm.MethodName) prog_16_method_51_code (4 : Nat) (Option.some Jvm.ClassFile.FieldType.int)) ∈ lw_all := lw_g (lw_at lw_m6 153 rfl) rfl
theorem q1469 : (Jvm.Cond.methodLink "BulbInAStaffModel" (281 : Nat) ({ cls := "BulbInAStaffModel", name := "not2", desc := "()I" } : Jvm.MethodName)) ∈ lw_all := lw_g (lw_at lw_m6 154 rfl) rfl
theorem q1470 : (Jvm.Cond.privateMethod ({ cls := "BulbInAStaffModel", name := "not2", desc := "()I" } : Jvm.MethodName)) ∈ lw_tbl := lw_at lw_m6 155 rfl
theorem q1471 : (Jvm.Cond.instanceMethod ({ cls := "BulbInAStaffModel", name := "not2", desc := "()I" } : Jvm.MethodName)) ∈ lw_all := lw_g (lw_at lw_m6 156 rfl) rfl
theorem q1472 : (Jvm.Cond.code ({ cls := "BulbInAStaffModel", name := "not2", desc := "()I" } : Jvm.MethodName) prog_16_method_45_code (4 : Nat) (Option.some Jvm.ClassFile.FieldType.int)) ∈ lw_all := lw_g (lw_at lw_m6 157 rfl) rfl
theorem q1473 : (Jvm.Cond.methodLink "BulbInAStaffModel" (263 : Nat) ({ cls := "BulbInAStaffModel", name := "not3", desc := "()I" } : Jvm.MethodName)) ∈ lw_all := lw_g (lw_at lw_m6 158 rfl) rfl
theorem q1474 : (Jvm.Cond.privateMethod ({ cls := "BulbInAStaffModel", name := "not3", desc := "()I" } : Jvm.MethodName)) ∈ lw_tbl := lw_at lw_m6 159 rfl
theorem q1475 : (Jvm.Cond.instanceMethod ({ cls := "BulbInAStaffModel", name := "not3", desc := "()I" } : Jvm.MethodName)) ∈ lw_all := lw_g (lw_at lw_m6 160 rfl) rfl
theorem q1476 : (Jvm.Cond.code ({ cls := "BulbInAStaffModel", name := "not3", desc := "()I" } : Jvm.MethodName) prog_16_method_39_code (4 : Nat) (Option.some Jvm.ClassFile.FieldType.int)) ∈ lw_all := lw_g (lw_at lw_m6 161 rfl) rfl
theorem q1477 : (Jvm.Cond.methodLink "BulbInAStaffModel" (245 : Nat) ({ cls := "BulbInAStaffModel", name := "not4", desc := "()I" } : Jvm.MethodName)) ∈ lw_all := lw_g (lw_at lw_m6 162 rfl) rfl
theorem q1478 : (Jvm.Cond.privateMethod ({ cls := "BulbInAStaffModel", name := "not4", desc := "()I" } : Jvm.MethodName)) ∈ lw_tbl := lw_at lw_m6 163 rfl
theorem q1479 : (Jvm.Cond.instanceMethod ({ cls := "BulbInAStaffModel", name := "not4", desc := "()I" } : Jvm.MethodName)) ∈ lw_all := lw_g (lw_at lw_m6 164 rfl) rfl
theorem q1480 : (Jvm.Cond.code ({ cls := "BulbInAStaffModel", name := "not4", desc := "()I" } : Jvm.MethodName) prog_16_method_33_code (4 : Nat) (Option.some Jvm.ClassFile.FieldType.int)) ∈ lw_all := lw_g (lw_at lw_m6 165 rfl) rfl
theorem q1481 : (Jvm.Cond.methodLink "BulbInAStaffModel" (227 : Nat) ({ cls := "BulbInAStaffModel", name := "not5", desc := "()I" } : Jvm.MethodName)) ∈ lw_all := lw_g (lw_at lw_m6 166 rfl) rfl
theorem q1482 : (Jvm.Cond.privateMethod ({ cls := "BulbInAStaffModel", name := "not5", desc := "()I" } : Jvm.MethodName)) ∈ lw_tbl := lw_at lw_m6 167 rfl
theorem q1483 : (Jvm.Cond.instanceMethod ({ cls := "BulbInAStaffModel", name := "not5", desc := "()I" } : Jvm.MethodName)) ∈ lw_all := lw_g (lw_at lw_m6 168 rfl) rfl
theorem q1484 : (Jvm.Cond.code ({ cls := "BulbInAStaffModel", name := "not5", desc := "()I" } : Jvm.MethodName) prog_16_method_27_code (4 : Nat) (Option.some Jvm.ClassFile.FieldType.int)) ∈ lw_all := lw_g (lw_at lw_m6 169 rfl) rfl
theorem q1485 : (Jvm.Cond.methodLink "BulbInAStaffModel" (222 : Nat) ({ cls := "BulbInAStaffModel", name := "added5", desc := "()I" } : Jvm.MethodName)) ∈ lw_all := lw_g (lw_at lw_m6 170 rfl) rfl
theorem q1486 : (Jvm.Cond.privateMethod ({ cls := "BulbInAStaffModel", name := "added5", desc := "()I" } : Jvm.MethodName)) ∈ lw_tbl := lw_at lw_m6 171 rfl
theorem q1487 : (Jvm.Cond.instanceMethod ({ cls := "BulbInAStaffModel", name := "added5", desc := "()I" } : Jvm.MethodName)) ∈ lw_all := lw_g (lw_at lw_m6 172 rfl) rfl
theorem q1488 : (Jvm.Cond.code ({ cls := "BulbInAStaffModel", name := "added5", desc := "()I" } : Jvm.MethodName) prog_16_method_26_code (4 : Nat) (Option.some Jvm.ClassFile.FieldType.int)) ∈ lw_all := lw_g (lw_at lw_m6 173 rfl) rfl
theorem q1489 : (Jvm.Cond.methodLink "BulbInAStaffModel" (217 : Nat) ({ cls := "BulbInAStaffModel", name := "term5", desc := "()I" } : Jvm.MethodName)) ∈ lw_all := lw_g (lw_at lw_m6 174 rfl) rfl
theorem q1490 : (Jvm.Cond.privateMethod ({ cls := "BulbInAStaffModel", name := "term5", desc := "()I" } : Jvm.MethodName)) ∈ lw_tbl := lw_at lw_m6 175 rfl
theorem q1491 : (Jvm.Cond.instanceMethod ({ cls := "BulbInAStaffModel", name := "term5", desc := "()I" } : Jvm.MethodName)) ∈ lw_all := lw_g (lw_at lw_m6 176 rfl) rfl
theorem q1492 : (Jvm.Cond.code ({ cls := "BulbInAStaffModel", name := "term5", desc := "()I" } : Jvm.MethodName) prog_16_method_25_code (2 : Nat) (Option.some Jvm.ClassFile.FieldType.int)) ∈ lw_all := lw_g (lw_at lw_m6 177 rfl) rfl
theorem q1493 : (Jvm.Cond.methodLink "BulbInAStaffModel" (214 : Nat) ({ cls := "BulbInAStaffModel", name := "atom5", desc := "()I" } : Jvm.MethodName)) ∈ lw_all := lw_g (lw_at lw_m6 178 rfl) rfl
theorem q1494 : (Jvm.Cond.privateMethod ({ cls := "BulbInAStaffModel", name := "atom5", desc := "()I" } : Jvm.MethodName)) ∈ lw_tbl := lw_at lw_m6 179 rfl
theorem q1495 : (Jvm.Cond.instanceMethod ({ cls := "BulbInAStaffModel", name := "atom5", desc := "()I" } : Jvm.MethodName)) ∈ lw_all := lw_g (lw_at lw_m6 180 rfl) rfl
theorem q1496 : (Jvm.Cond.code ({ cls := "BulbInAStaffModel", name := "atom5", desc := "()I" } : Jvm.MethodName) prog_16_method_24_code (2 : Nat) (Option.some Jvm.ClassFile.FieldType.int)) ∈ lw_all := lw_g (lw_at lw_m6 181 rfl) rfl
theorem q1497 : (Jvm.Cond.methodLink "BulbInAStaffModel" (203 : Nat) ({ cls := "BulbInAStaffModel", name := "isSign", desc := "(I)Z" } : Jvm.MethodName)) ∈ lw_all := lw_g (lw_at lw_m6 182 rfl) rfl
theorem q1498 : (Jvm.Cond.privateMethod ({ cls := "BulbInAStaffModel", name := "isSign", desc := "(I)Z" } : Jvm.MethodName)) ∈ lw_tbl := lw_at lw_m6 183 rfl
theorem q1499 : (Jvm.Cond.instanceMethod ({ cls := "BulbInAStaffModel", name := "isSign", desc := "(I)Z" } : Jvm.MethodName)) ∈ lw_all := lw_g (lw_at lw_m6 184 rfl) rfl
theorem q1500 : (Jvm.Cond.code ({ cls := "BulbInAStaffModel", name := "isSign", desc := "(I)Z" } : Jvm.MethodName) prog_16_method_21_code (2 : Nat) (Option.some Jvm.ClassFile.FieldType.boolean)) ∈ lw_all := lw_g (lw_at lw_m6 185 rfl) rfl
theorem q1501 : (Jvm.Cond.methodLink "BulbInAStaffModel" (210 : Nat) ({ cls := "BulbInAStaffModel", name := "name", desc := "()I" } : Jvm.MethodName)) ∈ lw_all := lw_g (lw_at lw_m6 186 rfl) rfl
theorem q1502 : (Jvm.Cond.privateMethod ({ cls := "BulbInAStaffModel", name := "name", desc := "()I" } : Jvm.MethodName)) ∈ lw_tbl := lw_at lw_m6 187 rfl
theorem q1503 : (Jvm.Cond.instanceMethod ({ cls := "BulbInAStaffModel", name := "name", desc := "()I" } : Jvm.MethodName)) ∈ lw_all := lw_g (lw_at lw_m6 188 rfl) rfl
theorem q1504 : (Jvm.Cond.code ({ cls := "BulbInAStaffModel", name := "name", desc := "()I" } : Jvm.MethodName) prog_16_method_23_code (1 : Nat) (Option.some Jvm.ClassFile.FieldType.int)) ∈ lw_all := lw_g (lw_at lw_m6 189 rfl) rfl
theorem q1505 : (Jvm.Cond.constantLong "BulbInAStaffModel" (220 : Nat) (43 : Int64)) ∈ lw_all := lw_g (lw_at lw_m6 190 rfl) rfl
theorem q1506 : (Jvm.Cond.constantLong "BulbInAStaffModel" (225 : Nat) (60 : Int64)) ∈ lw_all := lw_g (lw_at lw_m6 191 rfl) rfl
theorem q1507 : (Jvm.Cond.methodLink "BulbInAStaffModel" (242 : Nat) ({ cls := "BulbInAStaffModel", name := "added4", desc := "()I" } : Jvm.MethodName)) ∈ lw_all := lw_g (lw_at lw_m6 192 rfl) rfl
theorem q1508 : (Jvm.Cond.privateMethod ({ cls := "BulbInAStaffModel", name := "added4", desc := "()I" } : Jvm.MethodName)) ∈ lw_tbl := lw_at lw_m6 193 rfl
theorem q1509 : (Jvm.Cond.instanceMethod ({ cls := "BulbInAStaffModel", name := "added4", desc := "()I" } : Jvm.MethodName)) ∈ lw_all := lw_g (lw_at lw_m6 194 rfl) rfl
theorem q1510 : (Jvm.Cond.code ({ cls := "BulbInAStaffModel", name := "added4", desc := "()I" } : Jvm.MethodName) prog_16_method_32_code (4 : Nat) (Option.some Jvm.ClassFile.FieldType.int)) ∈ lw_all := lw_g (lw_at lw_m6 195 rfl) rfl
theorem q1511 : (Jvm.Cond.methodLink "BulbInAStaffModel" (239 : Nat) ({ cls := "BulbInAStaffModel", name := "term4", desc := "()I" } : Jvm.MethodName)) ∈ lw_all := lw_g (lw_at lw_m6 196 rfl) rfl
theorem q1512 : (Jvm.Cond.privateMethod ({ cls := "BulbInAStaffModel", name := "term4", desc := "()I" } : Jvm.MethodName)) ∈ lw_tbl := lw_at lw_m6 197 rfl
theorem q1513 : (Jvm.Cond.instanceMethod ({ cls := "BulbInAStaffModel", name := "term4", desc := "()I" } : Jvm.MethodName)) ∈ lw_all := lw_g (lw_at lw_m6 198 rfl) rfl
theorem q1514 : (Jvm.Cond.code ({ cls := "BulbInAStaffModel", name := "term4", desc := "()I" } : Jvm.MethodName) prog_16_method_31_code (2 : Nat) (Option.some Jvm.ClassFile.FieldType.int)) ∈ lw_all := lw_g (lw_at lw_m6 199 rfl) rfl
theorem q1515 : (Jvm.Cond.methodLink "BulbInAStaffModel" (236 : Nat) ({ cls := "BulbInAStaffModel", name := "atom4", desc := "()I" } : Jvm.MethodName)) ∈ lw_all := lw_g (lw_at lw_m6 200 rfl) rfl
theorem q1516 : (Jvm.Cond.privateMethod ({ cls := "BulbInAStaffModel", name := "atom4", desc := "()I" } : Jvm.MethodName)) ∈ lw_tbl := lw_at lw_m6 201 rfl
theorem q1517 : (Jvm.Cond.instanceMethod ({ cls := "BulbInAStaffModel", name := "atom4", desc := "()I" } : Jvm.MethodName)) ∈ lw_all := lw_g (lw_at lw_m6 202 rfl) rfl
theorem q1518 : (Jvm.Cond.code ({ cls := "BulbInAStaffModel", name := "atom4", desc := "()I" } : Jvm.MethodName) prog_16_method_30_code (2 : Nat) (Option.some Jvm.ClassFile.FieldType.int)) ∈ lw_all := lw_g (lw_at lw_m6 203 rfl) rfl
theorem q1519 : (Jvm.Cond.methodLink "BulbInAStaffModel" (233 : Nat) ({ cls := "BulbInAStaffModel", name := "either5", desc := "()I" } : Jvm.MethodName)) ∈ lw_all := lw_g (lw_at lw_m6 204 rfl) rfl
theorem q1520 : (Jvm.Cond.privateMethod ({ cls := "BulbInAStaffModel", name := "either5", desc := "()I" } : Jvm.MethodName)) ∈ lw_tbl := lw_at lw_m6 205 rfl
theorem q1521 : (Jvm.Cond.instanceMethod ({ cls := "BulbInAStaffModel", name := "either5", desc := "()I" } : Jvm.MethodName)) ∈ lw_all := lw_g (lw_at lw_m6 206 rfl) rfl
theorem q1522 : (Jvm.Cond.code ({ cls := "BulbInAStaffModel", name := "either5", desc := "()I" } : Jvm.MethodName) prog_16_method_29_code (3 : Nat) (Option.some Jvm.ClassFile.FieldType.int)) ∈ lw_all := lw_g (lw_at lw_m6 207 rfl) rfl
theorem q1523 : (Jvm.Cond.methodLink "BulbInAStaffModel" (230 : Nat) ({ cls := "BulbInAStaffModel", name := "both5", desc := "()I" } : Jvm.MethodName)) ∈ lw_all := lw_g (lw_at lw_m6 208 rfl) rfl
theorem q1524 : (Jvm.Cond.privateMethod ({ cls := "BulbInAStaffModel", name := "both5", desc := "()I" } : Jvm.MethodName)) ∈ lw_tbl := lw_at lw_m6 209 rfl
theorem q1525 : (Jvm.Cond.instanceMethod ({ cls := "BulbInAStaffModel", name := "both5", desc := "()I" } : Jvm.MethodName)) ∈ lw_all := lw_g (lw_at lw_m6 210 rfl) rfl
theorem q1526 : (Jvm.Cond.code ({ cls := "BulbInAStaffModel", name := "both5", desc := "()I" } : Jvm.MethodName) prog_16_method_28_code (3 : Nat) (Option.some Jvm.ClassFile.FieldType.int)) ∈ lw_all := lw_g (lw_at lw_m6 211 rfl) rfl
theorem q1527 : (Jvm.Cond.methodLink "BulbInAStaffModel" (260 : Nat) ({ cls := "BulbInAStaffModel", name := "added3", desc := "()I" } : Jvm.MethodName)) ∈ lw_all := lw_g (lw_at lw_m6 212 rfl) rfl
theorem q1528 : (Jvm.Cond.privateMethod ({ cls := "BulbInAStaffModel", name := "added3", desc := "()I" } : Jvm.MethodName)) ∈ lw_tbl := lw_at lw_m6 213 rfl
theorem q1529 : (Jvm.Cond.instanceMethod ({ cls := "BulbInAStaffModel", name := "added3", desc := "()I" } : Jvm.MethodName)) ∈ lw_all := lw_g (lw_at lw_m6 214 rfl) rfl
theorem q1530 : (Jvm.Cond.code ({ cls := "BulbInAStaffModel", name := "added3", desc := "()I" } : Jvm.MethodName) prog_16_method_38_code (4 : Nat) (Option.some Jvm.ClassFile.FieldType.int)) ∈ lw_all := lw_g (lw_at lw_m6 215 rfl) rfl
theorem q1531 : (Jvm.Cond.methodLink "BulbInAStaffModel" (257 : Nat) ({ cls := "BulbInAStaffModel", name := "term3", desc := "()I" } : Jvm.MethodName)) ∈ lw_all := lw_g (lw_at lw_m6 216 rfl) rfl
theorem q1532 : (Jvm.Cond.privateMethod ({ cls := "BulbInAStaffModel", name := "term3", desc := "()I" } : Jvm.MethodName)) ∈ lw_tbl := lw_at lw_m6 217 rfl
theorem q1533 : (Jvm.Cond.instanceMethod ({ cls := "BulbInAStaffModel", name := "term3", desc := "()I" } : Jvm.MethodName)) ∈ lw_all := lw_g (lw_at lw_m6 218 rfl) rfl
theorem q1534 : (Jvm.Cond.code ({ cls := "BulbInAStaffModel", name := "term3", desc := "()I" } : Jvm.MethodName) prog_16_method_37_code (2 : Nat) (Option.some Jvm.ClassFile.FieldType.int)) ∈ lw_all := lw_g (lw_at lw_m6 219 rfl) rfl
theorem q1535 : (Jvm.Cond.methodLink "BulbInAStaffModel" (254 : Nat) ({ cls := "BulbInAStaffModel", name := "atom3", desc := "()I" } : Jvm.MethodName)) ∈ lw_all := lw_g (lw_at lw_m6 220 rfl) rfl
theorem q1536 : (Jvm.Cond.privateMethod ({ cls := "BulbInAStaffModel", name := "atom3", desc := "()I" } : Jvm.MethodName)) ∈ lw_tbl := lw_at lw_m6 221 rfl
theorem q1537 : (Jvm.Cond.instanceMethod ({ cls := "BulbInAStaffModel", name := "atom3", desc := "()I" } : Jvm.MethodName)) ∈ lw_all := lw_g (lw_at lw_m6 222 rfl) rfl
theorem q1538 : (Jvm.Cond.code ({ cls := "BulbInAStaffModel", name := "atom3", desc := "()I" } : Jvm.MethodName) prog_16_method_36_code (2 : Nat) (Option.some Jvm.ClassFile.FieldType.int)) ∈ lw_all := lw_g (lw_at lw_m6 223 rfl) rfl
theorem q1539 : (Jvm.Cond.methodLink "BulbInAStaffModel" (251 : Nat) ({ cls := "BulbInAStaffModel", name := "either4", desc := "()I" } : Jvm.MethodName)) ∈ lw_all := lw_g (lw_at lw_m6 224 rfl) rfl
theorem q1540 : (Jvm.Cond.privateMethod ({ cls := "BulbInAStaffModel", name := "either4", desc := "()I" } : Jvm.MethodName)) ∈ lw_tbl := lw_at lw_m6 225 rfl
theorem q1541 : (Jvm.Cond.instanceMethod ({ cls := "BulbInAStaffModel", name := "either4", desc := "()I" } : Jvm.MethodName)) ∈ lw_all := lw_g (lw_at lw_m6 226 rfl) rfl
theorem q1542 : (Jvm.Cond.code ({ cls := "BulbInAStaffModel", name := "either4", desc := "()I" } : Jvm.MethodName) prog_16_method_35_code (3 : Nat) (Option.some Jvm.ClassFile.FieldType.int)) ∈ lw_all := lw_g (lw_at lw_m6 227 rfl) rfl
theorem q1543 : (Jvm.Cond.methodLink "BulbInAStaffModel" (248 : Nat) ({ cls := "BulbInAStaffModel", name := "both4", desc := "()I" } : Jvm.MethodName)) ∈ lw_all := lw_g (lw_at lw_m6 228 rfl) rfl
theorem q1544 : (Jvm.Cond.privateMethod ({ cls := "BulbInAStaffModel", name := "both4", desc := "()I" } : Jvm.MethodName)) ∈ lw_tbl := lw_at lw_m6 229 rfl
theorem q1545 : (Jvm.Cond.instanceMethod ({ cls := "BulbInAStaffModel", name := "both4", desc := "()I" } : Jvm.MethodName)) ∈ lw_all := lw_g (lw_at lw_m6 230 rfl) rfl
theorem q1546 : (Jvm.Cond.code ({ cls := "BulbInAStaffModel", name := "both4", desc := "()I" } : Jvm.MethodName) prog_16_method_34_code (3 : Nat) (Option.some Jvm.ClassFile.FieldType.int)) ∈ lw_all := lw_g (lw_at lw_m6 231 rfl) rfl
theorem q1547 : (Jvm.Cond.methodLink "BulbInAStaffModel" (278 : Nat) ({ cls := "BulbInAStaffModel", name := "added2", desc := "()I" } : Jvm.MethodName)) ∈ lw_all := lw_g (lw_at lw_m6 232 rfl) rfl
theorem q1548 : (Jvm.Cond.privateMethod ({ cls := "BulbInAStaffModel", name := "added2", desc := "()I" } : Jvm.MethodName)) ∈ lw_tbl := lw_at lw_m6 233 rfl
theorem q1549 : (Jvm.Cond.instanceMethod ({ cls := "BulbInAStaffModel", name := "added2", desc := "()I" } : Jvm.MethodName)) ∈ lw_all := lw_g (lw_at lw_m6 234 rfl) rfl
theorem q1550 : (Jvm.Cond.code ({ cls := "BulbInAStaffModel", name := "added2", desc := "()I" } : Jvm.MethodName) prog_16_method_44_code (4 : Nat) (Option.some Jvm.ClassFile.FieldType.int)) ∈ lw_all := lw_g (lw_at lw_m6 235 rfl) rfl
theorem q1551 : (Jvm.Cond.methodLink "BulbInAStaffModel" (275 : Nat) ({ cls := "BulbInAStaffModel", name := "term2", desc := "()I" } : Jvm.MethodName)) ∈ lw_all := lw_g (lw_at lw_m6 236 rfl) rfl
theorem q1552 : (Jvm.Cond.privateMethod ({ cls := "BulbInAStaffModel", name := "term2", desc := "()I" } : Jvm.MethodName)) ∈ lw_tbl := lw_at lw_m6 237 rfl
theorem q1553 : (Jvm.Cond.instanceMethod ({ cls := "BulbInAStaffModel", name := "term2", desc := "()I" } : Jvm.MethodName)) ∈ lw_all := lw_g (lw_at lw_m6 238 rfl) rfl
theorem q1554 : (Jvm.Cond.code ({ cls := "BulbInAStaffModel", name := "term2", desc := "()I" } : Jvm.MethodName) prog_16_method_43_code (2 : Nat) (Option.some Jvm.ClassFile.FieldType.int)) ∈ lw_all := lw_g (lw_at lw_m6 239 rfl) rfl
theorem q1555 : (Jvm.Cond.methodLink "BulbInAStaffModel" (272 : Nat) ({ cls := "BulbInAStaffModel", name := "atom2", desc := "()I" } : Jvm.MethodName)) ∈ lw_all := lw_g (lw_at lw_m7 0 rfl) rfl
theorem q1556 : (Jvm.Cond.privateMethod ({ cls := "BulbInAStaffModel", name := "atom2", desc := "()I" } : Jvm.MethodName)) ∈ lw_tbl := lw_at lw_m7 1 rfl
theorem q1557 : (Jvm.Cond.instanceMethod ({ cls := "BulbInAStaffModel", name := "atom2", desc := "()I" } : Jvm.MethodName)) ∈ lw_all := lw_g (lw_at lw_m7 2 rfl) rfl
theorem q1558 : (Jvm.Cond.code ({ cls := "BulbInAStaffModel", name := "atom2", desc := "()I" } : Jvm.MethodName) prog_16_method_42_code (2 : Nat) (Option.some Jvm.ClassFile.FieldType.int)) ∈ lw_all := lw_g (lw_at lw_m7 3 rfl) rfl
theorem q1559 : (Jvm.Cond.methodLink "BulbInAStaffModel" (269 : Nat) ({ cls := "BulbInAStaffModel", name := "either3", desc := "()I" } : Jvm.MethodName)) ∈ lw_all := lw_g (lw_at lw_m7 4 rfl) rfl
theorem q1560 : (Jvm.Cond.privateMethod ({ cls := "BulbInAStaffModel", name := "either3", desc := "()I" } : Jvm.MethodName)) ∈ lw_tbl := lw_at lw_m7 5 rfl
theorem q1561 : (Jvm.Cond.instanceMethod ({ cls := "BulbInAStaffModel", name := "either3", desc := "()I" } : Jvm.MethodName)) ∈ lw_all := lw_g (lw_at lw_m7 6 rfl) rfl
theorem q1562 : (Jvm.Cond.code ({ cls := "BulbInAStaffModel", name := "either3", desc := "()I" } : Jvm.MethodName) prog_16_method_41_code (3 : Nat) (Option.some Jvm.ClassFile.FieldType.int)) ∈ lw_all := lw_g (lw_at lw_m7 7 rfl) rfl
theorem q1563 : (Jvm.Cond.methodLink "BulbInAStaffModel" (266 : Nat) ({ cls := "BulbInAStaffModel", name := "both3", desc := "()I" } : Jvm.MethodName)) ∈ lw_all := lw_g (lw_at lw_m7 8 rfl) rfl
theorem q1564 : (Jvm.Cond.privateMethod ({ cls := "BulbInAStaffModel", name := "both3", desc := "()I" } : Jvm.MethodName)) ∈ lw_tbl := lw_at lw_m7 9 rfl
theorem q1565 : (Jvm.Cond.instanceMethod ({ cls := "BulbInAStaffModel", name := "both3", desc := "()I" } : Jvm.MethodName)) ∈ lw_all := lw_g (lw_at lw_m7 10 rfl) rfl
theorem q1566 : (Jvm.Cond.code ({ cls := "BulbInAStaffModel", name := "both3", desc := "()I" } : Jvm.MethodName) prog_16_method_40_code (3 : Nat) (Option.some Jvm.ClassFile.FieldType.int)) ∈ lw_all := lw_g (lw_at lw_m7 11 rfl) rfl
theorem q1567 : (Jvm.Cond.methodLink "BulbInAStaffModel" (296 : Nat) ({ cls := "BulbInAStaffModel", name := "added1", desc := "()I" } : Jvm.MethodName)) ∈ lw_all := lw_g (lw_at lw_m7 12 rfl) rfl
theorem q1568 : (Jvm.Cond.privateMethod ({ cls := "BulbInAStaffModel", name := "added1", desc := "()I" } : Jvm.MethodName)) ∈ lw_tbl := lw_at lw_m7 13 rfl
theorem q1569 : (Jvm.Cond.instanceMethod ({ cls := "BulbInAStaffModel", name := "added1", desc := "()I" } : Jvm.MethodName)) ∈ lw_all := lw_g (lw_at lw_m7 14 rfl) rfl
theorem q1570 : (Jvm.Cond.code ({ cls := "BulbInAStaffModel", name := "added1", desc := "()I" } : Jvm.MethodName) prog_16_method_50_code (4 : Nat) (Option.some Jvm.ClassFile.FieldType.int)) ∈ lw_all := lw_g (lw_at lw_m7 15 rfl) rfl
theorem q1571 : (Jvm.Cond.methodLink "BulbInAStaffModel" (293 : Nat) ({ cls := "BulbInAStaffModel", name := "term1", desc := "()I" } : Jvm.MethodName)) ∈ lw_all := lw_g (lw_at lw_m7 16 rfl) rfl
theorem q1572 : (Jvm.Cond.privateMethod ({ cls := "BulbInAStaffModel", name := "term1", desc := "()I" } : Jvm.MethodName)) ∈ lw_tbl := lw_at lw_m7 17 rfl
theorem q1573 : (Jvm.Cond.instanceMethod ({ cls := "BulbInAStaffModel", name := "term1", desc := "()I" } : Jvm.MethodName)) ∈ lw_all := lw_g (lw_at lw_m7 18 rfl) rfl
theorem q1574 : (Jvm.Cond.code ({ cls := "BulbInAStaffModel", name := "term1", desc := "()I" } : Jvm.MethodName) prog_16_method_49_code (2 : Nat) (Option.some Jvm.ClassFile.FieldType.int)) ∈ lw_all := lw_g (lw_at lw_m7 19 rfl) rfl
theorem q1575 : (Jvm.Cond.methodLink "BulbInAStaffModel" (290 : Nat) ({ cls := "BulbInAStaffModel", name := "atom1", desc := "()I" } : Jvm.MethodName)) ∈ lw_all := lw_g (lw_at lw_m7 20 rfl) rfl
theorem q1576 : (Jvm.Cond.privateMethod ({ cls := "BulbInAStaffModel", name := "atom1", desc := "()I" } : Jvm.MethodName)) ∈ lw_tbl := lw_at lw_m7 21 rfl
theorem q1577 : (Jvm.Cond.instanceMethod ({ cls := "BulbInAStaffModel", name := "atom1", desc := "()I" } : Jvm.MethodName)) ∈ lw_all := lw_g (lw_at lw_m7 22 rfl) rfl
theorem q1578 : (Jvm.Cond.code ({ cls := "BulbInAStaffModel", name := "atom1", desc := "()I" } : Jvm.MethodName) prog_16_method_48_code (2 : Nat) (Option.some Jvm.ClassFile.FieldType.int)) ∈ lw_all := lw_g (lw_at lw_m7 23 rfl) rfl
theorem q1579 : (Jvm.Cond.methodLink "BulbInAStaffModel" (287 : Nat) ({ cls := "BulbInAStaffModel", name := "either2", desc := "()I" } : Jvm.MethodName)) ∈ lw_all := lw_g (lw_at lw_m7 24 rfl) rfl
theorem q1580 : (Jvm.Cond.privateMethod ({ cls := "BulbInAStaffModel", name := "either2", desc := "()I" } : Jvm.MethodName)) ∈ lw_tbl := lw_at lw_m7 25 rfl
theorem q1581 : (Jvm.Cond.instanceMethod ({ cls := "BulbInAStaffModel", name := "either2", desc := "()I" } : Jvm.MethodName)) ∈ lw_all := lw_g (lw_at lw_m7 26 rfl) rfl
theorem q1582 : (Jvm.Cond.code ({ cls := "BulbInAStaffModel", name := "either2", desc := "()I" } : Jvm.MethodName) prog_16_method_47_code (3 : Nat) (Option.some Jvm.ClassFile.FieldType.int)) ∈ lw_all := lw_g (lw_at lw_m7 27 rfl) rfl
theorem q1583 : (Jvm.Cond.methodLink "BulbInAStaffModel" (284 : Nat) ({ cls := "BulbInAStaffModel", name := "both2", desc := "()I" } : Jvm.MethodName)) ∈ lw_all := lw_g (lw_at lw_m7 28 rfl) rfl
theorem q1584 : (Jvm.Cond.privateMethod ({ cls := "BulbInAStaffModel", name := "both2", desc := "()I" } : Jvm.MethodName)) ∈ lw_tbl := lw_at lw_m7 29 rfl
theorem q1585 : (Jvm.Cond.instanceMethod ({ cls := "BulbInAStaffModel", name := "both2", desc := "()I" } : Jvm.MethodName)) ∈ lw_all := lw_g (lw_at lw_m7 30 rfl) rfl
theorem q1586 : (Jvm.Cond.code ({ cls := "BulbInAStaffModel", name := "both2", desc := "()I" } : Jvm.MethodName) prog_16_method_46_code (3 : Nat) (Option.some Jvm.ClassFile.FieldType.int)) ∈ lw_all := lw_g (lw_at lw_m7 31 rfl) rfl
theorem q1587 : (Jvm.Cond.methodLink "BulbInAStaffModel" (314 : Nat) ({ cls := "BulbInAStaffModel", name := "added0", desc := "()I" } : Jvm.MethodName)) ∈ lw_all := lw_g (lw_at lw_m7 32 rfl) rfl
theorem q1588 : (Jvm.Cond.privateMethod ({ cls := "BulbInAStaffModel", name := "added0", desc := "()I" } : Jvm.MethodName)) ∈ lw_tbl := lw_at lw_m7 33 rfl
theorem q1589 : (Jvm.Cond.instanceMethod ({ cls := "BulbInAStaffModel", name := "added0", desc := "()I" } : Jvm.MethodName)) ∈ lw_all := lw_g (lw_at lw_m7 34 rfl) rfl
theorem q1590 : (Jvm.Cond.code ({ cls := "BulbInAStaffModel", name := "added0", desc := "()I" } : Jvm.MethodName) prog_16_method_56_code (4 : Nat) (Option.some Jvm.ClassFile.FieldType.int)) ∈ lw_all := lw_g (lw_at lw_m7 35 rfl) rfl
theorem q1591 : (Jvm.Cond.methodLink "BulbInAStaffModel" (311 : Nat) ({ cls := "BulbInAStaffModel", name := "term0", desc := "()I" } : Jvm.MethodName)) ∈ lw_all := lw_g (lw_at lw_m7 36 rfl) rfl
theorem q1592 : (Jvm.Cond.privateMethod ({ cls := "BulbInAStaffModel", name := "term0", desc := "()I" } : Jvm.MethodName)) ∈ lw_tbl := lw_at lw_m7 37 rfl
theorem q1593 : (Jvm.Cond.instanceMethod ({ cls := "BulbInAStaffModel", name := "term0", desc := "()I" } : Jvm.MethodName)) ∈ lw_all := lw_g (lw_at lw_m7 38 rfl) rfl
theorem q1594 : (Jvm.Cond.code ({ cls := "BulbInAStaffModel", name := "term0", desc := "()I" } : Jvm.MethodName) prog_16_method_55_code (2 : Nat) (Option.some Jvm.ClassFile.FieldType.int)) ∈ lw_all := lw_g (lw_at lw_m7 39 rfl) rfl
theorem q1595 : (Jvm.Cond.methodLink "BulbInAStaffModel" (308 : Nat) ({ cls := "BulbInAStaffModel", name := "atom0", desc := "()I" } : Jvm.MethodName)) ∈ lw_all := lw_g (lw_at lw_m7 40 rfl) rfl
theorem q1596 : (Jvm.Cond.privateMethod ({ cls := "BulbInAStaffModel", name := "atom0", desc := "()I" } : Jvm.MethodName)) ∈ lw_tbl := lw_at lw_m7 41 rfl
theorem q1597 : (Jvm.Cond.instanceMethod ({ cls := "BulbInAStaffModel", name := "atom0", desc := "()I" } : Jvm.MethodName)) ∈ lw_all := lw_g (lw_at lw_m7 42 rfl) rfl
theorem q1598 : (Jvm.Cond.code ({ cls := "BulbInAStaffModel", name := "atom0", desc := "()I" } : Jvm.MethodName) prog_16_method_54_code (2 : Nat) (Option.some Jvm.ClassFile.FieldType.int)) ∈ lw_all := lw_g (lw_at lw_m7 43 rfl) rfl
theorem q1599 : (Jvm.Cond.methodLink "BulbInAStaffModel" (305 : Nat) ({ cls := "BulbInAStaffModel", name := "either1", desc := "()I" } : Jvm.MethodName)) ∈ lw_all := lw_g (lw_at lw_m7 44 rfl) rfl
theorem q1600 : (Jvm.Cond.privateMethod ({ cls := "BulbInAStaffModel", name := "either1", desc := "()I" } : Jvm.MethodName)) ∈ lw_tbl := lw_at lw_m7 45 rfl
theorem q1601 : (Jvm.Cond.instanceMethod ({ cls := "BulbInAStaffModel", name := "either1", desc := "()I" } : Jvm.MethodName)) ∈ lw_all := lw_g (lw_at lw_m7 46 rfl) rfl
theorem q1602 : (Jvm.Cond.code ({ cls := "BulbInAStaffModel", name := "either1", desc := "()I" } : Jvm.MethodName) prog_16_method_53_code (3 : Nat) (Option.some Jvm.ClassFile.FieldType.int)) ∈ lw_all := lw_g (lw_at lw_m7 47 rfl) rfl
theorem q1603 : (Jvm.Cond.methodLink "BulbInAStaffModel" (302 : Nat) ({ cls := "BulbInAStaffModel", name := "both1", desc := "()I" } : Jvm.MethodName)) ∈ lw_all := lw_g (lw_at lw_m7 48 rfl) rfl
theorem q1604 : (Jvm.Cond.privateMethod ({ cls := "BulbInAStaffModel", name := "both1", desc := "()I" } : Jvm.MethodName)) ∈ lw_tbl := lw_at lw_m7 49 rfl
theorem q1605 : (Jvm.Cond.instanceMethod ({ cls := "BulbInAStaffModel", name := "both1", desc := "()I" } : Jvm.MethodName)) ∈ lw_all := lw_g (lw_at lw_m7 50 rfl) rfl
theorem q1606 : (Jvm.Cond.code ({ cls := "BulbInAStaffModel", name := "both1", desc := "()I" } : Jvm.MethodName) prog_16_method_52_code (3 : Nat) (Option.some Jvm.ClassFile.FieldType.int)) ∈ lw_all := lw_g (lw_at lw_m7 51 rfl) rfl
theorem q1607 : (Jvm.Cond.methodLink "BulbInAStaffModel" (333 : Nat) ({ cls := "BulbInAStaffModel", name := "within", desc := "(III)I" } : Jvm.MethodName)) ∈ lw_all := lw_g (lw_at lw_m7 52 rfl) rfl
theorem q1608 : (Jvm.Cond.static ({ cls := "BulbInAStaffModel", name := "within", desc := "(III)I" } : Jvm.MethodName)) ∈ lw_all := lw_g (lw_at lw_m7 53 rfl) rfl
theorem q1609 : (Jvm.Cond.code ({ cls := "BulbInAStaffModel", name := "within", desc := "(III)I" } : Jvm.MethodName) prog_16_method_3_code (3 : Nat) (Option.some Jvm.ClassFile.FieldType.int)) ∈ lw_all := lw_g (lw_at lw_m7 54 rfl) rfl
theorem q1610 : (Jvm.Cond.methodLink "BulbInAStaffModel" (118 : Nat) ({ cls := "BulbInAStaffModel", name := "growsOf", desc := "(II)I" } : Jvm.MethodName)) ∈ lw_all := lw_g (lw_at lw_m7 55 rfl) rfl
theorem q1611 : (Jvm.Cond.privateMethod ({ cls := "BulbInAStaffModel", name := "growsOf", desc := "(II)I" } : Jvm.MethodName)) ∈ lw_tbl := lw_at lw_m7 56 rfl
theorem q1612 : (Jvm.Cond.instanceMethod ({ cls := "BulbInAStaffModel", name := "growsOf", desc := "(II)I" } : Jvm.MethodName)) ∈ lw_all := lw_g (lw_at lw_m7 57 rfl) rfl
theorem q1613 : (Jvm.Cond.code ({ cls := "BulbInAStaffModel", name := "growsOf", desc := "(II)I" } : Jvm.MethodName) prog_16_method_66_code (6 : Nat) (Option.some Jvm.ClassFile.FieldType.int)) ∈ lw_all := lw_g (lw_at lw_m7 58 rfl) rfl
theorem q1614 : (Jvm.Cond.methodLink "BulbInAStaffModel" (121 : Nat) ({ cls := "BulbInAStaffModel", name := "flowersOf", desc := "(II)I" } : Jvm.MethodName)) ∈ lw_all := lw_g (lw_at lw_m7 59 rfl) rfl
theorem q1615 : (Jvm.Cond.privateMethod ({ cls := "BulbInAStaffModel", name := "flowersOf", desc := "(II)I" } : Jvm.MethodName)) ∈ lw_tbl := lw_at lw_m7 60 rfl
theorem q1616 : (Jvm.Cond.instanceMethod ({ cls := "BulbInAStaffModel", name := "flowersOf", desc := "(II)I" } : Jvm.MethodName)) ∈ lw_all := lw_g (lw_at lw_m7 61 rfl) rfl
theorem q1617 : (Jvm.Cond.code ({ cls := "BulbInAStaffModel", name := "flowersOf", desc := "(II)I" } : Jvm.MethodName) prog_16_method_67_code (5 : Nat) (Option.some Jvm.ClassFile.FieldType.int)) ∈ lw_all := lw_g (lw_at lw_m7 62 rfl) rfl
theorem q1618 : (Jvm.Cond.constant "BulbInAStaffModel" (337 : Nat) (99999 : Int32)) ∈ lw_all := lw_g (lw_at lw_m7 63 rfl) rfl
theorem q1619 : (Jvm.Cond.methodLink "BulbInAStaffModel" (97 : Nat) ({ cls := "BulbInAStaffModel", name := "lays", desc := "(III)V" } : Jvm.MethodName)) ∈ lw_all := lw_g (lw_at lw_m7 64 rfl) rfl
theorem q1620 : (Jvm.Cond.privateMethod ({ cls := "BulbInAStaffModel", name := "lays", desc := "(III)V" } : Jvm.MethodName)) ∈ lw_tbl := lw_at lw_m7 65 rfl
theorem q1621 : (Jvm.Cond.instanceMethod ({ cls := "BulbInAStaffModel", name := "lays", desc := "(III)V" } : Jvm.MethodName)) ∈ lw_all := lw_g (lw_at lw_m7 66 rfl) rfl
theorem q1622 : (Jvm.Cond.code ({ cls := "BulbInAStaffModel", name := "lays", desc := "(III)V" } : Jvm.MethodName) prog_16_method_11_code (4 : Nat) (Option.none : Option Jvm.ClassFile.FieldType)) ∈ lw_all := lw_g (lw_at lw_m7 67 rfl) rfl
theorem q1624 : (Jvm.Cond.instanceMethod ({ cls := "BulbInAStaffModel", name := "plant", desc := "(III)I" } : Jvm.MethodName)) ∈ lw_all := lw_g (lw_at lw_m7 69 rfl) rfl
theorem q1625 : (Jvm.Cond.selects "BulbInAStaffModel" ({ cls := "BulbInAStaffModel", name := "plant", desc := "(III)I" } : Jvm.MethodName) ({ cls := "BulbInAStaffModel", name := "plant", desc := "(III)I" } : Jvm.MethodName)) ∈ lw_all := lw_g (lw_at lw_m7 70 rfl) rfl
theorem q1626 : (Jvm.Cond.code ({ cls := "BulbInAStaffModel", name := "plant", desc := "(III)I" } : Jvm.MethodName) prog_16_method_13_code (4 : Nat) (Option.some Jvm.ClassFile.FieldType.int)) ∈ lw_all := lw_g (lw_at lw_m7 71 rfl) rfl
theorem q1627 : (Jvm.Cond.constantLong "BulbInAStaffModel" (107 : Nat) (9 : Int64)) ∈ lw_all := lw_g (lw_at lw_m7 72 rfl) rfl
theorem q1628 : (Jvm.Cond.methodLink "BulbInAStaffModel" (109 : Nat) ({ cls := "BulbInAStaffModel", name := "comes", desc := "(IIII)V" } : Jvm.MethodName)) ∈ lw_all := lw_g (lw_at lw_m7 73 rfl) rfl
theorem q1629 : (Jvm.Cond.privateMethod ({ cls := "BulbInAStaffModel", name := "comes", desc := "(IIII)V" } : Jvm.MethodName)) ∈ lw_tbl := lw_at lw_m7 74 rfl
theorem q1630 : (Jvm.Cond.instanceMethod ({ cls := "BulbInAStaffModel", name := "comes", desc := "(IIII)V" } : Jvm.MethodName)) ∈ lw_all := lw_g (lw_at lw_m7 75 rfl) rfl
theorem q1631 : (Jvm.Cond.code ({ cls := "BulbInAStaffModel", name := "comes", desc := "(IIII)V" } : Jvm.MethodName) prog_16_method_12_code (5 : Nat) (Option.none : Option Jvm.ClassFile.FieldType)) ∈ lw_all := lw_g (lw_at lw_m7 76 rfl) rfl
theorem q1634 : (Jvm.Cond.instanceMethod ({ cls := "BulbInAStaffModel", name := "feed", desc := "(I)I" } : Jvm.MethodName)) ∈ lw_all := lw_g (lw_at lw_m7 79 rfl) rfl
theorem q1635 : (Jvm.Cond.selects "BulbInAStaffModel" ({ cls := "BulbInAStaffModel", name := "feed", desc := "(I)I" } : Jvm.MethodName) ({ cls := "BulbInAStaffModel", name := "feed", desc := "(I)I" } : Jvm.MethodName)) ∈ lw_all := lw_g (lw_at lw_m7 80 rfl) rfl
theorem q1636 : (Jvm.Cond.code ({ cls := "BulbInAStaffModel", name := "feed", desc := "(I)I" } : Jvm.MethodName) prog_16_method_15_code (2 : Nat) (Option.some Jvm.ClassFile.FieldType.int)) ∈ lw_all := lw_g (lw_at lw_m7 81 rfl) rfl
theorem q1637 : (Jvm.Cond.constantLong "BulbInAStaffModel" (127 : Nat) (255 : Int64)) ∈ lw_all := lw_g (lw_at lw_m7 82 rfl) rfl
theorem q1639 : (Jvm.Cond.instanceMethod ({ cls := "BulbInAStaffModel", name := "text", desc := "()I" } : Jvm.MethodName)) ∈ lw_all := lw_g (lw_at lw_m7 84 rfl) rfl
theorem q1640 : (Jvm.Cond.selects "BulbInAStaffModel" ({ cls := "BulbInAStaffModel", name := "text", desc := "()I" } : Jvm.MethodName) ({ cls := "BulbInAStaffModel", name := "text", desc := "()I" } : Jvm.MethodName)) ∈ lw_all := lw_g (lw_at lw_m7 85 rfl) rfl
theorem q1641 : (Jvm.Cond.code ({ cls := "BulbInAStaffModel", name := "text", desc := "()I" } : Jvm.MethodName) prog_16_method_62_code (2 : Nat) (Option.some Jvm.ClassFile.FieldType.int)) ∈ lw_all := lw_g (lw_at lw_m7 86 rfl) rfl
theorem q1643 : (Jvm.Cond.instanceMethod ({ cls := "BulbInAStaffModel", name := "force", desc := "(I)I" } : Jvm.MethodName)) ∈ lw_all := lw_g (lw_at lw_m7 88 rfl) rfl
theorem q1644 : (Jvm.Cond.selects "BulbInAStaffModel" ({ cls := "BulbInAStaffModel", name := "force", desc := "(I)I" } : Jvm.MethodName) ({ cls := "BulbInAStaffModel", name := "force", desc := "(I)I" } : Jvm.MethodName)) ∈ lw_all := lw_g (lw_at lw_m7 89 rfl) rfl
theorem q1645 : (Jvm.Cond.code ({ cls := "BulbInAStaffModel", name := "force", desc := "(I)I" } : Jvm.MethodName) prog_16_method_63_code (3 : Nat) (Option.some Jvm.ClassFile.FieldType.int)) ∈ lw_all := lw_g (lw_at lw_m7 90 rfl) rfl
theorem q1647 : (Jvm.Cond.instanceMethod ({ cls := "BulbInAStaffModel", name := "dig", desc := "(III)I" } : Jvm.MethodName)) ∈ lw_all := lw_g (lw_at lw_m7 92 rfl) rfl
theorem q1648 : (Jvm.Cond.selects "BulbInAStaffModel" ({ cls := "BulbInAStaffModel", name := "dig", desc := "(III)I" } : Jvm.MethodName) ({ cls := "BulbInAStaffModel", name := "dig", desc := "(III)I" } : Jvm.MethodName)) ∈ lw_all := lw_g (lw_at lw_m7 93 rfl) rfl
theorem q1649 : (Jvm.Cond.code ({ cls := "BulbInAStaffModel", name := "dig", desc := "(III)I" } : Jvm.MethodName) prog_16_method_69_code (4 : Nat) (Option.some Jvm.ClassFile.FieldType.int)) ∈ lw_all := lw_g (lw_at lw_m7 94 rfl) rfl
theorem q1650 : (Jvm.Cond.constantLong "BulbInAStaffModel" (338 : Nat) (9999 : Int64)) ∈ lw_all := lw_g (lw_at lw_m7 95 rfl) rfl
theorem q1652 : (Jvm.Cond.instanceMethod ({ cls := "BulbInAStaffModel", name := "sell", desc := "(I)I" } : Jvm.MethodName)) ∈ lw_all := lw_g (lw_at lw_m7 97 rfl) rfl
theorem q1653 : (Jvm.Cond.selects "BulbInAStaffModel" ({ cls := "BulbInAStaffModel", name := "sell", desc := "(I)I" } : Jvm.MethodName) ({ cls := "BulbInAStaffModel", name := "sell", desc := "(I)I" } : Jvm.MethodName)) ∈ lw_all := lw_g (lw_at lw_m7 98 rfl) rfl
theorem q1654 : (Jvm.Cond.code ({ cls := "BulbInAStaffModel", name := "sell", desc := "(I)I" } : Jvm.MethodName) prog_16_method_70_code (3 : Nat) (Option.some Jvm.ClassFile.FieldType.int)) ∈ lw_all := lw_g (lw_at lw_m7 99 rfl) rfl
theorem q1655 : (Jvm.Cond.methodLink "BulbInAStaffModel" (340 : Nat) ({ cls := "BulbInAStaffModel", name := "worthOf", desc := "(I)I" } : Jvm.MethodName)) ∈ lw_all := lw_g (lw_at lw_m7 100 rfl) rfl
theorem q1656 : (Jvm.Cond.privateMethod ({ cls := "BulbInAStaffModel", name := "worthOf", desc := "(I)I" } : Jvm.MethodName)) ∈ lw_tbl := lw_at lw_m7 101 rfl
theorem q1657 : (Jvm.Cond.instanceMethod ({ cls := "BulbInAStaffModel", name := "worthOf", desc := "(I)I" } : Jvm.MethodName)) ∈ lw_all := lw_g (lw_at lw_m7 102 rfl) rfl
theorem q1658 : (Jvm.Cond.code ({ cls := "BulbInAStaffModel", name := "worthOf", desc := "(I)I" } : Jvm.MethodName) prog_16_method_68_code (2 : Nat) (Option.some Jvm.ClassFile.FieldType.int)) ∈ lw_all := lw_g (lw_at lw_m7 103 rfl) rfl
theorem q1659 : (Jvm.Cond.constant "BulbInAStaffModel" (346 : Nat) (999999999 : Int32)) ∈ lw_all := lw_g (lw_at lw_m7 104 rfl) rfl
theorem q1661 : (Jvm.Cond.instanceMethod ({ cls := "BulbInAStaffModel", name := "year", desc := "()I" } : Jvm.MethodName)) ∈ lw_all := lw_g (lw_at lw_m7 106 rfl) rfl
theorem q1662 : (Jvm.Cond.selects "BulbInAStaffModel" ({ cls := "BulbInAStaffModel", name := "year", desc := "()I" } : Jvm.MethodName) ({ cls := "BulbInAStaffModel", name := "year", desc := "()I" } : Jvm.MethodName)) ∈ lw_all := lw_g (lw_at lw_m7 107 rfl) rfl
theorem q1663 : (Jvm.Cond.code ({ cls := "BulbInAStaffModel", name := "year", desc := "()I" } : Jvm.MethodName) prog_16_method_75_code (1 : Nat) (Option.some Jvm.ClassFile.FieldType.int)) ∈ lw_all := lw_g (lw_at lw_m7 108 rfl) rfl
theorem q1664 : (Jvm.Cond.methodLink "BulbInAStaffModel" (347 : Nat) ({ cls := "BulbInAStaffModel", name := "lives", desc := "()V" } : Jvm.MethodName)) ∈ lw_all := lw_g (lw_at lw_m7 109 rfl) rfl
theorem q1665 : (Jvm.Cond.privateMethod ({ cls := "BulbInAStaffModel", name := "lives", desc := "()V" } : Jvm.MethodName)) ∈ lw_tbl := lw_at lw_m7 110 rfl
theorem q1666 : (Jvm.Cond.instanceMethod ({ cls := "BulbInAStaffModel", name := "lives", desc := "()V" } : Jvm.MethodName)) ∈ lw_all := lw_g (lw_at lw_m7 111 rfl) rfl
theorem q1667 : (Jvm.Cond.code ({ cls := "BulbInAStaffModel", name := "lives", desc := "()V" } : Jvm.MethodName) prog_16_method_71_code (3 : Nat) (Option.none : Option Jvm.ClassFile.FieldType)) ∈ lw_all := lw_g (lw_at lw_m7 112 rfl) rfl
theorem q1668 : (Jvm.Cond.methodLink "BulbInAStaffModel" (350 : Nat) ({ cls := "BulbInAStaffModel", name := "all", desc := "()I" } : Jvm.MethodName)) ∈ lw_all := lw_g (lw_at lw_m7 113 rfl) rfl
theorem q1669 : (Jvm.Cond.privateMethod ({ cls := "BulbInAStaffModel", name := "all", desc := "()I" } : Jvm.MethodName)) ∈ lw_tbl := lw_at lw_m7 114 rfl
theorem q1670 : (Jvm.Cond.instanceMethod ({ cls := "BulbInAStaffModel", name := "all", desc := "()I" } : Jvm.MethodName)) ∈ lw_all := lw_g (lw_at lw_m7 115 rfl) rfl
theorem q1671 : (Jvm.Cond.code ({ cls := "BulbInAStaffModel", name := "all", desc := "()I" } : Jvm.MethodName) prog_16_method_72_code (3 : Nat) (Option.some Jvm.ClassFile.FieldType.int)) ∈ lw_all := lw_g (lw_at lw_m7 116 rfl) rfl
theorem q1673 : (Jvm.Cond.instanceMethod ({ cls := "BulbInAStaffModel", name := "run", desc := "(II)I" } : Jvm.MethodName)) ∈ lw_all := lw_g (lw_at lw_m7 118 rfl) rfl
theorem q1674 : (Jvm.Cond.selects "BulbInAStaffModel" ({ cls := "BulbInAStaffModel", name := "run", desc := "(II)I" } : Jvm.MethodName) ({ cls := "BulbInAStaffModel", name := "run", desc := "(II)I" } : Jvm.MethodName)) ∈ lw_all := lw_g (lw_at lw_m7 119 rfl) rfl
theorem q1675 : (Jvm.Cond.code ({ cls := "BulbInAStaffModel", name := "run", desc := "(II)I" } : Jvm.MethodName) prog_16_method_80_code (4 : Nat) (Option.some Jvm.ClassFile.FieldType.int)) ∈ lw_all := lw_g (lw_at lw_m7 120 rfl) rfl
theorem q1676 : (Jvm.Cond.constantLong "BulbInAStaffModel" (362 : Nat) (30 : Int64)) ∈ lw_all := lw_g (lw_at lw_m7 121 rfl) rfl
theorem q1677 : (Jvm.Cond.constantLong "BulbInAStaffModel" (364 : Nat) (3 : Int64)) ∈ lw_all := lw_g (lw_at lw_m7 122 rfl) rfl
theorem q1678 : (Jvm.Cond.constantLong "BulbInAStaffModel" (366 : Nat) (29 : Int64)) ∈ lw_all := lw_g (lw_at lw_m7 123 rfl) rfl
theorem q1679 : (Jvm.Cond.methodLink "BulbInAStaffModel" (368 : Nat) ({ cls := "BulbInAStaffModel", name := "laysAside", desc := "()V" } : Jvm.MethodName)) ∈ lw_all := lw_g (lw_at lw_m7 124 rfl) rfl
theorem q1680 : (Jvm.Cond.privateMethod ({ cls := "BulbInAStaffModel", name := "laysAside", desc := "()V" } : Jvm.MethodName)) ∈ lw_tbl := lw_at lw_m7 125 rfl
theorem q1681 : (Jvm.Cond.instanceMethod ({ cls := "BulbInAStaffModel", name := "laysAside", desc := "()V" } : Jvm.MethodName)) ∈ lw_all := lw_g (lw_at lw_m7 126 rfl) rfl
theorem q1682 : (Jvm.Cond.code ({ cls := "BulbInAStaffModel", name := "laysAside", desc := "()V" } : Jvm.MethodName) prog_16_method_76_code (2 : Nat) (Option.none : Option Jvm.ClassFile.FieldType)) ∈ lw_all := lw_g (lw_at lw_m7 127 rfl) rfl
theorem q1683 : (Jvm.Cond.methodLink "BulbInAStaffModel" (371 : Nat) ({ cls := "BulbInAStaffModel", name := "tellsOf", desc := "(I)I" } : Jvm.MethodName)) ∈ lw_all := lw_g (lw_at lw_m7 128 rfl) rfl
theorem q1684 : (Jvm.Cond.privateMethod ({ cls := "BulbInAStaffModel", name := "tellsOf", desc := "(I)I" } : Jvm.MethodName)) ∈ lw_tbl := lw_at lw_m7 129 rfl
theorem q1685 : (Jvm.Cond.instanceMethod ({ cls := "BulbInAStaffModel", name := "tellsOf", desc := "(I)I" } : Jvm.MethodName)) ∈ lw_all := lw_g (lw_at lw_m7 130 rfl) rfl
theorem q1686 : (Jvm.Cond.code ({ cls := "BulbInAStaffModel", name := "tellsOf", desc := "(I)I" } : Jvm.MethodName) prog_16_method_79_code (4 : Nat) (Option.some Jvm.ClassFile.FieldType.int)) ∈ lw_all := lw_g (lw_at lw_m7 131 rfl) rfl
theorem q1687 : (Jvm.Cond.methodLink "BulbInAStaffModel" (356 : Nat) ({ cls := "BulbInAStaffModel", name := "bloom", desc := "()I" } : Jvm.MethodName)) ∈ lw_all := lw_g (lw_at lw_m7 132 rfl) rfl
theorem q1688 : (Jvm.Cond.privateMethod ({ cls := "BulbInAStaffModel", name := "bloom", desc := "()I" } : Jvm.MethodName)) ∈ lw_tbl := lw_at lw_m7 133 rfl
theorem q1689 : (Jvm.Cond.instanceMethod ({ cls := "BulbInAStaffModel", name := "bloom", desc := "()I" } : Jvm.MethodName)) ∈ lw_all := lw_g (lw_at lw_m7 134 rfl) rfl
theorem q1690 : (Jvm.Cond.code ({ cls := "BulbInAStaffModel", name := "bloom", desc := "()I" } : Jvm.MethodName) prog_16_method_73_code (3 : Nat) (Option.some Jvm.ClassFile.FieldType.int)) ∈ lw_all := lw_g (lw_at lw_m7 135 rfl) rfl
theorem q1691 : (Jvm.Cond.methodLink "BulbInAStaffModel" (359 : Nat) ({ cls := "BulbInAStaffModel", name := "heir", desc := "()I" } : Jvm.MethodName)) ∈ lw_all := lw_g (lw_at lw_m7 136 rfl) rfl
theorem q1692 : (Jvm.Cond.privateMethod ({ cls := "BulbInAStaffModel", name := "heir", desc := "()I" } : Jvm.MethodName)) ∈ lw_tbl := lw_at lw_m7 137 rfl
theorem q1693 : (Jvm.Cond.instanceMethod ({ cls := "BulbInAStaffModel", name := "heir", desc := "()I" } : Jvm.MethodName)) ∈ lw_all := lw_g (lw_at lw_m7 138 rfl) rfl
theorem q1694 : (Jvm.Cond.code ({ cls := "BulbInAStaffModel", name := "heir", desc := "()I" } : Jvm.MethodName) prog_16_method_78_code (3 : Nat) (Option.some Jvm.ClassFile.FieldType.int)) ∈ lw_all := lw_g (lw_at lw_m7 139 rfl) rfl
theorem q1695 : (Jvm.Cond.methodLink "BulbInAStaffModel" (374 : Nat) ({ cls := "BulbInAStaffModel", name := "laysBack", desc := "()V" } : Jvm.MethodName)) ∈ lw_all := lw_g (lw_at lw_m7 140 rfl) rfl
theorem q1696 : (Jvm.Cond.privateMethod ({ cls := "BulbInAStaffModel", name := "laysBack", desc := "()V" } : Jvm.MethodName)) ∈ lw_tbl := lw_at lw_m7 141 rfl
theorem q1697 : (Jvm.Cond.instanceMethod ({ cls := "BulbInAStaffModel", name := "laysBack", desc := "()V" } : Jvm.MethodName)) ∈ lw_all := lw_g (lw_at lw_m7 142 rfl) rfl
theorem q1698 : (Jvm.Cond.code ({ cls := "BulbInAStaffModel", name := "laysBack", desc := "()V" } : Jvm.MethodName) prog_16_method_77_code (2 : Nat) (Option.none : Option Jvm.ClassFile.FieldType)) ∈ lw_all := lw_g (lw_at lw_m7 143 rfl) rfl
theorem q1700 : (Jvm.Cond.instanceMethod ({ cls := "BulbInAStaffModel", name := "first", desc := "(II)I" } : Jvm.MethodName)) ∈ lw_all := lw_g (lw_at lw_m7 145 rfl) rfl
theorem q1701 : (Jvm.Cond.selects "BulbInAStaffModel" ({ cls := "BulbInAStaffModel", name := "first", desc := "(II)I" } : Jvm.MethodName) ({ cls := "BulbInAStaffModel", name := "first", desc := "(II)I" } : Jvm.MethodName)) ∈ lw_all := lw_g (lw_at lw_m7 146 rfl) rfl
theorem q1702 : (Jvm.Cond.code ({ cls := "BulbInAStaffModel", name := "first", desc := "(II)I" } : Jvm.MethodName) prog_16_method_81_code (5 : Nat) (Option.some Jvm.ClassFile.FieldType.int)) ∈ lw_all := lw_g (lw_at lw_m7 147 rfl) rfl
theorem q1703 : (Jvm.Cond.constantLong "BulbInAStaffModel" (377 : Nat) (99999 : Int64)) ∈ lw_all := lw_g (lw_at lw_m7 148 rfl) rfl
theorem q1705 : (Jvm.Cond.instanceMethod ({ cls := "BulbInAStaffModel", name := "found", desc := "(III)J" } : Jvm.MethodName)) ∈ lw_all := lw_g (lw_at lw_m7 150 rfl) rfl
theorem q1706 : (Jvm.Cond.selects "BulbInAStaffModel" ({ cls := "BulbInAStaffModel", name := "found", desc := "(III)J" } : Jvm.MethodName) ({ cls := "BulbInAStaffModel", name := "found", desc := "(III)J" } : Jvm.MethodName)) ∈ lw_all := lw_g (lw_at lw_m7 151 rfl) rfl
theorem q1707 : (Jvm.Cond.code ({ cls := "BulbInAStaffModel", name := "found", desc := "(III)J" } : Jvm.MethodName) prog_16_method_83_code (14 : Nat) (Option.some Jvm.ClassFile.FieldType.long)) ∈ lw_all := lw_g (lw_at lw_m7 152 rfl) rfl
theorem q1708 : (Jvm.Cond.constantLong "BulbInAStaffModel" (379 : Nat) (8 : Int64)) ∈ lw_all := lw_g (lw_at lw_m7 153 rfl) rfl
theorem q1709 : (Jvm.Cond.constantLong "BulbInAStaffModel" (381 : Nat) (-4611686018427387904 : Int64)) ∈ lw_all := lw_g (lw_at lw_m7 154 rfl) rfl
theorem q1710 : (Jvm.Cond.methodLink "BulbInAStaffModel" (383 : Nat) ({ cls := "BulbInAStaffModel", name := "hidden", desc := "(II)J" } : Jvm.MethodName)) ∈ lw_all := lw_g (lw_at lw_m7 155 rfl) rfl
theorem q1711 : (Jvm.Cond.privateMethod ({ cls := "BulbInAStaffModel", name := "hidden", desc := "(II)J" } : Jvm.MethodName)) ∈ lw_tbl := lw_at lw_m7 156 rfl
theorem q1712 : (Jvm.Cond.instanceMethod ({ cls := "BulbInAStaffModel", name := "hidden", desc := "(II)J" } : Jvm.MethodName)) ∈ lw_all := lw_g (lw_at lw_m7 157 rfl) rfl
theorem q1713 : (Jvm.Cond.code ({ cls := "BulbInAStaffModel", name := "hidden", desc := "(II)J" } : Jvm.MethodName) prog_16_method_82_code (6 : Nat) (Option.some Jvm.ClassFile.FieldType.long)) ∈ lw_all := lw_g (lw_at lw_m7 158 rfl) rfl
theorem q1714 : (Jvm.Cond.constantLong "BulbInAStaffModel" (387 : Nat) (100 : Int64)) ∈ lw_all := lw_g (lw_at lw_m7 159 rfl) rfl
theorem q1716 : (Jvm.Cond.instanceMethod ({ cls := "BulbInAStaffModel", name := "soil", desc := "(III)I" } : Jvm.MethodName)) ∈ lw_all := lw_g (lw_at lw_m7 161 rfl) rfl
theorem q1717 : (Jvm.Cond.selects "BulbInAStaffModel" ({ cls := "BulbInAStaffModel", name := "soil", desc := "(III)I" } : Jvm.MethodName) ({ cls := "BulbInAStaffModel", name := "soil", desc := "(III)I" } : Jvm.MethodName)) ∈ lw_all := lw_g (lw_at lw_m7 162 rfl) rfl
theorem q1718 : (Jvm.Cond.code ({ cls := "BulbInAStaffModel", name := "soil", desc := "(III)I" } : Jvm.MethodName) prog_16_method_85_code (9 : Nat) (Option.some Jvm.ClassFile.FieldType.int)) ∈ lw_all := lw_g (lw_at lw_m7 163 rfl) rfl
theorem q1719 : (Jvm.Cond.methodLink "BulbInAStaffModel" (389 : Nat) ({ cls := "BulbInAStaffModel", name := "manyBehind", desc := "(II)I" } : Jvm.MethodName)) ∈ lw_all := lw_g (lw_at lw_m7 164 rfl) rfl
theorem q1720 : (Jvm.Cond.privateMethod ({ cls := "BulbInAStaffModel", name := "manyBehind", desc := "(II)I" } : Jvm.MethodName)) ∈ lw_tbl := lw_at lw_m7 165 rfl
theorem q1721 : (Jvm.Cond.instanceMethod ({ cls := "BulbInAStaffModel", name := "manyBehind", desc := "(II)I" } : Jvm.MethodName)) ∈ lw_all := lw_g (lw_at lw_m7 166 rfl) rfl
theorem q1722 : (Jvm.Cond.code ({ cls := "BulbInAStaffModel", name := "manyBehind", desc := "(II)I" } : Jvm.MethodName) prog_16_method_84_code (4 : Nat) (Option.some Jvm.ClassFile.FieldType.int)) ∈ lw_all := lw_g (lw_at lw_m7 167 rfl) rfl
theorem q1724 : (Jvm.Cond.instanceMethod ({ cls := "BulbInAStaffModel", name := "sown", desc := "(II)I" } : Jvm.MethodName)) ∈ lw_all := lw_g (lw_at lw_m7 169 rfl) rfl
theorem q1725 : (Jvm.Cond.selects "BulbInAStaffModel" ({ cls := "BulbInAStaffModel", name := "sown", desc := "(II)I" } : Jvm.MethodName) ({ cls := "BulbInAStaffModel", name := "sown", desc := "(II)I" } : Jvm.MethodName)) ∈ lw_all := lw_g (lw_at lw_m7 170 rfl) rfl
theorem q1726 : (Jvm.Cond.code ({ cls := "BulbInAStaffModel", name := "sown", desc := "(II)I" } : Jvm.MethodName) prog_16_method_86_code (5 : Nat) (Option.some Jvm.ClassFile.FieldType.int)) ∈ lw_all := lw_g (lw_at lw_m7 171 rfl) rfl
theorem q1727 : (Jvm.Cond.constantLong "BulbInAStaffModel" (392 : Nat) (59 : Int64)) ∈ lw_all := lw_g (lw_at lw_m7 172 rfl) rfl
theorem q1729 : (Jvm.Cond.instanceMethod ({ cls := "BulbInAStaffModel", name := "safest", desc := "(I)I" } : Jvm.MethodName)) ∈ lw_all := lw_g (lw_at lw_m7 174 rfl) rfl
theorem q1730 : (Jvm.Cond.selects "BulbInAStaffModel" ({ cls := "BulbInAStaffModel", name := "safest", desc := "(I)I" } : Jvm.MethodName) ({ cls := "BulbInAStaffModel", name := "safest", desc := "(I)I" } : Jvm.MethodName)) ∈ lw_all := lw_g (lw_at lw_m7 175 rfl) rfl
theorem q1731 : (Jvm.Cond.code ({ cls := "BulbInAStaffModel", name := "safest", desc := "(I)I" } : Jvm.MethodName) prog_16_method_87_code (8 : Nat) (Option.some Jvm.ClassFile.FieldType.int)) ∈ lw_all := lw_g (lw_at lw_m7 176 rfl) rfl
theorem q1732 : (Jvm.Cond.constantLong "BulbInAStaffModel" (394 : Nat) (-1 : Int64)) ∈ lw_all := lw_g (lw_at lw_m7 177 rfl) rfl
theorem q1734 : (Jvm.Cond.instanceMethod ({ cls := "BulbInAStaffModel", name := "when", desc := "(II)I" } : Jvm.MethodName)) ∈ lw_all := lw_g (lw_at lw_m7 179 rfl) rfl
theorem q1735 : (Jvm.Cond.selects "BulbInAStaffModel" ({ cls := "BulbInAStaffModel", name := "when", desc := "(II)I" } : Jvm.MethodName) ({ cls := "BulbInAStaffModel", name := "when", desc := "(II)I" } : Jvm.MethodName)) ∈ lw_all := lw_g (lw_at lw_m7 180 rfl) rfl
theorem q1736 : (Jvm.Cond.code ({ cls := "BulbInAStaffModel", name := "when", desc := "(II)I" } : Jvm.MethodName) prog_16_method_88_code (7 : Nat) (Option.some Jvm.ClassFile.FieldType.int)) ∈ lw_all := lw_g (lw_at lw_m7 181 rfl) rfl
theorem q1737 : (Jvm.Cond.methodLink "BulbInAStaffModel" (396 : Nat) ({ cls := "BulbInAStaffModel", name := "worthAll", desc := "()I" } : Jvm.MethodName)) ∈ lw_all := lw_g (lw_at lw_m7 182 rfl) rfl
theorem q1738 : (Jvm.Cond.privateMethod ({ cls := "BulbInAStaffModel", name := "worthAll", desc := "()I" } : Jvm.MethodName)) ∈ lw_tbl := lw_at lw_m7 183 rfl
theorem q1739 : (Jvm.Cond.instanceMethod ({ cls := "BulbInAStaffModel", name := "worthAll", desc := "()I" } : Jvm.MethodName)) ∈ lw_all := lw_g (lw_at lw_m7 184 rfl) rfl
theorem q1740 : (Jvm.Cond.code ({ cls := "BulbInAStaffModel", name := "worthAll", desc := "()I" } : Jvm.MethodName) prog_16_method_74_code (3 : Nat) (Option.some Jvm.ClassFile.FieldType.int)) ∈ lw_all := lw_g (lw_at lw_m7 185 rfl) rfl
theorem q1742 : (Jvm.Cond.instanceMethod ({ cls := "BulbInAStaffModel", name := "enough", desc := "(III)I" } : Jvm.MethodName)) ∈ lw_all := lw_g (lw_at lw_m7 187 rfl) rfl
theorem q1743 : (Jvm.Cond.selects "BulbInAStaffModel" ({ cls := "BulbInAStaffModel", name := "enough", desc := "(III)I" } : Jvm.MethodName) ({ cls := "BulbInAStaffModel", name := "enough", desc := "(III)I" } : Jvm.MethodName)) ∈ lw_all := lw_g (lw_at lw_m7 188 rfl) rfl
theorem q1744 : (Jvm.Cond.code ({ cls := "BulbInAStaffModel", name := "enough", desc := "(III)I" } : Jvm.MethodName) prog_16_method_89_code (7 : Nat) (Option.some Jvm.ClassFile.FieldType.int)) ∈ lw_all := lw_g (lw_at lw_m7 189 rfl) rfl
theorem q1746 : (Jvm.Cond.instanceMethod ({ cls := "BulbInAStaffModel", name := "tells", desc := "(III)I" } : Jvm.MethodName)) ∈ lw_all := lw_g (lw_at lw_m7 191 rfl) rfl
theorem q1747 : (Jvm.Cond.selects "BulbInAStaffModel" ({ cls := "BulbInAStaffModel", name := "tells", desc := "(III)I" } : Jvm.MethodName) ({ cls := "BulbInAStaffModel", name := "tells", desc := "(III)I" } : Jvm.MethodName)) ∈ lw_all := lw_g (lw_at lw_m7 192 rfl) rfl
theorem q1748 : (Jvm.Cond.code ({ cls := "BulbInAStaffModel", name := "tells", desc := "(III)I" } : Jvm.MethodName) prog_16_method_91_code (11 : Nat) (Option.some Jvm.ClassFile.FieldType.int)) ∈ lw_all := lw_g (lw_at lw_m7 193 rfl) rfl
theorem q1749 : (Jvm.Cond.methodLink "BulbInAStaffModel" (399 : Nat) ({ cls := "BulbInAStaffModel", name := "isSheet", desc := "(I)Z" } : Jvm.MethodName)) ∈ lw_all := lw_g (lw_at lw_m7 194 rfl) rfl
theorem q1750 : (Jvm.Cond.static ({ cls := "BulbInAStaffModel", name := "isSheet", desc := "(I)Z" } : Jvm.MethodName)) ∈ lw_all := lw_g (lw_at lw_m7 195 rfl) rfl
theorem q1751 : (Jvm.Cond.code ({ cls := "BulbInAStaffModel", name := "isSheet", desc := "(I)Z" } : Jvm.MethodName) prog_16_method_99_code (1 : Nat) (Option.some Jvm.ClassFile.FieldType.boolean)) ∈ lw_all := lw_g (lw_at lw_m7 196 rfl) rfl
theorem q1752 : (Jvm.Cond.constantLong "BulbInAStaffModel" (402 : Nat) (6 : Int64)) ∈ lw_all := lw_g (lw_at lw_m7 197 rfl) rfl
theorem q1753 : (Jvm.Cond.methodLink "BulbInAStaffModel" (404 : Nat) ({ cls := "BulbInAStaffModel", name := "firstOther", desc := "(II)I" } : Jvm.MethodName)) ∈ lw_all := lw_g (lw_at lw_m7 198 rfl) rfl
theorem q1754 : (Jvm.Cond.privateMethod ({ cls := "BulbInAStaffModel", name := "firstOther", desc := "(II)I" } : Jvm.MethodName)) ∈ lw_tbl := lw_at lw_m7 199 rfl
theorem q1755 : (Jvm.Cond.instanceMethod ({ cls := "BulbInAStaffModel", name := "firstOther", desc := "(II)I" } : Jvm.MethodName)) ∈ lw_all := lw_g (lw_at lw_m7 200 rfl) rfl
theorem q1756 : (Jvm.Cond.code ({ cls := "BulbInAStaffModel", name := "firstOther", desc := "(II)I" } : Jvm.MethodName) prog_16_method_90_code (5 : Nat) (Option.some Jvm.ClassFile.FieldType.int)) ∈ lw_all := lw_g (lw_at lw_m7 201 rfl) rfl
theorem q1758 : (Jvm.Cond.instanceMethod ({ cls := "BulbInAStaffModel", name := "film", desc := "(III)I" } : Jvm.MethodName)) ∈ lw_all := lw_g (lw_at lw_m7 203 rfl) rfl
theorem q1759 : (Jvm.Cond.selects "BulbInAStaffModel" ({ cls := "BulbInAStaffModel", name := "film", desc := "(III)I" } : Jvm.MethodName) ({ cls := "BulbInAStaffModel", name := "film", desc := "(III)I" } : Jvm.MethodName)) ∈ lw_all := lw_g (lw_at lw_m7 204 rfl) rfl
theorem q1760 : (Jvm.Cond.code ({ cls := "BulbInAStaffModel", name := "film", desc := "(III)I" } : Jvm.MethodName) prog_16_method_92_code (5 : Nat) (Option.some Jvm.ClassFile.FieldType.int)) ∈ lw_all := lw_g (lw_at lw_m7 205 rfl) rfl
theorem q1761 : (Jvm.Cond.methodLink "BulbInAStaffModel" (407 : Nat) ({ cls := "BulbInAStaffModel", name := "sheet", desc := "(III)I" } : Jvm.MethodName)) ∈ lw_all := lw_g (lw_at lw_m7 206 rfl) rfl
theorem q1762 : (Jvm.Cond.instanceMethod ({ cls := "BulbInAStaffModel", name := "sheet", desc := "(III)I" } : Jvm.MethodName)) ∈ lw_all := lw_g (lw_at lw_m7 207 rfl) rfl
theorem q1763 : (Jvm.Cond.selects "BulbInAStaffModel" ({ cls := "BulbInAStaffModel", name := "sheet", desc := "(III)I" } : Jvm.MethodName) ({ cls := "BulbInAStaffModel", name := "sheet", desc := "(III)I" } : Jvm.MethodName)) ∈ lw_all := lw_g (lw_at lw_m7 208 rfl) rfl
theorem q1764 : (Jvm.Cond.code ({ cls := "BulbInAStaffModel", name := "sheet", desc := "(III)I" } : Jvm.MethodName) prog_16_method_100_code (5 : Nat) (Option.some Jvm.ClassFile.FieldType.int)) ∈ lw_all := lw_g (lw_at lw_m7 209 rfl) rfl
theorem q1765 : (Jvm.Cond.constantLong "BulbInAStaffModel" (428 : Nat) (2 : Int64)) ∈ lw_all := lw_g (lw_at lw_m7 210 rfl) rfl
theorem q1767 : (Jvm.Cond.instanceMethod ({ cls := "BulbInAStaffModel", name := "drawn", desc := "(II)I" } : Jvm.MethodName)) ∈ lw_all := lw_g (lw_at lw_m7 212 rfl) rfl
theorem q1768 : (Jvm.Cond.selects "BulbInAStaffModel" ({ cls := "BulbInAStaffModel", name := "drawn", desc := "(II)I" } : Jvm.MethodName) ({ cls := "BulbInAStaffModel", name := "drawn", desc := "(II)I" } : Jvm.MethodName)) ∈ lw_all := lw_g (lw_at lw_m7 213 rfl) rfl
theorem q1769 : (Jvm.Cond.code ({ cls := "BulbInAStaffModel", name := "drawn", desc := "(II)I" } : Jvm.MethodName) prog_16_method_94_code (3 : Nat) (Option.some Jvm.ClassFile.FieldType.int)) ∈ lw_all := lw_g (lw_at lw_m7 214 rfl) rfl
theorem q1770 : (Jvm.Cond.methodLink "BulbInAStaffModel" (411 : Nat) ({ cls := "BulbInAStaffModel", name := "allBy", desc := "(II)I" } : Jvm.MethodName)) ∈ lw_all := lw_g (lw_at lw_m7 215 rfl) rfl
theorem q1771 : (Jvm.Cond.privateMethod ({ cls := "BulbInAStaffModel", name := "allBy", desc := "(II)I" } : Jvm.MethodName)) ∈ lw_tbl := lw_at lw_m7 216 rfl
theorem q1772 : (Jvm.Cond.instanceMethod ({ cls := "BulbInAStaffModel", name := "allBy", desc := "(II)I" } : Jvm.MethodName)) ∈ lw_all := lw_g (lw_at lw_m7 217 rfl) rfl
theorem q1773 : (Jvm.Cond.code ({ cls := "BulbInAStaffModel", name := "allBy", desc := "(II)I" } : Jvm.MethodName) prog_16_method_93_code (6 : Nat) (Option.some Jvm.ClassFile.FieldType.int)) ∈ lw_all := lw_g (lw_at lw_m7 218 rfl) rfl
theorem q1774 : (Jvm.Cond.constant "BulbInAStaffModel" (410 : Nat) (1103515245 : Int32)) ∈ lw_all := lw_g (lw_at lw_m7 219 rfl) rfl
theorem q1776 : (Jvm.Cond.instanceMethod ({ cls := "BulbInAStaffModel", name := "chance", desc := "(III)J" } : Jvm.MethodName)) ∈ lw_all := lw_g (lw_at lw_m7 221 rfl) rfl
theorem q1777 : (Jvm.Cond.selects "BulbInAStaffModel" ({ cls := "BulbInAStaffModel", name := "chance", desc := "(III)J" } : Jvm.MethodName) ({ cls := "BulbInAStaffModel", name := "chance", desc := "(III)J" } : Jvm.MethodName)) ∈ lw_all := lw_g (lw_at lw_m7 222 rfl) rfl
theorem q1778 : (Jvm.Cond.code ({ cls := "BulbInAStaffModel", name := "chance", desc := "(III)J" } : Jvm.MethodName) prog_16_method_95_code (12 : Nat) (Option.some Jvm.ClassFile.FieldType.long)) ∈ lw_all := lw_g (lw_at lw_m7 223 rfl) rfl
theorem q1779 : (Jvm.Cond.constantLong "BulbInAStaffModel" (414 : Nat) (20 : Int64)) ∈ lw_all := lw_g (lw_at lw_m7 224 rfl) rfl
theorem q1781 : (Jvm.Cond.instanceMethod ({ cls := "BulbInAStaffModel", name := "image", desc := "()I" } : Jvm.MethodName)) ∈ lw_all := lw_g (lw_at lw_m7 226 rfl) rfl
theorem q1782 : (Jvm.Cond.selects "BulbInAStaffModel" ({ cls := "BulbInAStaffModel", name := "image", desc := "()I" } : Jvm.MethodName) ({ cls := "BulbInAStaffModel", name := "image", desc := "()I" } : Jvm.MethodName)) ∈ lw_all := lw_g (lw_at lw_m7 227 rfl) rfl
theorem q1783 : (Jvm.Cond.code ({ cls := "BulbInAStaffModel", name := "image", desc := "()I" } : Jvm.MethodName) prog_16_method_96_code (2 : Nat) (Option.some Jvm.ClassFile.FieldType.int)) ∈ lw_all := lw_g (lw_at lw_m7 228 rfl) rfl
theorem q1785 : (Jvm.Cond.instanceMethod ({ cls := "BulbInAStaffModel", name := "back", desc := "()I" } : Jvm.MethodName)) ∈ lw_all := lw_g (lw_at lw_m7 230 rfl) rfl
theorem q1786 : (Jvm.Cond.selects "BulbInAStaffModel" ({ cls := "BulbInAStaffModel", name := "back", desc := "()I" } : Jvm.MethodName) ({ cls := "BulbInAStaffModel", name := "back", desc := "()I" } : Jvm.MethodName)) ∈ lw_all := lw_g (lw_at lw_m7 231 rfl) rfl
theorem q1787 : (Jvm.Cond.code ({ cls := "BulbInAStaffModel", name := "back", desc := "()I" } : Jvm.MethodName) prog_16_method_97_code (2 : Nat) (Option.some Jvm.ClassFile.FieldType.int)) ∈ lw_all := lw_g (lw_at lw_m7 232 rfl) rfl
theorem q1789 : (Jvm.Cond.instanceMethod ({ cls := "BulbInAStaffModel", name := "count", desc := "(I)I" } : Jvm.MethodName)) ∈ lw_all := lw_g (lw_at lw_m7 234 rfl) rfl
theorem q1790 : (Jvm.Cond.selects "BulbInAStaffModel" ({ cls := "BulbInAStaffModel", name := "count", desc := "(I)I" } : Jvm.MethodName) ({ cls := "BulbInAStaffModel", name := "count", desc := "(I)I" } : Jvm.MethodName)) ∈ lw_all := lw_g (lw_at lw_m7 235 rfl) rfl
theorem q1791 : (Jvm.Cond.code ({ cls := "BulbInAStaffModel", name := "count", desc := "(I)I" } : Jvm.MethodName) prog_16_method_98_code (2 : Nat) (Option.some Jvm.ClassFile.FieldType.int)) ∈ lw_all := lw_g (lw_at lw_m7 236 rfl) rfl
theorem q1794 : (Jvm.Cond.instanceMethod ({ cls := "BulbInAStaffModel", name := "cell", desc := "(III)I" } : Jvm.MethodName)) ∈ lw_all := lw_g (lw_at lw_m7 239 rfl) rfl
theorem q1795 : (Jvm.Cond.selects "BulbInAStaffModel" ({ cls := "BulbInAStaffModel", name := "cell", desc := "(III)I" } : Jvm.MethodName) ({ cls := "BulbInAStaffModel", name := "cell", desc := "(III)I" } : Jvm.MethodName)) ∈ lw_all := lw_g (lw_at lw_m8 0 rfl) rfl
theorem q1796 : (Jvm.Cond.code ({ cls := "BulbInAStaffModel", name := "cell", desc := "(III)I" } : Jvm.MethodName) prog_16_method_101_code (4 : Nat) (Option.some Jvm.ClassFile.FieldType.int)) ∈ lw_all := lw_g (lw_at lw_m8 1 rfl) rfl
theorem q1798 : (Jvm.Cond.instanceMethod ({ cls := "BulbInAStaffModel", name := "copy", desc := "(IIIII)I" } : Jvm.MethodName)) ∈ lw_all := lw_g (lw_at lw_m8 3 rfl) rfl
theorem q1799 : (Jvm.Cond.selects "BulbInAStaffModel" ({ cls := "BulbInAStaffModel", name := "copy", desc := "(IIIII)I" } : Jvm.MethodName) ({ cls := "BulbInAStaffModel", name := "copy", desc := "(IIIII)I" } : Jvm.MethodName)) ∈ lw_all := lw_g (lw_at lw_m8 4 rfl) rfl
theorem q1800 : (Jvm.Cond.code ({ cls := "BulbInAStaffModel", name := "copy", desc := "(IIIII)I" } : Jvm.MethodName) prog_16_method_102_code (9 : Nat) (Option.some Jvm.ClassFile.FieldType.int)) ∈ lw_all := lw_g (lw_at lw_m8 5 rfl) rfl
theorem q1802 : (Jvm.Cond.instanceMethod ({ cls := "BulbInAStaffModel", name := "plants", desc := "(IIII)I" } : Jvm.MethodName)) ∈ lw_all := lw_g (lw_at lw_m8 7 rfl) rfl
theorem q1803 : (Jvm.Cond.selects "BulbInAStaffModel" ({ cls := "BulbInAStaffModel", name := "plants", desc := "(IIII)I" } : Jvm.MethodName) ({ cls := "BulbInAStaffModel", name := "plants", desc := "(IIII)I" } : Jvm.MethodName)) ∈ lw_all := lw_g (lw_at lw_m8 8 rfl) rfl
theorem q1804 : (Jvm.Cond.code ({ cls := "BulbInAStaffModel", name := "plants", desc := "(IIII)I" } : Jvm.MethodName) prog_16_method_103_code (8 : Nat) (Option.some Jvm.ClassFile.FieldType.int)) ∈ lw_all := lw_g (lw_at lw_m8 9 rfl) rfl
theorem q1805 : (Jvm.Cond.methodLink "BulbInAStaffModel" (430 : Nat) ({ cls := "BulbInAStaffModel", name := "plant", desc := "(III)I" } : Jvm.MethodName)) ∈ lw_all := lw_g (lw_at lw_m8 10 rfl) rfl
theorem q1807 : (Jvm.Cond.instanceMethod ({ cls := "BulbInAStaffModel", name := "taken", desc := "(II)I" } : Jvm.MethodName)) ∈ lw_all := lw_g (lw_at lw_m8 12 rfl) rfl
theorem q1808 : (Jvm.Cond.selects "BulbInAStaffModel" ({ cls := "BulbInAStaffModel", name := "taken", desc := "(II)I" } : Jvm.MethodName) ({ cls := "BulbInAStaffModel", name := "taken", desc := "(II)I" } : Jvm.MethodName)) ∈ lw_all := lw_g (lw_at lw_m8 13 rfl) rfl
theorem q1809 : (Jvm.Cond.code ({ cls := "BulbInAStaffModel", name := "taken", desc := "(II)I" } : Jvm.MethodName) prog_16_method_105_code (4 : Nat) (Option.some Jvm.ClassFile.FieldType.int)) ∈ lw_all := lw_g (lw_at lw_m8 14 rfl) rfl
theorem q1810 : (Jvm.Cond.methodLink "BulbInAStaffModel" (433 : Nat) ({ cls := "BulbInAStaffModel", name := "over", desc := "(I)I" } : Jvm.MethodName)) ∈ lw_all := lw_g (lw_at lw_m8 15 rfl) rfl
theorem q1811 : (Jvm.Cond.static ({ cls := "BulbInAStaffModel", name := "over", desc := "(I)I" } : Jvm.MethodName)) ∈ lw_all := lw_g (lw_at lw_m8 16 rfl) rfl
theorem q1812 : (Jvm.Cond.code ({ cls := "BulbInAStaffModel", name := "over", desc := "(I)I" } : Jvm.MethodName) prog_16_method_104_code (1 : Nat) (Option.some Jvm.ClassFile.FieldType.int)) ∈ lw_all := lw_g (lw_at lw_m8 17 rfl) rfl
theorem in_X8 : ∀ w ∈ wsX80, w ∈ lw_all := lw_in wsX80 [1295, 1297, 1299, 1301, 1303, 1305, 1307, 1309, 1311, 1313, 1315, 1317, 1319, 1321, 1323, 1325, 1327, 1329, 1331, 1333, 1335, 1337, 1339, 1341, 1343, 1345, 1347, 1349, 1351, 1353, 1355, 1357, 1359, 1361, 1363, 1365, 1367, 1369, 1371, 1373, 1375, 1377] (by decide +kernel) (by decide +kernel)
theorem q134 : (Jvm.Cond.initialized "BulbInAStaff$Bulb") ∈ lw_all := lw_g (lw_at lw_m1 19 rfl) rfl
theorem q168 : (Jvm.Cond.instanceMethod ({ cls := "BulbInAStaff$Bulb", name := "<init>", desc := "(II)V" } : Jvm.MethodName)) ∈ lw_all := lw_g (lw_at lw_m1 53 rfl) rfl
theorem q169 : (Jvm.Cond.code ({ cls := "BulbInAStaff$Bulb", name := "<init>", desc := "(II)V" } : Jvm.MethodName) prog_3_method_1_code (3 : Nat) (Option.none : Option Jvm.ClassFile.FieldType)) ∈ lw_all := lw_g (lw_at lw_m1 54 rfl) rfl
theorem q170 : (Jvm.Cond.methodLink "BulbInAStaff$Bulb" (3 : Nat) ({ cls := "java/lang/Object", name := "<init>", desc := "()V" } : Jvm.MethodName)) ∈ lw_all := lw_g (lw_at lw_m1 55 rfl) rfl
theorem q173 : (Jvm.Cond.fieldLink "BulbInAStaff$Bulb" (15 : Nat) "BulbInAStaff$Bulb" "number" "I") ∈ lw_all := lw_g (lw_at lw_m1 58 rfl) rfl
theorem q180 : (Jvm.Cond.fieldLink "BulbInAStaff$Bulb" (18 : Nat) "BulbInAStaff$Bulb" "garden" "I") ∈ lw_all := lw_g (lw_at lw_m1 65 rfl) rfl
theorem q183 : (Jvm.Cond.fieldLink "BulbInAStaff$Bulb" (9 : Nat) "BulbInAStaff$Bulb" "many" "I") ∈ lw_all := lw_g (lw_at lw_m1 68 rfl) rfl
theorem q187 : (Jvm.Cond.soleField "BulbInAStaff$Bulb" "number") ∈ lw_all := lw_g (lw_at lw_m1 72 rfl) rfl
theorem q189 : (Jvm.Cond.soleField "BulbInAStaff$Bulb" "garden") ∈ lw_all := lw_g (lw_at lw_m1 74 rfl) rfl
theorem q191 : (Jvm.Cond.soleField "BulbInAStaff$Bulb" "many") ∈ lw_all := lw_g (lw_at lw_m1 76 rfl) rfl
theorem q234 : (Jvm.Cond.instantiable "BulbInAStaff$Bulb" (3 : Nat)) ∈ lw_all := lw_g (lw_at lw_m1 119 rfl) rfl
theorem q236 : (Jvm.Cond.lays "BulbInAStaff$Bulb" "BulbInAStaff$Bulb" "number" "I") ∈ lw_all := lw_g (lw_at lw_m1 121 rfl) rfl
theorem q237 : (Jvm.Cond.lays "BulbInAStaff$Bulb" "BulbInAStaff$Bulb" "garden" "I") ∈ lw_all := lw_g (lw_at lw_m1 122 rfl) rfl
theorem q238 : (Jvm.Cond.lays "BulbInAStaff$Bulb" "BulbInAStaff$Bulb" "many" "I") ∈ lw_all := lw_g (lw_at lw_m1 123 rfl) rfl
theorem q239 : (Jvm.Cond.superclass "BulbInAStaff$Bulb" "java/lang/Object") ∈ lw_all := lw_g (lw_at lw_m1 124 rfl) rfl
theorem q266 : (Jvm.Cond.instanceMethod ({ cls := "BulbInAStaff$Bulb", name := "kind", desc := "()I" } : Jvm.MethodName)) ∈ lw_all := lw_g (lw_at lw_m1 151 rfl) rfl
theorem q267 : (Jvm.Cond.selects "BulbInAStaff$Bulb" ({ cls := "BulbInAStaff$Bulb", name := "kind", desc := "()I" } : Jvm.MethodName) ({ cls := "BulbInAStaff$Bulb", name := "kind", desc := "()I" } : Jvm.MethodName)) ∈ lw_all := lw_g (lw_at lw_m1 152 rfl) rfl
theorem q268 : (Jvm.Cond.sameMethod "BulbInAStaff$Bulb" "BulbInAStaff$Bulb" "kind" "()I") ∈ lw_all := lw_g (lw_at lw_m1 153 rfl) rfl
theorem q289 : (Jvm.Cond.code ({ cls := "BulbInAStaff$Bulb", name := "kind", desc := "()I" } : Jvm.MethodName) prog_3_method_2_code (1 : Nat) (Option.some Jvm.ClassFile.FieldType.int)) ∈ lw_all := lw_g (lw_at lw_m1 174 rfl) rfl
theorem q325 : (Jvm.Cond.instanceMethod ({ cls := "BulbInAStaff$Bulb", name := "heldRots", desc := "(II)I" } : Jvm.MethodName)) ∈ lw_all := lw_g (lw_at lw_m1 210 rfl) rfl
theorem q326 : (Jvm.Cond.selects "BulbInAStaff$Bulb" ({ cls := "BulbInAStaff$Bulb", name := "heldRots", desc := "(II)I" } : Jvm.MethodName) ({ cls := "BulbInAStaff$Bulb", name := "heldRots", desc := "(II)I" } : Jvm.MethodName)) ∈ lw_all := lw_g (lw_at lw_m1 211 rfl) rfl
theorem q327 : (Jvm.Cond.sameMethod "BulbInAStaff$Bulb" "BulbInAStaff$Bulb" "heldRots" "(II)I") ∈ lw_all := lw_g (lw_at lw_m1 212 rfl) rfl
theorem q333 : (Jvm.Cond.code ({ cls := "BulbInAStaff$Bulb", name := "heldRots", desc := "(II)I" } : Jvm.MethodName) prog_3_method_7_code (3 : Nat) (Option.some Jvm.ClassFile.FieldType.int)) ∈ lw_all := lw_g (lw_at lw_m1 218 rfl) rfl
theorem q334 : (Jvm.Cond.methodLink "BulbInAStaff$Bulb" (28 : Nat) ({ cls := "BulbInAStaff$Bulb", name := "rots", desc := "(II)I" } : Jvm.MethodName)) ∈ lw_all := lw_g (lw_at lw_m1 219 rfl) rfl
theorem q335 : (Jvm.Cond.instanceMethod ({ cls := "BulbInAStaff$Bulb", name := "rots", desc := "(II)I" } : Jvm.MethodName)) ∈ lw_all := lw_g (lw_at lw_m1 220 rfl) rfl
theorem q336 : (Jvm.Cond.selects "BulbInAStaff$Bulb" ({ cls := "BulbInAStaff$Bulb", name := "rots", desc := "(II)I" } : Jvm.MethodName) ({ cls := "BulbInAStaff$Bulb", name := "rots", desc := "(II)I" } : Jvm.MethodName)) ∈ lw_all := lw_g (lw_at lw_m1 221 rfl) rfl
theorem q337 : (Jvm.Cond.sameMethod "BulbInAStaff$Bulb" "BulbInAStaff$Bulb" "rots" "(II)I") ∈ lw_all := lw_g (lw_at lw_m1 222 rfl) rfl
theorem q356 : (Jvm.Cond.code ({ cls := "BulbInAStaff$Bulb", name := "rots", desc := "(II)I" } : Jvm.MethodName) prog_3_method_4_code (3 : Nat) (Option.some Jvm.ClassFile.FieldType.int)) ∈ lw_all := lw_g (lw_at lw_m2 1 rfl) rfl
theorem q357 : (Jvm.Cond.methodLinkNest "BulbInAStaff$Bulb" (25 : Nat) ({ cls := "BulbInAStaff", name := "held", desc := "(III)I" } : Jvm.MethodName) "BulbInAStaff") ∈ lw_tbl := lw_at lw_m2 2 rfl
theorem q359 : (Jvm.Cond.instanceMethod ({ cls := "BulbInAStaff$Bulb", name := "heldGrows", desc := "(III)I" } : Jvm.MethodName)) ∈ lw_all := lw_g (lw_at lw_m2 4 rfl) rfl
theorem q360 : (Jvm.Cond.selects "BulbInAStaff$Bulb" ({ cls := "BulbInAStaff$Bulb", name := "heldGrows", desc := "(III)I" } : Jvm.MethodName) ({ cls := "BulbInAStaff$Bulb", name := "heldGrows", desc := "(III)I" } : Jvm.MethodName)) ∈ lw_all := lw_g (lw_at lw_m2 5 rfl) rfl
theorem q361 : (Jvm.Cond.sameMethod "BulbInAStaff$Bulb" "BulbInAStaff$Bulb" "heldGrows" "(III)I") ∈ lw_all := lw_g (lw_at lw_m2 6 rfl) rfl
theorem q367 : (Jvm.Cond.code ({ cls := "BulbInAStaff$Bulb", name := "heldGrows", desc := "(III)I" } : Jvm.MethodName) prog_3_method_6_code (4 : Nat) (Option.some Jvm.ClassFile.FieldType.int)) ∈ lw_all := lw_g (lw_at lw_m2 12 rfl) rfl
theorem q368 : (Jvm.Cond.methodLink "BulbInAStaff$Bulb" (21 : Nat) ({ cls := "BulbInAStaff$Bulb", name := "grows", desc := "(III)I" } : Jvm.MethodName)) ∈ lw_all := lw_g (lw_at lw_m2 13 rfl) rfl
theorem q369 : (Jvm.Cond.instanceMethod ({ cls := "BulbInAStaff$Bulb", name := "grows", desc := "(III)I" } : Jvm.MethodName)) ∈ lw_all := lw_g (lw_at lw_m2 14 rfl) rfl
theorem q370 : (Jvm.Cond.selects "BulbInAStaff$Bulb" ({ cls := "BulbInAStaff$Bulb", name := "grows", desc := "(III)I" } : Jvm.MethodName) ({ cls := "BulbInAStaff$Bulb", name := "grows", desc := "(III)I" } : Jvm.MethodName)) ∈ lw_all := lw_g (lw_at lw_m2 15 rfl) rfl
theorem q371 : (Jvm.Cond.sameMethod "BulbInAStaff$Bulb" "BulbInAStaff$Bulb" "grows" "(III)I") ∈ lw_all := lw_g (lw_at lw_m2 16 rfl) rfl
theorem q390 : (Jvm.Cond.code ({ cls := "BulbInAStaff$Bulb", name := "grows", desc := "(III)I" } : Jvm.MethodName) prog_3_method_3_code (4 : Nat) (Option.some Jvm.ClassFile.FieldType.int)) ∈ lw_all := lw_g (lw_at lw_m2 35 rfl) rfl
theorem q392 : (Jvm.Cond.instanceMethod ({ cls := "BulbInAStaff$Bulb", name := "heldFlowers", desc := "()I" } : Jvm.MethodName)) ∈ lw_all := lw_g (lw_at lw_m2 37 rfl) rfl
theorem q393 : (Jvm.Cond.selects "BulbInAStaff$Bulb" ({ cls := "BulbInAStaff$Bulb", name := "heldFlowers", desc := "()I" } : Jvm.MethodName) ({ cls := "BulbInAStaff$Bulb", name := "heldFlowers", desc := "()I" } : Jvm.MethodName)) ∈ lw_all := lw_g (lw_at lw_m2 38 rfl) rfl
theorem q394 : (Jvm.Cond.sameMethod "BulbInAStaff$Bulb" "BulbInAStaff$Bulb" "heldFlowers" "()I") ∈ lw_all := lw_g (lw_at lw_m2 39 rfl) rfl
theorem q400 : (Jvm.Cond.code ({ cls := "BulbInAStaff$Bulb", name := "heldFlowers", desc := "()I" } : Jvm.MethodName) prog_3_method_8_code (1 : Nat) (Option.some Jvm.ClassFile.FieldType.int)) ∈ lw_all := lw_g (lw_at lw_m2 45 rfl) rfl
theorem q401 : (Jvm.Cond.methodLink "BulbInAStaff$Bulb" (32 : Nat) ({ cls := "BulbInAStaff$Bulb", name := "flowers", desc := "(I)I" } : Jvm.MethodName)) ∈ lw_all := lw_g (lw_at lw_m2 46 rfl) rfl
theorem q402 : (Jvm.Cond.instanceMethod ({ cls := "BulbInAStaff$Bulb", name := "flowers", desc := "(I)I" } : Jvm.MethodName)) ∈ lw_all := lw_g (lw_at lw_m2 47 rfl) rfl
theorem q403 : (Jvm.Cond.selects "BulbInAStaff$Bulb" ({ cls := "BulbInAStaff$Bulb", name := "flowers", desc := "(I)I" } : Jvm.MethodName) ({ cls := "BulbInAStaff$Bulb", name := "flowers", desc := "(I)I" } : Jvm.MethodName)) ∈ lw_all := lw_g (lw_at lw_m2 48 rfl) rfl
theorem q404 : (Jvm.Cond.sameMethod "BulbInAStaff$Bulb" "BulbInAStaff$Bulb" "flowers" "(I)I") ∈ lw_all := lw_g (lw_at lw_m2 49 rfl) rfl
theorem q421 : (Jvm.Cond.code ({ cls := "BulbInAStaff$Bulb", name := "flowers", desc := "(I)I" } : Jvm.MethodName) prog_3_method_5_code (2 : Nat) (Option.some Jvm.ClassFile.FieldType.int)) ∈ lw_all := lw_g (lw_at lw_m2 66 rfl) rfl
theorem q422 : (Jvm.Cond.constant "BulbInAStaff$Bulb" (36 : Nat) (99999 : Int32)) ∈ lw_all := lw_g (lw_at lw_m2 67 rfl) rfl
theorem q1070 : (Jvm.Cond.instanceMethod ({ cls := "BulbInAStaff$Bulb", name := "like", desc := "(LBulbInAStaff$Bulb;)LBulbInAStaff$Bulb;" } : Jvm.MethodName)) ∈ lw_all := lw_g (lw_at lw_m4 235 rfl) rfl
theorem q1071 : (Jvm.Cond.selects "BulbInAStaff$Bulb" ({ cls := "BulbInAStaff$Bulb", name := "like", desc := "(LBulbInAStaff$Bulb;)LBulbInAStaff$Bulb;" } : Jvm.MethodName) ({ cls := "BulbInAStaff$Bulb", name := "like", desc := "(LBulbInAStaff$Bulb;)LBulbInAStaff$Bulb;" } : Jvm.MethodName)) ∈ lw_all := lw_g (lw_at lw_m4 236 rfl) rfl
theorem q1072 : (Jvm.Cond.sameMethod "BulbInAStaff$Bulb" "BulbInAStaff$Bulb" "like" "(LBulbInAStaff$Bulb;)LBulbInAStaff$Bulb;") ∈ lw_all := lw_g (lw_at lw_m4 237 rfl) rfl
theorem q1078 : (Jvm.Cond.code ({ cls := "BulbInAStaff$Bulb", name := "like", desc := "(LBulbInAStaff$Bulb;)LBulbInAStaff$Bulb;" } : Jvm.MethodName) prog_3_method_9_code (2 : Nat) (Option.some (Jvm.ClassFile.FieldType.object "BulbInAStaff$Bulb"))) ∈ lw_all := lw_g (lw_at lw_m5 3 rfl) rfl
theorem in_X9 : ∀ w ∈ wsX90, w ∈ lw_all := lw_in wsX90 [236, 237, 238] (by decide +kernel) (by decide +kernel)
theorem q135 : (Jvm.Cond.initialized "BulbInAStaff$Twin") ∈ lw_all := lw_g (lw_at lw_m1 20 rfl) rfl
theorem q163 : (Jvm.Cond.instantiable "BulbInAStaff$Twin" (3 : Nat)) ∈ lw_all := lw_g (lw_at lw_m1 48 rfl) rfl
theorem q165 : (Jvm.Cond.instanceMethod ({ cls := "BulbInAStaff$Twin", name := "<init>", desc := "(II)V" } : Jvm.MethodName)) ∈ lw_all := lw_g (lw_at lw_m1 50 rfl) rfl
theorem q166 : (Jvm.Cond.code ({ cls := "BulbInAStaff$Twin", name := "<init>", desc := "(II)V" } : Jvm.MethodName) prog_12_method_1_code (3 : Nat) (Option.none : Option Jvm.ClassFile.FieldType)) ∈ lw_all := lw_g (lw_at lw_m1 51 rfl) rfl
theorem q167 : (Jvm.Cond.methodLink "BulbInAStaff$Twin" (1 : Nat) ({ cls := "BulbInAStaff$Bulb", name := "<init>", desc := "(II)V" } : Jvm.MethodName)) ∈ lw_all := lw_g (lw_at lw_m1 52 rfl) rfl
theorem q175 : (Jvm.Cond.fieldLink "BulbInAStaff$Twin" (15 : Nat) "BulbInAStaff$Twin" "number" "I") ∈ lw_all := lw_g (lw_at lw_m1 60 rfl) rfl
theorem q176 : (Jvm.Cond.sameField "BulbInAStaff$Twin" "BulbInAStaff$Bulb" "number" "I") ∈ lw_all := lw_g (lw_at lw_m1 61 rfl) rfl
theorem q186 : (Jvm.Cond.lays "BulbInAStaff$Twin" "BulbInAStaff$Bulb" "number" "I") ∈ lw_all := lw_g (lw_at lw_m1 71 rfl) rfl
theorem q188 : (Jvm.Cond.lays "BulbInAStaff$Twin" "BulbInAStaff$Bulb" "garden" "I") ∈ lw_all := lw_g (lw_at lw_m1 73 rfl) rfl
theorem q190 : (Jvm.Cond.lays "BulbInAStaff$Twin" "BulbInAStaff$Bulb" "many" "I") ∈ lw_all := lw_g (lw_at lw_m1 75 rfl) rfl
theorem q192 : (Jvm.Cond.superclass "BulbInAStaff$Twin" "BulbInAStaff$Bulb") ∈ lw_all := lw_g (lw_at lw_m1 77 rfl) rfl
theorem q284 : (Jvm.Cond.instanceMethod ({ cls := "BulbInAStaff$Twin", name := "kind", desc := "()I" } : Jvm.MethodName)) ∈ lw_all := lw_g (lw_at lw_m1 169 rfl) rfl
theorem q285 : (Jvm.Cond.code ({ cls := "BulbInAStaff$Twin", name := "kind", desc := "()I" } : Jvm.MethodName) prog_12_method_2_code (1 : Nat) (Option.some Jvm.ClassFile.FieldType.int)) ∈ lw_all := lw_g (lw_at lw_m1 170 rfl) rfl
theorem q286 : (Jvm.Cond.methodLink "BulbInAStaff$Twin" (7 : Nat) ({ cls := "BulbInAStaff$Bulb", name := "kind", desc := "()I" } : Jvm.MethodName)) ∈ lw_all := lw_g (lw_at lw_m1 171 rfl) rfl
theorem q287 : (Jvm.Cond.selects "BulbInAStaff$Twin" ({ cls := "BulbInAStaff$Bulb", name := "kind", desc := "()I" } : Jvm.MethodName) ({ cls := "BulbInAStaff$Twin", name := "kind", desc := "()I" } : Jvm.MethodName)) ∈ lw_all := lw_g (lw_at lw_m1 172 rfl) rfl
theorem q331 : (Jvm.Cond.selects "BulbInAStaff$Twin" ({ cls := "BulbInAStaff$Bulb", name := "heldRots", desc := "(II)I" } : Jvm.MethodName) ({ cls := "BulbInAStaff$Bulb", name := "heldRots", desc := "(II)I" } : Jvm.MethodName)) ∈ lw_all := lw_g (lw_at lw_m1 216 rfl) rfl
theorem q351 : (Jvm.Cond.instanceMethod ({ cls := "BulbInAStaff$Twin", name := "rots", desc := "(II)I" } : Jvm.MethodName)) ∈ lw_all := lw_g (lw_at lw_m1 236 rfl) rfl
theorem q352 : (Jvm.Cond.code ({ cls := "BulbInAStaff$Twin", name := "rots", desc := "(II)I" } : Jvm.MethodName) prog_12_method_4_code (3 : Nat) (Option.some Jvm.ClassFile.FieldType.int)) ∈ lw_all := lw_g (lw_at lw_m1 237 rfl) rfl
theorem q353 : (Jvm.Cond.methodLink "BulbInAStaff$Twin" (21 : Nat) ({ cls := "BulbInAStaff$Bulb", name := "rots", desc := "(II)I" } : Jvm.MethodName)) ∈ lw_all := lw_g (lw_at lw_m1 238 rfl) rfl
theorem q354 : (Jvm.Cond.selects "BulbInAStaff$Twin" ({ cls := "BulbInAStaff$Bulb", name := "rots", desc := "(II)I" } : Jvm.MethodName) ({ cls := "BulbInAStaff$Twin", name := "rots", desc := "(II)I" } : Jvm.MethodName)) ∈ lw_all := lw_g (lw_at lw_m1 239 rfl) rfl
theorem q365 : (Jvm.Cond.selects "BulbInAStaff$Twin" ({ cls := "BulbInAStaff$Bulb", name := "heldGrows", desc := "(III)I" } : Jvm.MethodName) ({ cls := "BulbInAStaff$Bulb", name := "heldGrows", desc := "(III)I" } : Jvm.MethodName)) ∈ lw_all := lw_g (lw_at lw_m2 10 rfl) rfl
theorem q385 : (Jvm.Cond.instanceMethod ({ cls := "BulbInAStaff$Twin", name := "grows", desc := "(III)I" } : Jvm.MethodName)) ∈ lw_all := lw_g (lw_at lw_m2 30 rfl) rfl
theorem q386 : (Jvm.Cond.code ({ cls := "BulbInAStaff$Twin", name := "grows", desc := "(III)I" } : Jvm.MethodName) prog_12_method_3_code (4 : Nat) (Option.some Jvm.ClassFile.FieldType.int)) ∈ lw_all := lw_g (lw_at lw_m2 31 rfl) rfl
theorem q387 : (Jvm.Cond.methodLink "BulbInAStaff$Twin" (11 : Nat) ({ cls := "BulbInAStaff$Bulb", name := "grows", desc := "(III)I" } : Jvm.MethodName)) ∈ lw_all := lw_g (lw_at lw_m2 32 rfl) rfl
theorem q388 : (Jvm.Cond.selects "BulbInAStaff$Twin" ({ cls := "BulbInAStaff$Bulb", name := "grows", desc := "(III)I" } : Jvm.MethodName) ({ cls := "BulbInAStaff$Twin", name := "grows", desc := "(III)I" } : Jvm.MethodName)) ∈ lw_all := lw_g (lw_at lw_m2 33 rfl) rfl
theorem q398 : (Jvm.Cond.selects "BulbInAStaff$Twin" ({ cls := "BulbInAStaff$Bulb", name := "heldFlowers", desc := "()I" } : Jvm.MethodName) ({ cls := "BulbInAStaff$Bulb", name := "heldFlowers", desc := "()I" } : Jvm.MethodName)) ∈ lw_all := lw_g (lw_at lw_m2 43 rfl) rfl
theorem q413 : (Jvm.Cond.instanceMethod ({ cls := "BulbInAStaff$Twin", name := "flowers", desc := "(I)I" } : Jvm.MethodName)) ∈ lw_all := lw_g (lw_at lw_m2 58 rfl) rfl
theorem q414 : (Jvm.Cond.code ({ cls := "BulbInAStaff$Twin", name := "flowers", desc := "(I)I" } : Jvm.MethodName) prog_12_method_5_code (2 : Nat) (Option.some Jvm.ClassFile.FieldType.int)) ∈ lw_all := lw_g (lw_at lw_m2 59 rfl) rfl
theorem q415 : (Jvm.Cond.methodLink "BulbInAStaff$Twin" (25 : Nat) ({ cls := "BulbInAStaff$Bulb", name := "flowers", desc := "(I)I" } : Jvm.MethodName)) ∈ lw_all := lw_g (lw_at lw_m2 60 rfl) rfl
theorem q416 : (Jvm.Cond.selects "BulbInAStaff$Twin" ({ cls := "BulbInAStaff$Bulb", name := "flowers", desc := "(I)I" } : Jvm.MethodName) ({ cls := "BulbInAStaff$Twin", name := "flowers", desc := "(I)I" } : Jvm.MethodName)) ∈ lw_all := lw_g (lw_at lw_m2 61 rfl) rfl
theorem q1076 : (Jvm.Cond.selects "BulbInAStaff$Twin" ({ cls := "BulbInAStaff$Bulb", name := "like", desc := "(LBulbInAStaff$Bulb;)LBulbInAStaff$Bulb;" } : Jvm.MethodName) ({ cls := "BulbInAStaff$Bulb", name := "like", desc := "(LBulbInAStaff$Bulb;)LBulbInAStaff$Bulb;" } : Jvm.MethodName)) ∈ lw_all := lw_g (lw_at lw_m5 1 rfl) rfl
theorem q1814 : (Jvm.Cond.sameMethod "BulbInAStaff$Twin" "BulbInAStaff$Twin" "kind" "()I") ∈ lw_all := lw_g (lw_at lw_m8 19 rfl) rfl
theorem q1817 : (Jvm.Cond.sameMethod "BulbInAStaff$Twin" "BulbInAStaff$Twin" "grows" "(III)I") ∈ lw_all := lw_g (lw_at lw_m8 22 rfl) rfl
theorem q1818 : (Jvm.Cond.sameMethod "BulbInAStaff$Twin" "BulbInAStaff$Twin" "flowers" "(I)I") ∈ lw_all := lw_g (lw_at lw_m8 23 rfl) rfl
theorem q1827 : (Jvm.Cond.castable "BulbInAStaff$Twin" "BulbInAStaff$Bulb") ∈ lw_tbl := lw_at lw_m8 32 rfl
theorem in_X10 : ∀ w ∈ wsX100, w ∈ lw_all := lw_in wsX100 [186, 188, 190] (by decide +kernel) (by decide +kernel)
theorem q136 : (Jvm.Cond.initialized "BulbInAStaff$Wild") ∈ lw_all := lw_g (lw_at lw_m1 21 rfl) rfl
theorem q194 : (Jvm.Cond.instantiable "BulbInAStaff$Wild" (3 : Nat)) ∈ lw_all := lw_g (lw_at lw_m1 79 rfl) rfl
theorem q196 : (Jvm.Cond.instanceMethod ({ cls := "BulbInAStaff$Wild", name := "<init>", desc := "(II)V" } : Jvm.MethodName)) ∈ lw_all := lw_g (lw_at lw_m1 81 rfl) rfl
theorem q197 : (Jvm.Cond.code ({ cls := "BulbInAStaff$Wild", name := "<init>", desc := "(II)V" } : Jvm.MethodName) prog_14_method_1_code (3 : Nat) (Option.none : Option Jvm.ClassFile.FieldType)) ∈ lw_all := lw_g (lw_at lw_m1 82 rfl) rfl
theorem q198 : (Jvm.Cond.methodLink "BulbInAStaff$Wild" (1 : Nat) ({ cls := "BulbInAStaff$Bulb", name := "<init>", desc := "(II)V" } : Jvm.MethodName)) ∈ lw_all := lw_g (lw_at lw_m1 83 rfl) rfl
theorem q199 : (Jvm.Cond.lays "BulbInAStaff$Wild" "BulbInAStaff$Bulb" "number" "I") ∈ lw_all := lw_g (lw_at lw_m1 84 rfl) rfl
theorem q200 : (Jvm.Cond.lays "BulbInAStaff$Wild" "BulbInAStaff$Bulb" "garden" "I") ∈ lw_all := lw_g (lw_at lw_m1 85 rfl) rfl
theorem q201 : (Jvm.Cond.lays "BulbInAStaff$Wild" "BulbInAStaff$Bulb" "many" "I") ∈ lw_all := lw_g (lw_at lw_m1 86 rfl) rfl
theorem q202 : (Jvm.Cond.superclass "BulbInAStaff$Wild" "BulbInAStaff$Bulb") ∈ lw_all := lw_g (lw_at lw_m1 87 rfl) rfl
theorem q273 : (Jvm.Cond.instanceMethod ({ cls := "BulbInAStaff$Wild", name := "kind", desc := "()I" } : Jvm.MethodName)) ∈ lw_all := lw_g (lw_at lw_m1 158 rfl) rfl
theorem q274 : (Jvm.Cond.code ({ cls := "BulbInAStaff$Wild", name := "kind", desc := "()I" } : Jvm.MethodName) prog_14_method_2_code (1 : Nat) (Option.some Jvm.ClassFile.FieldType.int)) ∈ lw_all := lw_g (lw_at lw_m1 159 rfl) rfl
theorem q275 : (Jvm.Cond.methodLink "BulbInAStaff$Wild" (7 : Nat) ({ cls := "BulbInAStaff$Bulb", name := "kind", desc := "()I" } : Jvm.MethodName)) ∈ lw_all := lw_g (lw_at lw_m1 160 rfl) rfl
theorem q288 : (Jvm.Cond.selects "BulbInAStaff$Wild" ({ cls := "BulbInAStaff$Bulb", name := "kind", desc := "()I" } : Jvm.MethodName) ({ cls := "BulbInAStaff$Wild", name := "kind", desc := "()I" } : Jvm.MethodName)) ∈ lw_all := lw_g (lw_at lw_m1 173 rfl) rfl
theorem q332 : (Jvm.Cond.selects "BulbInAStaff$Wild" ({ cls := "BulbInAStaff$Bulb", name := "heldRots", desc := "(II)I" } : Jvm.MethodName) ({ cls := "BulbInAStaff$Bulb", name := "heldRots", desc := "(II)I" } : Jvm.MethodName)) ∈ lw_all := lw_g (lw_at lw_m1 217 rfl) rfl
theorem q342 : (Jvm.Cond.instanceMethod ({ cls := "BulbInAStaff$Wild", name := "rots", desc := "(II)I" } : Jvm.MethodName)) ∈ lw_all := lw_g (lw_at lw_m1 227 rfl) rfl
theorem q343 : (Jvm.Cond.code ({ cls := "BulbInAStaff$Wild", name := "rots", desc := "(II)I" } : Jvm.MethodName) prog_14_method_4_code (3 : Nat) (Option.some Jvm.ClassFile.FieldType.int)) ∈ lw_all := lw_g (lw_at lw_m1 228 rfl) rfl
theorem q344 : (Jvm.Cond.methodLink "BulbInAStaff$Wild" (11 : Nat) ({ cls := "BulbInAStaff$Bulb", name := "rots", desc := "(II)I" } : Jvm.MethodName)) ∈ lw_all := lw_g (lw_at lw_m1 229 rfl) rfl
theorem q355 : (Jvm.Cond.selects "BulbInAStaff$Wild" ({ cls := "BulbInAStaff$Bulb", name := "rots", desc := "(II)I" } : Jvm.MethodName) ({ cls := "BulbInAStaff$Wild", name := "rots", desc := "(II)I" } : Jvm.MethodName)) ∈ lw_all := lw_g (lw_at lw_m2 0 rfl) rfl
theorem q366 : (Jvm.Cond.selects "BulbInAStaff$Wild" ({ cls := "BulbInAStaff$Bulb", name := "heldGrows", desc := "(III)I" } : Jvm.MethodName) ({ cls := "BulbInAStaff$Bulb", name := "heldGrows", desc := "(III)I" } : Jvm.MethodName)) ∈ lw_all := lw_g (lw_at lw_m2 11 rfl) rfl
theorem q376 : (Jvm.Cond.instanceMethod ({ cls := "BulbInAStaff$Wild", name := "grows", desc := "(III)I" } : Jvm.MethodName)) ∈ lw_all := lw_g (lw_at lw_m2 21 rfl) rfl
theorem q377 : (Jvm.Cond.code ({ cls := "BulbInAStaff$Wild", name := "grows", desc := "(III)I" } : Jvm.MethodName) prog_14_method_3_code (4 : Nat) (Option.some Jvm.ClassFile.FieldType.int)) ∈ lw_all := lw_g (lw_at lw_m2 22 rfl) rfl
theorem q389 : (Jvm.Cond.selects "BulbInAStaff$Wild" ({ cls := "BulbInAStaff$Bulb", name := "grows", desc := "(III)I" } : Jvm.MethodName) ({ cls := "BulbInAStaff$Wild", name := "grows", desc := "(III)I" } : Jvm.MethodName)) ∈ lw_all := lw_g (lw_at lw_m2 34 rfl) rfl
theorem q399 : (Jvm.Cond.selects "BulbInAStaff$Wild" ({ cls := "BulbInAStaff$Bulb", name := "heldFlowers", desc := "()I" } : Jvm.MethodName) ({ cls := "BulbInAStaff$Bulb", name := "heldFlowers", desc := "()I" } : Jvm.MethodName)) ∈ lw_all := lw_g (lw_at lw_m2 44 rfl) rfl
theorem q417 : (Jvm.Cond.selects "BulbInAStaff$Wild" ({ cls := "BulbInAStaff$Bulb", name := "flowers", desc := "(I)I" } : Jvm.MethodName) ({ cls := "BulbInAStaff$Wild", name := "flowers", desc := "(I)I" } : Jvm.MethodName)) ∈ lw_all := lw_g (lw_at lw_m2 62 rfl) rfl
theorem q418 : (Jvm.Cond.instanceMethod ({ cls := "BulbInAStaff$Wild", name := "flowers", desc := "(I)I" } : Jvm.MethodName)) ∈ lw_all := lw_g (lw_at lw_m2 63 rfl) rfl
theorem q419 : (Jvm.Cond.code ({ cls := "BulbInAStaff$Wild", name := "flowers", desc := "(I)I" } : Jvm.MethodName) prog_14_method_5_code (2 : Nat) (Option.some Jvm.ClassFile.FieldType.int)) ∈ lw_all := lw_g (lw_at lw_m2 64 rfl) rfl
theorem q420 : (Jvm.Cond.methodLink "BulbInAStaff$Wild" (15 : Nat) ({ cls := "BulbInAStaff$Bulb", name := "flowers", desc := "(I)I" } : Jvm.MethodName)) ∈ lw_all := lw_g (lw_at lw_m2 65 rfl) rfl
theorem q1077 : (Jvm.Cond.selects "BulbInAStaff$Wild" ({ cls := "BulbInAStaff$Bulb", name := "like", desc := "(LBulbInAStaff$Bulb;)LBulbInAStaff$Bulb;" } : Jvm.MethodName) ({ cls := "BulbInAStaff$Bulb", name := "like", desc := "(LBulbInAStaff$Bulb;)LBulbInAStaff$Bulb;" } : Jvm.MethodName)) ∈ lw_all := lw_g (lw_at lw_m5 2 rfl) rfl
theorem q1813 : (Jvm.Cond.sameMethod "BulbInAStaff$Wild" "BulbInAStaff$Wild" "kind" "()I") ∈ lw_all := lw_g (lw_at lw_m8 18 rfl) rfl
theorem q1815 : (Jvm.Cond.sameMethod "BulbInAStaff$Wild" "BulbInAStaff$Wild" "rots" "(II)I") ∈ lw_all := lw_g (lw_at lw_m8 20 rfl) rfl
theorem q1816 : (Jvm.Cond.sameMethod "BulbInAStaff$Wild" "BulbInAStaff$Wild" "grows" "(III)I") ∈ lw_all := lw_g (lw_at lw_m8 21 rfl) rfl
theorem q1828 : (Jvm.Cond.castable "BulbInAStaff$Wild" "BulbInAStaff$Bulb") ∈ lw_tbl := lw_at lw_m8 33 rfl
theorem in_X11 : ∀ w ∈ wsX110, w ∈ lw_all := lw_in wsX110 [199, 200, 201] (by decide +kernel) (by decide +kernel)
theorem q137 : (Jvm.Cond.initialized "BulbInAStaff$Triple") ∈ lw_all := lw_g (lw_at lw_m1 22 rfl) rfl
theorem q177 : (Jvm.Cond.fieldLink "BulbInAStaff$Triple" (19 : Nat) "BulbInAStaff$Triple" "number" "I") ∈ lw_all := lw_g (lw_at lw_m1 62 rfl) rfl
theorem q178 : (Jvm.Cond.sameField "BulbInAStaff$Triple" "BulbInAStaff$Bulb" "number" "I") ∈ lw_all := lw_g (lw_at lw_m1 63 rfl) rfl
theorem q204 : (Jvm.Cond.instantiable "BulbInAStaff$Triple" (3 : Nat)) ∈ lw_all := lw_g (lw_at lw_m1 89 rfl) rfl
theorem q206 : (Jvm.Cond.instanceMethod ({ cls := "BulbInAStaff$Triple", name := "<init>", desc := "(II)V" } : Jvm.MethodName)) ∈ lw_all := lw_g (lw_at lw_m1 91 rfl) rfl
theorem q207 : (Jvm.Cond.code ({ cls := "BulbInAStaff$Triple", name := "<init>", desc := "(II)V" } : Jvm.MethodName) prog_10_method_1_code (3 : Nat) (Option.none : Option Jvm.ClassFile.FieldType)) ∈ lw_all := lw_g (lw_at lw_m1 92 rfl) rfl
theorem q208 : (Jvm.Cond.methodLink "BulbInAStaff$Triple" (1 : Nat) ({ cls := "BulbInAStaff$Twin", name := "<init>", desc := "(II)V" } : Jvm.MethodName)) ∈ lw_all := lw_g (lw_at lw_m1 93 rfl) rfl
theorem q209 : (Jvm.Cond.lays "BulbInAStaff$Triple" "BulbInAStaff$Bulb" "number" "I") ∈ lw_all := lw_g (lw_at lw_m1 94 rfl) rfl
theorem q210 : (Jvm.Cond.lays "BulbInAStaff$Triple" "BulbInAStaff$Bulb" "garden" "I") ∈ lw_all := lw_g (lw_at lw_m1 95 rfl) rfl
theorem q211 : (Jvm.Cond.lays "BulbInAStaff$Triple" "BulbInAStaff$Bulb" "many" "I") ∈ lw_all := lw_g (lw_at lw_m1 96 rfl) rfl
theorem q212 : (Jvm.Cond.superclass "BulbInAStaff$Triple" "BulbInAStaff$Twin") ∈ lw_all := lw_g (lw_at lw_m1 97 rfl) rfl
theorem q280 : (Jvm.Cond.selects "BulbInAStaff$Triple" ({ cls := "BulbInAStaff$Bulb", name := "kind", desc := "()I" } : Jvm.MethodName) ({ cls := "BulbInAStaff$Triple", name := "kind", desc := "()I" } : Jvm.MethodName)) ∈ lw_all := lw_g (lw_at lw_m1 165 rfl) rfl
theorem q281 : (Jvm.Cond.instanceMethod ({ cls := "BulbInAStaff$Triple", name := "kind", desc := "()I" } : Jvm.MethodName)) ∈ lw_all := lw_g (lw_at lw_m1 166 rfl) rfl
theorem q282 : (Jvm.Cond.code ({ cls := "BulbInAStaff$Triple", name := "kind", desc := "()I" } : Jvm.MethodName) prog_10_method_2_code (1 : Nat) (Option.some Jvm.ClassFile.FieldType.int)) ∈ lw_all := lw_g (lw_at lw_m1 167 rfl) rfl
theorem q283 : (Jvm.Cond.methodLink "BulbInAStaff$Triple" (7 : Nat) ({ cls := "BulbInAStaff$Twin", name := "kind", desc := "()I" } : Jvm.MethodName)) ∈ lw_all := lw_g (lw_at lw_m1 168 rfl) rfl
theorem q330 : (Jvm.Cond.selects "BulbInAStaff$Triple" ({ cls := "BulbInAStaff$Bulb", name := "heldRots", desc := "(II)I" } : Jvm.MethodName) ({ cls := "BulbInAStaff$Bulb", name := "heldRots", desc := "(II)I" } : Jvm.MethodName)) ∈ lw_all := lw_g (lw_at lw_m1 215 rfl) rfl
theorem q350 : (Jvm.Cond.selects "BulbInAStaff$Triple" ({ cls := "BulbInAStaff$Bulb", name := "rots", desc := "(II)I" } : Jvm.MethodName) ({ cls := "BulbInAStaff$Twin", name := "rots", desc := "(II)I" } : Jvm.MethodName)) ∈ lw_all := lw_g (lw_at lw_m1 235 rfl) rfl
theorem q364 : (Jvm.Cond.selects "BulbInAStaff$Triple" ({ cls := "BulbInAStaff$Bulb", name := "heldGrows", desc := "(III)I" } : Jvm.MethodName) ({ cls := "BulbInAStaff$Bulb", name := "heldGrows", desc := "(III)I" } : Jvm.MethodName)) ∈ lw_all := lw_g (lw_at lw_m2 9 rfl) rfl
theorem q381 : (Jvm.Cond.selects "BulbInAStaff$Triple" ({ cls := "BulbInAStaff$Bulb", name := "grows", desc := "(III)I" } : Jvm.MethodName) ({ cls := "BulbInAStaff$Triple", name := "grows", desc := "(III)I" } : Jvm.MethodName)) ∈ lw_all := lw_g (lw_at lw_m2 26 rfl) rfl
theorem q382 : (Jvm.Cond.instanceMethod ({ cls := "BulbInAStaff$Triple", name := "grows", desc := "(III)I" } : Jvm.MethodName)) ∈ lw_all := lw_g (lw_at lw_m2 27 rfl) rfl
theorem q383 : (Jvm.Cond.code ({ cls := "BulbInAStaff$Triple", name := "grows", desc := "(III)I" } : Jvm.MethodName) prog_10_method_3_code (4 : Nat) (Option.some Jvm.ClassFile.FieldType.int)) ∈ lw_all := lw_g (lw_at lw_m2 28 rfl) rfl
theorem q384 : (Jvm.Cond.methodLink "BulbInAStaff$Triple" (11 : Nat) ({ cls := "BulbInAStaff$Twin", name := "grows", desc := "(III)I" } : Jvm.MethodName)) ∈ lw_all := lw_g (lw_at lw_m2 29 rfl) rfl
theorem q397 : (Jvm.Cond.selects "BulbInAStaff$Triple" ({ cls := "BulbInAStaff$Bulb", name := "heldFlowers", desc := "()I" } : Jvm.MethodName) ({ cls := "BulbInAStaff$Bulb", name := "heldFlowers", desc := "()I" } : Jvm.MethodName)) ∈ lw_all := lw_g (lw_at lw_m2 42 rfl) rfl
theorem q409 : (Jvm.Cond.selects "BulbInAStaff$Triple" ({ cls := "BulbInAStaff$Bulb", name := "flowers", desc := "(I)I" } : Jvm.MethodName) ({ cls := "BulbInAStaff$Triple", name := "flowers", desc := "(I)I" } : Jvm.MethodName)) ∈ lw_all := lw_g (lw_at lw_m2 54 rfl) rfl
theorem q410 : (Jvm.Cond.instanceMethod ({ cls := "BulbInAStaff$Triple", name := "flowers", desc := "(I)I" } : Jvm.MethodName)) ∈ lw_all := lw_g (lw_at lw_m2 55 rfl) rfl
theorem q411 : (Jvm.Cond.code ({ cls := "BulbInAStaff$Triple", name := "flowers", desc := "(I)I" } : Jvm.MethodName) prog_10_method_4_code (2 : Nat) (Option.some Jvm.ClassFile.FieldType.int)) ∈ lw_all := lw_g (lw_at lw_m2 56 rfl) rfl
theorem q412 : (Jvm.Cond.methodLink "BulbInAStaff$Triple" (15 : Nat) ({ cls := "BulbInAStaff$Twin", name := "flowers", desc := "(I)I" } : Jvm.MethodName)) ∈ lw_all := lw_g (lw_at lw_m2 57 rfl) rfl
theorem q1075 : (Jvm.Cond.selects "BulbInAStaff$Triple" ({ cls := "BulbInAStaff$Bulb", name := "like", desc := "(LBulbInAStaff$Bulb;)LBulbInAStaff$Bulb;" } : Jvm.MethodName) ({ cls := "BulbInAStaff$Bulb", name := "like", desc := "(LBulbInAStaff$Bulb;)LBulbInAStaff$Bulb;" } : Jvm.MethodName)) ∈ lw_all := lw_g (lw_at lw_m5 0 rfl) rfl
theorem q1821 : (Jvm.Cond.castable "BulbInAStaff$Triple" "BulbInAStaff$Twin") ∈ lw_tbl := lw_at lw_m8 26 rfl
theorem q1829 : (Jvm.Cond.castable "BulbInAStaff$Triple" "BulbInAStaff$Bulb") ∈ lw_tbl := lw_at lw_m8 34 rfl
theorem in_X12 : ∀ w ∈ wsX120, w ∈ lw_all := lw_in wsX120 [209, 210, 211] (by decide +kernel) (by decide +kernel)
theorem q138 : (Jvm.Cond.initialized "BulbInAStaff$Barren") ∈ lw_all := lw_g (lw_at lw_m1 23 rfl) rfl
theorem q214 : (Jvm.Cond.instantiable "BulbInAStaff$Barren" (3 : Nat)) ∈ lw_all := lw_g (lw_at lw_m1 99 rfl) rfl
theorem q216 : (Jvm.Cond.instanceMethod ({ cls := "BulbInAStaff$Barren", name := "<init>", desc := "(II)V" } : Jvm.MethodName)) ∈ lw_all := lw_g (lw_at lw_m1 101 rfl) rfl
theorem q217 : (Jvm.Cond.code ({ cls := "BulbInAStaff$Barren", name := "<init>", desc := "(II)V" } : Jvm.MethodName) prog_2_method_1_code (3 : Nat) (Option.none : Option Jvm.ClassFile.FieldType)) ∈ lw_all := lw_g (lw_at lw_m1 102 rfl) rfl
theorem q218 : (Jvm.Cond.methodLink "BulbInAStaff$Barren" (1 : Nat) ({ cls := "BulbInAStaff$Wild", name := "<init>", desc := "(II)V" } : Jvm.MethodName)) ∈ lw_all := lw_g (lw_at lw_m1 103 rfl) rfl
theorem q219 : (Jvm.Cond.lays "BulbInAStaff$Barren" "BulbInAStaff$Bulb" "number" "I") ∈ lw_all := lw_g (lw_at lw_m1 104 rfl) rfl
theorem q220 : (Jvm.Cond.lays "BulbInAStaff$Barren" "BulbInAStaff$Bulb" "garden" "I") ∈ lw_all := lw_g (lw_at lw_m1 105 rfl) rfl
theorem q221 : (Jvm.Cond.lays "BulbInAStaff$Barren" "BulbInAStaff$Bulb" "many" "I") ∈ lw_all := lw_g (lw_at lw_m1 106 rfl) rfl
theorem q222 : (Jvm.Cond.superclass "BulbInAStaff$Barren" "BulbInAStaff$Wild") ∈ lw_all := lw_g (lw_at lw_m1 107 rfl) rfl
theorem q269 : (Jvm.Cond.selects "BulbInAStaff$Barren" ({ cls := "BulbInAStaff$Bulb", name := "kind", desc := "()I" } : Jvm.MethodName) ({ cls := "BulbInAStaff$Barren", name := "kind", desc := "()I" } : Jvm.MethodName)) ∈ lw_all := lw_g (lw_at lw_m1 154 rfl) rfl
theorem q270 : (Jvm.Cond.instanceMethod ({ cls := "BulbInAStaff$Barren", name := "kind", desc := "()I" } : Jvm.MethodName)) ∈ lw_all := lw_g (lw_at lw_m1 155 rfl) rfl
theorem q271 : (Jvm.Cond.code ({ cls := "BulbInAStaff$Barren", name := "kind", desc := "()I" } : Jvm.MethodName) prog_2_method_2_code (1 : Nat) (Option.some Jvm.ClassFile.FieldType.int)) ∈ lw_all := lw_g (lw_at lw_m1 156 rfl) rfl
theorem q272 : (Jvm.Cond.methodLink "BulbInAStaff$Barren" (7 : Nat) ({ cls := "BulbInAStaff$Wild", name := "kind", desc := "()I" } : Jvm.MethodName)) ∈ lw_all := lw_g (lw_at lw_m1 157 rfl) rfl
theorem q328 : (Jvm.Cond.selects "BulbInAStaff$Barren" ({ cls := "BulbInAStaff$Bulb", name := "heldRots", desc := "(II)I" } : Jvm.MethodName) ({ cls := "BulbInAStaff$Bulb", name := "heldRots", desc := "(II)I" } : Jvm.MethodName)) ∈ lw_all := lw_g (lw_at lw_m1 213 rfl) rfl
theorem q338 : (Jvm.Cond.selects "BulbInAStaff$Barren" ({ cls := "BulbInAStaff$Bulb", name := "rots", desc := "(II)I" } : Jvm.MethodName) ({ cls := "BulbInAStaff$Barren", name := "rots", desc := "(II)I" } : Jvm.MethodName)) ∈ lw_all := lw_g (lw_at lw_m1 223 rfl) rfl
theorem q339 : (Jvm.Cond.instanceMethod ({ cls := "BulbInAStaff$Barren", name := "rots", desc := "(II)I" } : Jvm.MethodName)) ∈ lw_all := lw_g (lw_at lw_m1 224 rfl) rfl
theorem q340 : (Jvm.Cond.code ({ cls := "BulbInAStaff$Barren", name := "rots", desc := "(II)I" } : Jvm.MethodName) prog_2_method_4_code (3 : Nat) (Option.some Jvm.ClassFile.FieldType.int)) ∈ lw_all := lw_g (lw_at lw_m1 225 rfl) rfl
theorem q341 : (Jvm.Cond.methodLink "BulbInAStaff$Barren" (15 : Nat) ({ cls := "BulbInAStaff$Wild", name := "rots", desc := "(II)I" } : Jvm.MethodName)) ∈ lw_all := lw_g (lw_at lw_m1 226 rfl) rfl
theorem q362 : (Jvm.Cond.selects "BulbInAStaff$Barren" ({ cls := "BulbInAStaff$Bulb", name := "heldGrows", desc := "(III)I" } : Jvm.MethodName) ({ cls := "BulbInAStaff$Bulb", name := "heldGrows", desc := "(III)I" } : Jvm.MethodName)) ∈ lw_all := lw_g (lw_at lw_m2 7 rfl) rfl
theorem q372 : (Jvm.Cond.selects "BulbInAStaff$Barren" ({ cls := "BulbInAStaff$Bulb", name := "grows", desc := "(III)I" } : Jvm.MethodName) ({ cls := "BulbInAStaff$Barren", name := "grows", desc := "(III)I" } : Jvm.MethodName)) ∈ lw_all := lw_g (lw_at lw_m2 17 rfl) rfl
theorem q373 : (Jvm.Cond.instanceMethod ({ cls := "BulbInAStaff$Barren", name := "grows", desc := "(III)I" } : Jvm.MethodName)) ∈ lw_all := lw_g (lw_at lw_m2 18 rfl) rfl
theorem q374 : (Jvm.Cond.code ({ cls := "BulbInAStaff$Barren", name := "grows", desc := "(III)I" } : Jvm.MethodName) prog_2_method_3_code (4 : Nat) (Option.some Jvm.ClassFile.FieldType.int)) ∈ lw_all := lw_g (lw_at lw_m2 19 rfl) rfl
theorem q375 : (Jvm.Cond.methodLink "BulbInAStaff$Barren" (11 : Nat) ({ cls := "BulbInAStaff$Wild", name := "grows", desc := "(III)I" } : Jvm.MethodName)) ∈ lw_all := lw_g (lw_at lw_m2 20 rfl) rfl
theorem q395 : (Jvm.Cond.selects "BulbInAStaff$Barren" ({ cls := "BulbInAStaff$Bulb", name := "heldFlowers", desc := "()I" } : Jvm.MethodName) ({ cls := "BulbInAStaff$Bulb", name := "heldFlowers", desc := "()I" } : Jvm.MethodName)) ∈ lw_all := lw_g (lw_at lw_m2 40 rfl) rfl
theorem q405 : (Jvm.Cond.selects "BulbInAStaff$Barren" ({ cls := "BulbInAStaff$Bulb", name := "flowers", desc := "(I)I" } : Jvm.MethodName) ({ cls := "BulbInAStaff$Barren", name := "flowers", desc := "(I)I" } : Jvm.MethodName)) ∈ lw_all := lw_g (lw_at lw_m2 50 rfl) rfl
theorem q406 : (Jvm.Cond.instanceMethod ({ cls := "BulbInAStaff$Barren", name := "flowers", desc := "(I)I" } : Jvm.MethodName)) ∈ lw_all := lw_g (lw_at lw_m2 51 rfl) rfl
theorem q407 : (Jvm.Cond.code ({ cls := "BulbInAStaff$Barren", name := "flowers", desc := "(I)I" } : Jvm.MethodName) prog_2_method_5_code (2 : Nat) (Option.some Jvm.ClassFile.FieldType.int)) ∈ lw_all := lw_g (lw_at lw_m2 52 rfl) rfl
theorem q1073 : (Jvm.Cond.selects "BulbInAStaff$Barren" ({ cls := "BulbInAStaff$Bulb", name := "like", desc := "(LBulbInAStaff$Bulb;)LBulbInAStaff$Bulb;" } : Jvm.MethodName) ({ cls := "BulbInAStaff$Bulb", name := "like", desc := "(LBulbInAStaff$Bulb;)LBulbInAStaff$Bulb;" } : Jvm.MethodName)) ∈ lw_all := lw_g (lw_at lw_m4 238 rfl) rfl
theorem q1822 : (Jvm.Cond.castable "BulbInAStaff$Barren" "BulbInAStaff$Wild") ∈ lw_tbl := lw_at lw_m8 27 rfl
theorem q1830 : (Jvm.Cond.castable "BulbInAStaff$Barren" "BulbInAStaff$Bulb") ∈ lw_tbl := lw_at lw_m8 35 rfl
theorem in_X13 : ∀ w ∈ wsX130, w ∈ lw_all := lw_in wsX130 [219, 220, 221] (by decide +kernel) (by decide +kernel)
theorem q139 : (Jvm.Cond.initialized "BulbInAStaff$Painted") ∈ lw_all := lw_g (lw_at lw_m1 24 rfl) rfl
theorem q224 : (Jvm.Cond.instantiable "BulbInAStaff$Painted" (3 : Nat)) ∈ lw_all := lw_g (lw_at lw_m1 109 rfl) rfl
theorem q226 : (Jvm.Cond.instanceMethod ({ cls := "BulbInAStaff$Painted", name := "<init>", desc := "(II)V" } : Jvm.MethodName)) ∈ lw_all := lw_g (lw_at lw_m1 111 rfl) rfl
theorem q227 : (Jvm.Cond.code ({ cls := "BulbInAStaff$Painted", name := "<init>", desc := "(II)V" } : Jvm.MethodName) prog_8_method_1_code (3 : Nat) (Option.none : Option Jvm.ClassFile.FieldType)) ∈ lw_all := lw_g (lw_at lw_m1 112 rfl) rfl
theorem q228 : (Jvm.Cond.methodLink "BulbInAStaff$Painted" (1 : Nat) ({ cls := "BulbInAStaff$Bulb", name := "<init>", desc := "(II)V" } : Jvm.MethodName)) ∈ lw_all := lw_g (lw_at lw_m1 113 rfl) rfl
theorem q229 : (Jvm.Cond.lays "BulbInAStaff$Painted" "BulbInAStaff$Bulb" "number" "I") ∈ lw_all := lw_g (lw_at lw_m1 114 rfl) rfl
theorem q230 : (Jvm.Cond.lays "BulbInAStaff$Painted" "BulbInAStaff$Bulb" "garden" "I") ∈ lw_all := lw_g (lw_at lw_m1 115 rfl) rfl
theorem q231 : (Jvm.Cond.lays "BulbInAStaff$Painted" "BulbInAStaff$Bulb" "many" "I") ∈ lw_all := lw_g (lw_at lw_m1 116 rfl) rfl
theorem q232 : (Jvm.Cond.superclass "BulbInAStaff$Painted" "BulbInAStaff$Bulb") ∈ lw_all := lw_g (lw_at lw_m1 117 rfl) rfl
theorem q276 : (Jvm.Cond.selects "BulbInAStaff$Painted" ({ cls := "BulbInAStaff$Bulb", name := "kind", desc := "()I" } : Jvm.MethodName) ({ cls := "BulbInAStaff$Painted", name := "kind", desc := "()I" } : Jvm.MethodName)) ∈ lw_all := lw_g (lw_at lw_m1 161 rfl) rfl
theorem q277 : (Jvm.Cond.instanceMethod ({ cls := "BulbInAStaff$Painted", name := "kind", desc := "()I" } : Jvm.MethodName)) ∈ lw_all := lw_g (lw_at lw_m1 162 rfl) rfl
theorem q278 : (Jvm.Cond.code ({ cls := "BulbInAStaff$Painted", name := "kind", desc := "()I" } : Jvm.MethodName) prog_8_method_2_code (1 : Nat) (Option.some Jvm.ClassFile.FieldType.int)) ∈ lw_all := lw_g (lw_at lw_m1 163 rfl) rfl
theorem q279 : (Jvm.Cond.methodLink "BulbInAStaff$Painted" (7 : Nat) ({ cls := "BulbInAStaff$Bulb", name := "kind", desc := "()I" } : Jvm.MethodName)) ∈ lw_all := lw_g (lw_at lw_m1 164 rfl) rfl
theorem q329 : (Jvm.Cond.selects "BulbInAStaff$Painted" ({ cls := "BulbInAStaff$Bulb", name := "heldRots", desc := "(II)I" } : Jvm.MethodName) ({ cls := "BulbInAStaff$Bulb", name := "heldRots", desc := "(II)I" } : Jvm.MethodName)) ∈ lw_all := lw_g (lw_at lw_m1 214 rfl) rfl
theorem q345 : (Jvm.Cond.selects "BulbInAStaff$Painted" ({ cls := "BulbInAStaff$Bulb", name := "rots", desc := "(II)I" } : Jvm.MethodName) ({ cls := "BulbInAStaff$Painted", name := "rots", desc := "(II)I" } : Jvm.MethodName)) ∈ lw_all := lw_g (lw_at lw_m1 230 rfl) rfl
theorem q346 : (Jvm.Cond.instanceMethod ({ cls := "BulbInAStaff$Painted", name := "rots", desc := "(II)I" } : Jvm.MethodName)) ∈ lw_all := lw_g (lw_at lw_m1 231 rfl) rfl
theorem q347 : (Jvm.Cond.code ({ cls := "BulbInAStaff$Painted", name := "rots", desc := "(II)I" } : Jvm.MethodName) prog_8_method_4_code (3 : Nat) (Option.some Jvm.ClassFile.FieldType.int)) ∈ lw_all := lw_g (lw_at lw_m1 232 rfl) rfl
theorem q348 : (Jvm.Cond.methodLink "BulbInAStaff$Painted" (11 : Nat) ({ cls := "BulbInAStaff$Bulb", name := "rots", desc := "(II)I" } : Jvm.MethodName)) ∈ lw_all := lw_g (lw_at lw_m1 233 rfl) rfl
theorem q349 : (Jvm.Cond.methodLink "BulbInAStaff$Painted" (15 : Nat) ({ cls := "java/lang/Math", name := "max", desc := "(II)I" } : Jvm.MethodName)) ∈ lw_all := lw_g (lw_at lw_m1 234 rfl) rfl
theorem q363 : (Jvm.Cond.selects "BulbInAStaff$Painted" ({ cls := "BulbInAStaff$Bulb", name := "heldGrows", desc := "(III)I" } : Jvm.MethodName) ({ cls := "BulbInAStaff$Bulb", name := "heldGrows", desc := "(III)I" } : Jvm.MethodName)) ∈ lw_all := lw_g (lw_at lw_m2 8 rfl) rfl
theorem q378 : (Jvm.Cond.selects "BulbInAStaff$Painted" ({ cls := "BulbInAStaff$Bulb", name := "grows", desc := "(III)I" } : Jvm.MethodName) ({ cls := "BulbInAStaff$Painted", name := "grows", desc := "(III)I" } : Jvm.MethodName)) ∈ lw_all := lw_g (lw_at lw_m2 23 rfl) rfl
theorem q379 : (Jvm.Cond.instanceMethod ({ cls := "BulbInAStaff$Painted", name := "grows", desc := "(III)I" } : Jvm.MethodName)) ∈ lw_all := lw_g (lw_at lw_m2 24 rfl) rfl
theorem q380 : (Jvm.Cond.code ({ cls := "BulbInAStaff$Painted", name := "grows", desc := "(III)I" } : Jvm.MethodName) prog_8_method_3_code (4 : Nat) (Option.some Jvm.ClassFile.FieldType.int)) ∈ lw_all := lw_g (lw_at lw_m2 25 rfl) rfl
theorem q396 : (Jvm.Cond.selects "BulbInAStaff$Painted" ({ cls := "BulbInAStaff$Bulb", name := "heldFlowers", desc := "()I" } : Jvm.MethodName) ({ cls := "BulbInAStaff$Bulb", name := "heldFlowers", desc := "()I" } : Jvm.MethodName)) ∈ lw_all := lw_g (lw_at lw_m2 41 rfl) rfl
theorem q408 : (Jvm.Cond.selects "BulbInAStaff$Painted" ({ cls := "BulbInAStaff$Bulb", name := "flowers", desc := "(I)I" } : Jvm.MethodName) ({ cls := "BulbInAStaff$Bulb", name := "flowers", desc := "(I)I" } : Jvm.MethodName)) ∈ lw_all := lw_g (lw_at lw_m2 53 rfl) rfl
theorem q1074 : (Jvm.Cond.selects "BulbInAStaff$Painted" ({ cls := "BulbInAStaff$Bulb", name := "like", desc := "(LBulbInAStaff$Bulb;)LBulbInAStaff$Bulb;" } : Jvm.MethodName) ({ cls := "BulbInAStaff$Bulb", name := "like", desc := "(LBulbInAStaff$Bulb;)LBulbInAStaff$Bulb;" } : Jvm.MethodName)) ∈ lw_all := lw_g (lw_at lw_m4 239 rfl) rfl
theorem q1831 : (Jvm.Cond.castable "BulbInAStaff$Painted" "BulbInAStaff$Bulb") ∈ lw_tbl := lw_at lw_m8 36 rfl
theorem in_X14 : ∀ w ∈ wsX140, w ∈ lw_all := lw_in wsX140 [229, 230, 231] (by decide +kernel) (by decide +kernel)
theorem q117 : (Jvm.Cond.initialized "java/lang/Throwable") ∈ lw_all := lw_g (lw_at lw_m1 2 rfl) rfl
theorem q686 : (Jvm.Cond.declares ({ cls := "java/lang/Throwable", name := "<init>", desc := "()V" } : Jvm.MethodName)) ∈ lw_tbl := lw_at lw_m3 91 rfl
theorem q687 : (Jvm.Cond.declares ({ cls := "java/lang/Throwable", name := "<init>", desc := "(Ljava/lang/String;)V" } : Jvm.MethodName)) ∈ lw_tbl := lw_at lw_m3 92 rfl
theorem q691 : (Jvm.Cond.lays "java/lang/Throwable" "java/lang/Throwable" "cause" "Ljava/lang/Throwable;") ∈ lw_all := lw_g (lw_at lw_m3 96 rfl) rfl
theorem q693 : (Jvm.Cond.lays "java/lang/Throwable" "java/lang/Throwable" "stackTrace" "[Ljava/lang/StackTraceElement;") ∈ lw_all := lw_g (lw_at lw_m3 98 rfl) rfl
theorem q695 : (Jvm.Cond.lays "java/lang/Throwable" "java/lang/Throwable" "suppressedExceptions" "Ljava/util/List;") ∈ lw_all := lw_g (lw_at lw_m3 100 rfl) rfl
theorem q697 : (Jvm.Cond.lays "java/lang/Throwable" "java/lang/Throwable" "detailMessage" "Ljava/lang/String;") ∈ lw_all := lw_g (lw_at lw_m3 102 rfl) rfl
theorem q699 : (Jvm.Cond.lays "java/lang/Throwable" "java/lang/Throwable" "backtrace" "Ljava/lang/Object;") ∈ lw_all := lw_g (lw_at lw_m3 104 rfl) rfl
theorem q700 : (Jvm.Cond.fieldLink "java/lang/Throwable" (198 : Nat) "java/lang/Throwable" "backtrace" "Ljava/lang/Object;") ∈ lw_all := lw_g (lw_at lw_m3 105 rfl) rfl
theorem q701 : (Jvm.Cond.superclass "java/lang/Throwable" "java/lang/Object") ∈ lw_all := lw_g (lw_at lw_m3 106 rfl) rfl
theorem q702 : (Jvm.Cond.instanceMethod ({ cls := "java/lang/Throwable", name := "<init>", desc := "()V" } : Jvm.MethodName)) ∈ lw_all := lw_g (lw_at lw_m3 107 rfl) rfl
theorem q703 : (Jvm.Cond.code ({ cls := "java/lang/Throwable", name := "<init>", desc := "()V" } : Jvm.MethodName) prog_30_method_1_code (1 : Nat) (Option.none : Option Jvm.ClassFile.FieldType)) ∈ lw_all := lw_g (lw_at lw_m3 108 rfl) rfl
theorem q704 : (Jvm.Cond.methodLink "java/lang/Throwable" (1 : Nat) ({ cls := "java/lang/Object", name := "<init>", desc := "()V" } : Jvm.MethodName)) ∈ lw_all := lw_g (lw_at lw_m3 109 rfl) rfl
theorem q705 : (Jvm.Cond.fieldLink "java/lang/Throwable" (13 : Nat) "java/lang/Throwable" "UNASSIGNED_STACK" "[Ljava/lang/StackTraceElement;") ∈ lw_all := lw_g (lw_at lw_m3 110 rfl) rfl
theorem q706 : (Jvm.Cond.laysStatic "java/lang/Throwable" "UNASSIGNED_STACK" "[Ljava/lang/StackTraceElement;") ∈ lw_tbl := lw_at lw_m3 111 rfl
theorem q707 : (Jvm.Cond.fieldLink "java/lang/Throwable" (20 : Nat) "java/lang/Throwable" "SUPPRESSED_SENTINEL" "Ljava/util/List;") ∈ lw_all := lw_g (lw_at lw_m3 112 rfl) rfl
theorem q708 : (Jvm.Cond.laysStatic "java/lang/Throwable" "SUPPRESSED_SENTINEL" "Ljava/util/List;") ∈ lw_tbl := lw_at lw_m3 113 rfl
theorem q709 : (Jvm.Cond.methodLink "java/lang/Throwable" (27 : Nat) ({ cls := "java/lang/Throwable", name := "fillInStackTrace", desc := "()Ljava/lang/Throwable;" } : Jvm.MethodName)) ∈ lw_all := lw_g (lw_at lw_m3 114 rfl) rfl
theorem q710 : (Jvm.Cond.instanceMethod ({ cls := "java/lang/Throwable", name := "fillInStackTrace", desc := "()Ljava/lang/Throwable;" } : Jvm.MethodName)) ∈ lw_all := lw_g (lw_at lw_m3 115 rfl) rfl
theorem q711 : (Jvm.Cond.sameMethod "java/lang/Throwable" "java/lang/Throwable" "fillInStackTrace" "()Ljava/lang/Throwable;") ∈ lw_all := lw_g (lw_at lw_m3 116 rfl) rfl
theorem q726 : (Jvm.Cond.declares ({ cls := "java/lang/Throwable", name := "fillInStackTrace", desc := "()Ljava/lang/Throwable;" } : Jvm.MethodName)) ∈ lw_tbl := lw_at lw_m3 131 rfl
theorem q730 : (Jvm.Cond.codeSync ({ cls := "java/lang/Throwable", name := "fillInStackTrace", desc := "()Ljava/lang/Throwable;" } : Jvm.MethodName) prog_30_method_18_code (1 : Nat) (Option.some (Jvm.ClassFile.FieldType.object "java/lang/Throwable"))) ∈ lw_all := lw_g (lw_at lw_m3 135 rfl) rfl
theorem q731 : (Jvm.Cond.methodLink "java/lang/Throwable" (202 : Nat) ({ cls := "java/lang/Throwable", name := "fillInStackTrace", desc := "(I)Ljava/lang/Throwable;" } : Jvm.MethodName)) ∈ lw_all := lw_g (lw_at lw_m3 136 rfl) rfl
theorem q732 : (Jvm.Cond.privateMethod ({ cls := "java/lang/Throwable", name := "fillInStackTrace", desc := "(I)Ljava/lang/Throwable;" } : Jvm.MethodName)) ∈ lw_tbl := lw_at lw_m3 137 rfl
theorem q733 : (Jvm.Cond.instanceMethod ({ cls := "java/lang/Throwable", name := "fillInStackTrace", desc := "(I)Ljava/lang/Throwable;" } : Jvm.MethodName)) ∈ lw_all := lw_g (lw_at lw_m3 138 rfl) rfl
theorem q734 : (Jvm.Cond.instantiable "java/lang/Throwable" (6 : Nat)) ∈ lw_all := lw_g (lw_at lw_m3 139 rfl) rfl
theorem q735 : (Jvm.Cond.native ({ cls := "java/lang/Throwable", name := "fillInStackTrace", desc := "(I)Ljava/lang/Throwable;" } : Jvm.MethodName)) ∈ lw_all := lw_g (lw_at lw_m3 140 rfl) rfl
theorem q746 : (Jvm.Cond.instanceMethod ({ cls := "java/lang/Throwable", name := "<init>", desc := "(Ljava/lang/String;Ljava/lang/Throwable;ZZ)V" } : Jvm.MethodName)) ∈ lw_all := lw_g (lw_at lw_m3 151 rfl) rfl
theorem q747 : (Jvm.Cond.code ({ cls := "java/lang/Throwable", name := "<init>", desc := "(Ljava/lang/String;Ljava/lang/Throwable;ZZ)V" } : Jvm.MethodName) prog_30_method_5_code (5 : Nat) (Option.none : Option Jvm.ClassFile.FieldType)) ∈ lw_all := lw_g (lw_at lw_m3 152 rfl) rfl
theorem q748 : (Jvm.Cond.fieldLink "java/lang/Throwable" (198 : Nat) "java/lang/Throwable" "backtrace" "Ljava/lang/Object;") ∈ lw_all := lw_g (lw_at lw_m3 153 rfl) rfl
theorem q749 : (Jvm.Cond.fieldLink "java/lang/Throwable" (31 : Nat) "java/lang/Throwable" "detailMessage" "Ljava/lang/String;") ∈ lw_all := lw_g (lw_at lw_m3 154 rfl) rfl
theorem q750 : (Jvm.Cond.fieldLink "java/lang/Throwable" (7 : Nat) "java/lang/Throwable" "cause" "Ljava/lang/Throwable;") ∈ lw_all := lw_g (lw_at lw_m3 155 rfl) rfl
theorem q751 : (Jvm.Cond.fieldLink "java/lang/Throwable" (17 : Nat) "java/lang/Throwable" "stackTrace" "[Ljava/lang/StackTraceElement;") ∈ lw_all := lw_g (lw_at lw_m3 156 rfl) rfl
theorem q752 : (Jvm.Cond.fieldLink "java/lang/Throwable" (24 : Nat) "java/lang/Throwable" "suppressedExceptions" "Ljava/util/List;") ∈ lw_all := lw_g (lw_at lw_m3 157 rfl) rfl
theorem q753 : (Jvm.Cond.soleField "java/lang/Throwable" "backtrace") ∈ lw_all := lw_g (lw_at lw_m3 158 rfl) rfl
theorem q754 : (Jvm.Cond.soleField "java/lang/Throwable" "detailMessage") ∈ lw_all := lw_g (lw_at lw_m3 159 rfl) rfl
theorem q755 : (Jvm.Cond.soleField "java/lang/Throwable" "cause") ∈ lw_all := lw_g (lw_at lw_m3 160 rfl) rfl
theorem q756 : (Jvm.Cond.soleField "java/lang/Throwable" "stackTrace") ∈ lw_all := lw_g (lw_at lw_m3 161 rfl) rfl
theorem q758 : (Jvm.Cond.soleField "java/lang/Throwable" "depth") ∈ lw_all := lw_g (lw_at lw_m3 163 rfl) rfl
theorem q759 : (Jvm.Cond.soleField "java/lang/Throwable" "suppressedExceptions") ∈ lw_all := lw_g (lw_at lw_m3 164 rfl) rfl
theorem q1114 : (Jvm.Cond.instanceMethod ({ cls := "java/lang/Throwable", name := "<init>", desc := "(Ljava/lang/String;)V" } : Jvm.MethodName)) ∈ lw_all := lw_g (lw_at lw_m5 39 rfl) rfl
theorem q1115 : (Jvm.Cond.code ({ cls := "java/lang/Throwable", name := "<init>", desc := "(Ljava/lang/String;)V" } : Jvm.MethodName) prog_30_method_2_code (2 : Nat) (Option.none : Option Jvm.ClassFile.FieldType)) ∈ lw_all := lw_g (lw_at lw_m5 40 rfl) rfl
theorem q1819 : (Jvm.Cond.sameMethod "java/lang/Throwable" "java/lang/Throwable" "fillInStackTrace" "(I)Ljava/lang/Throwable;") ∈ lw_all := lw_g (lw_at lw_m8 24 rfl) rfl
theorem in_J0 : ∀ w ∈ wsJ00, w ∈ lw_all := lw_in wsJ00 [691, 693, 695, 697, 699] (by decide +kernel) (by decide +kernel)
theorem q118 : (Jvm.Cond.initialized "java/lang/Exception") ∈ lw_all := lw_g (lw_at lw_m1 3 rfl) rfl
theorem q684 : (Jvm.Cond.declares ({ cls := "java/lang/Exception", name := "<init>", desc := "()V" } : Jvm.MethodName)) ∈ lw_tbl := lw_at lw_m3 89 rfl
theorem q685 : (Jvm.Cond.declares ({ cls := "java/lang/Exception", name := "<init>", desc := "(Ljava/lang/String;)V" } : Jvm.MethodName)) ∈ lw_tbl := lw_at lw_m3 90 rfl
theorem q729 : (Jvm.Cond.superclass "java/lang/Exception" "java/lang/Throwable") ∈ lw_all := lw_g (lw_at lw_m3 134 rfl) rfl
theorem q743 : (Jvm.Cond.instanceMethod ({ cls := "java/lang/Exception", name := "<init>", desc := "(Ljava/lang/String;Ljava/lang/Throwable;ZZ)V" } : Jvm.MethodName)) ∈ lw_all := lw_g (lw_at lw_m3 148 rfl) rfl
theorem q744 : (Jvm.Cond.code ({ cls := "java/lang/Exception", name := "<init>", desc := "(Ljava/lang/String;Ljava/lang/Throwable;ZZ)V" } : Jvm.MethodName) prog_20_method_5_code (5 : Nat) (Option.none : Option Jvm.ClassFile.FieldType)) ∈ lw_all := lw_g (lw_at lw_m3 149 rfl) rfl
theorem q745 : (Jvm.Cond.methodLink "java/lang/Exception" (16 : Nat) ({ cls := "java/lang/Throwable", name := "<init>", desc := "(Ljava/lang/String;Ljava/lang/Throwable;ZZ)V" } : Jvm.MethodName)) ∈ lw_all := lw_g (lw_at lw_m3 150 rfl) rfl
theorem q1056 : (Jvm.Cond.instanceMethod ({ cls := "java/lang/Exception", name := "<init>", desc := "()V" } : Jvm.MethodName)) ∈ lw_all := lw_g (lw_at lw_m4 221 rfl) rfl
theorem q1057 : (Jvm.Cond.code ({ cls := "java/lang/Exception", name := "<init>", desc := "()V" } : Jvm.MethodName) prog_20_method_1_code (1 : Nat) (Option.none : Option Jvm.ClassFile.FieldType)) ∈ lw_all := lw_g (lw_at lw_m4 222 rfl) rfl
theorem q1058 : (Jvm.Cond.methodLink "java/lang/Exception" (1 : Nat) ({ cls := "java/lang/Throwable", name := "<init>", desc := "()V" } : Jvm.MethodName)) ∈ lw_all := lw_g (lw_at lw_m4 223 rfl) rfl
theorem q1111 : (Jvm.Cond.instanceMethod ({ cls := "java/lang/Exception", name := "<init>", desc := "(Ljava/lang/String;)V" } : Jvm.MethodName)) ∈ lw_all := lw_g (lw_at lw_m5 36 rfl) rfl
theorem q1112 : (Jvm.Cond.code ({ cls := "java/lang/Exception", name := "<init>", desc := "(Ljava/lang/String;)V" } : Jvm.MethodName) prog_20_method_2_code (2 : Nat) (Option.none : Option Jvm.ClassFile.FieldType)) ∈ lw_all := lw_g (lw_at lw_m5 37 rfl) rfl
theorem q1113 : (Jvm.Cond.methodLink "java/lang/Exception" (7 : Nat) ({ cls := "java/lang/Throwable", name := "<init>", desc := "(Ljava/lang/String;)V" } : Jvm.MethodName)) ∈ lw_all := lw_g (lw_at lw_m5 38 rfl) rfl
theorem q119 : (Jvm.Cond.initialized "java/lang/RuntimeException") ∈ lw_all := lw_g (lw_at lw_m1 4 rfl) rfl
theorem q682 : (Jvm.Cond.declares ({ cls := "java/lang/RuntimeException", name := "<init>", desc := "()V" } : Jvm.MethodName)) ∈ lw_tbl := lw_at lw_m3 87 rfl
theorem q683 : (Jvm.Cond.declares ({ cls := "java/lang/RuntimeException", name := "<init>", desc := "(Ljava/lang/String;)V" } : Jvm.MethodName)) ∈ lw_tbl := lw_at lw_m3 88 rfl
theorem q725 : (Jvm.Cond.sameMethod "java/lang/RuntimeException" "java/lang/Throwable" "fillInStackTrace" "()Ljava/lang/Throwable;") ∈ lw_all := lw_g (lw_at lw_m3 130 rfl) rfl
theorem q728 : (Jvm.Cond.superclass "java/lang/RuntimeException" "java/lang/Exception") ∈ lw_all := lw_g (lw_at lw_m3 133 rfl) rfl
theorem q740 : (Jvm.Cond.instanceMethod ({ cls := "java/lang/RuntimeException", name := "<init>", desc := "(Ljava/lang/String;Ljava/lang/Throwable;ZZ)V" } : Jvm.MethodName)) ∈ lw_all := lw_g (lw_at lw_m3 145 rfl) rfl
theorem q741 : (Jvm.Cond.code ({ cls := "java/lang/RuntimeException", name := "<init>", desc := "(Ljava/lang/String;Ljava/lang/Throwable;ZZ)V" } : Jvm.MethodName) prog_25_method_5_code (5 : Nat) (Option.none : Option Jvm.ClassFile.FieldType)) ∈ lw_all := lw_g (lw_at lw_m3 146 rfl) rfl
theorem q742 : (Jvm.Cond.methodLink "java/lang/RuntimeException" (16 : Nat) ({ cls := "java/lang/Exception", name := "<init>", desc := "(Ljava/lang/String;Ljava/lang/Throwable;ZZ)V" } : Jvm.MethodName)) ∈ lw_all := lw_g (lw_at lw_m3 147 rfl) rfl
theorem q1053 : (Jvm.Cond.instanceMethod ({ cls := "java/lang/RuntimeException", name := "<init>", desc := "()V" } : Jvm.MethodName)) ∈ lw_all := lw_g (lw_at lw_m4 218 rfl) rfl
theorem q1054 : (Jvm.Cond.code ({ cls := "java/lang/RuntimeException", name := "<init>", desc := "()V" } : Jvm.MethodName) prog_25_method_1_code (1 : Nat) (Option.none : Option Jvm.ClassFile.FieldType)) ∈ lw_all := lw_g (lw_at lw_m4 219 rfl) rfl
theorem q1055 : (Jvm.Cond.methodLink "java/lang/RuntimeException" (1 : Nat) ({ cls := "java/lang/Exception", name := "<init>", desc := "()V" } : Jvm.MethodName)) ∈ lw_all := lw_g (lw_at lw_m4 220 rfl) rfl
theorem q1108 : (Jvm.Cond.instanceMethod ({ cls := "java/lang/RuntimeException", name := "<init>", desc := "(Ljava/lang/String;)V" } : Jvm.MethodName)) ∈ lw_all := lw_g (lw_at lw_m5 33 rfl) rfl
theorem q1109 : (Jvm.Cond.code ({ cls := "java/lang/RuntimeException", name := "<init>", desc := "(Ljava/lang/String;)V" } : Jvm.MethodName) prog_25_method_2_code (2 : Nat) (Option.none : Option Jvm.ClassFile.FieldType)) ∈ lw_all := lw_g (lw_at lw_m5 34 rfl) rfl
theorem q1110 : (Jvm.Cond.methodLink "java/lang/RuntimeException" (7 : Nat) ({ cls := "java/lang/Exception", name := "<init>", desc := "(Ljava/lang/String;)V" } : Jvm.MethodName)) ∈ lw_all := lw_g (lw_at lw_m5 35 rfl) rfl
theorem q1156 : (Jvm.Cond.castable "java/lang/RuntimeException" "java/lang/Throwable") ∈ lw_tbl := lw_at lw_m5 81 rfl
theorem q122 : (Jvm.Cond.initialized "java/lang/String") ∈ lw_all := lw_g (lw_at lw_m1 7 rfl) rfl
theorem q466 : (Jvm.Cond.instanceMethod ({ cls := "java/lang/String", name := "length", desc := "()I" } : Jvm.MethodName)) ∈ lw_all := lw_g (lw_at lw_m2 111 rfl) rfl
theorem q467 : (Jvm.Cond.selects "java/lang/String" ({ cls := "java/lang/String", name := "length", desc := "()I" } : Jvm.MethodName) ({ cls := "java/lang/String", name := "length", desc := "()I" } : Jvm.MethodName)) ∈ lw_all := lw_g (lw_at lw_m2 112 rfl) rfl
theorem q468 : (Jvm.Cond.code ({ cls := "java/lang/String", name := "length", desc := "()I" } : Jvm.MethodName) prog_26_method_54_code (1 : Nat) (Option.some Jvm.ClassFile.FieldType.int)) ∈ lw_all := lw_g (lw_at lw_m2 113 rfl) rfl
theorem q469 : (Jvm.Cond.methodLink "java/lang/String" (335 : Nat) ({ cls := "java/lang/String", name := "coder", desc := "()B" } : Jvm.MethodName)) ∈ lw_all := lw_g (lw_at lw_m2 114 rfl) rfl
theorem q470 : (Jvm.Cond.instanceMethod ({ cls := "java/lang/String", name := "coder", desc := "()B" } : Jvm.MethodName)) ∈ lw_all := lw_g (lw_at lw_m2 115 rfl) rfl
theorem q471 : (Jvm.Cond.selects "java/lang/String" ({ cls := "java/lang/String", name := "coder", desc := "()B" } : Jvm.MethodName) ({ cls := "java/lang/String", name := "coder", desc := "()B" } : Jvm.MethodName)) ∈ lw_all := lw_g (lw_at lw_m2 116 rfl) rfl
theorem q472 : (Jvm.Cond.code ({ cls := "java/lang/String", name := "coder", desc := "()B" } : Jvm.MethodName) prog_26_method_152_code (1 : Nat) (Option.some Jvm.ClassFile.FieldType.byte)) ∈ lw_all := lw_g (lw_at lw_m2 117 rfl) rfl
theorem q473 : (Jvm.Cond.fieldLink "java/lang/String" (38 : Nat) "java/lang/String" "COMPACT_STRINGS" "Z") ∈ lw_all := lw_g (lw_at lw_m2 118 rfl) rfl
theorem q474 : (Jvm.Cond.laysStatic "java/lang/String" "COMPACT_STRINGS" "Z") ∈ lw_tbl := lw_at lw_m2 119 rfl
theorem q476 : (Jvm.Cond.instanceMethod ({ cls := "java/lang/String", name := "charAt", desc := "(I)C" } : Jvm.MethodName)) ∈ lw_all := lw_g (lw_at lw_m2 121 rfl) rfl
theorem q477 : (Jvm.Cond.selects "java/lang/String" ({ cls := "java/lang/String", name := "charAt", desc := "(I)C" } : Jvm.MethodName) ({ cls := "java/lang/String", name := "charAt", desc := "(I)C" } : Jvm.MethodName)) ∈ lw_all := lw_g (lw_at lw_m2 122 rfl) rfl
theorem q478 : (Jvm.Cond.code ({ cls := "java/lang/String", name := "charAt", desc := "(I)C" } : Jvm.MethodName) prog_26_method_56_code (2 : Nat) (Option.some Jvm.ClassFile.FieldType.char)) ∈ lw_all := lw_g (lw_at lw_m2 123 rfl) rfl
theorem q479 : (Jvm.Cond.methodLink "java/lang/String" (492 : Nat) ({ cls := "java/lang/String", name := "isLatin1", desc := "()Z" } : Jvm.MethodName)) ∈ lw_all := lw_g (lw_at lw_m2 124 rfl) rfl
theorem q480 : (Jvm.Cond.instanceMethod ({ cls := "java/lang/String", name := "isLatin1", desc := "()Z" } : Jvm.MethodName)) ∈ lw_all := lw_g (lw_at lw_m2 125 rfl) rfl
theorem q481 : (Jvm.Cond.selects "java/lang/String" ({ cls := "java/lang/String", name := "isLatin1", desc := "()Z" } : Jvm.MethodName) ({ cls := "java/lang/String", name := "isLatin1", desc := "()Z" } : Jvm.MethodName)) ∈ lw_all := lw_g (lw_at lw_m2 126 rfl) rfl
theorem q482 : (Jvm.Cond.code ({ cls := "java/lang/String", name := "isLatin1", desc := "()Z" } : Jvm.MethodName) prog_26_method_154_code (1 : Nat) (Option.some Jvm.ClassFile.FieldType.boolean)) ∈ lw_all := lw_g (lw_at lw_m2 127 rfl) rfl
theorem q483 : (Jvm.Cond.methodLink "java/lang/String" (495 : Nat) ({ cls := "java/lang/StringLatin1", name := "charAt", desc := "([BI)C" } : Jvm.MethodName)) ∈ lw_all := lw_g (lw_at lw_m2 128 rfl) rfl
theorem q487 : (Jvm.Cond.static ({ cls := "java/lang/String", name := "checkIndex", desc := "(II)V" } : Jvm.MethodName)) ∈ lw_all := lw_g (lw_at lw_m2 132 rfl) rfl
theorem q488 : (Jvm.Cond.code ({ cls := "java/lang/String", name := "checkIndex", desc := "(II)V" } : Jvm.MethodName) prog_26_method_155_code (2 : Nat) (Option.none : Option Jvm.ClassFile.FieldType)) ∈ lw_all := lw_g (lw_at lw_m2 133 rfl) rfl
theorem q489 : (Jvm.Cond.fieldLink "java/lang/String" (1053 : Nat) "jdk/internal/util/Preconditions" "SIOOBE_FORMATTER" "Ljava/util/function/BiFunction;") ∈ lw_all := lw_g (lw_at lw_m2 134 rfl) rfl
theorem q491 : (Jvm.Cond.methodLink "java/lang/String" (1059 : Nat) ({ cls := "jdk/internal/util/Preconditions", name := "checkIndex", desc := "(IILjava/util/function/BiFunction;)I" } : Jvm.MethodName)) ∈ lw_all := lw_g (lw_at lw_m2 136 rfl) rfl
theorem q494 : (Jvm.Cond.methodLink "java/lang/String" (498 : Nat) ({ cls := "java/lang/StringUTF16", name := "charAt", desc := "([BI)C" } : Jvm.MethodName)) ∈ lw_all := lw_g (lw_at lw_m2 139 rfl) rfl
theorem q524 : (Jvm.Cond.instanceMethod ({ cls := "java/lang/String", name := "indexOf", desc := "(I)I" } : Jvm.MethodName)) ∈ lw_all := lw_g (lw_at lw_m2 169 rfl) rfl
theorem q525 : (Jvm.Cond.selects "java/lang/String" ({ cls := "java/lang/String", name := "indexOf", desc := "(I)I" } : Jvm.MethodName) ({ cls := "java/lang/String", name := "indexOf", desc := "(I)I" } : Jvm.MethodName)) ∈ lw_all := lw_g (lw_at lw_m2 170 rfl) rfl
theorem q526 : (Jvm.Cond.code ({ cls := "java/lang/String", name := "indexOf", desc := "(I)I" } : Jvm.MethodName) prog_26_method_79_code (2 : Nat) (Option.some Jvm.ClassFile.FieldType.int)) ∈ lw_all := lw_g (lw_at lw_m2 171 rfl) rfl
theorem q527 : (Jvm.Cond.methodLink "java/lang/String" (633 : Nat) ({ cls := "java/lang/String", name := "indexOf", desc := "(II)I" } : Jvm.MethodName)) ∈ lw_all := lw_g (lw_at lw_m2 172 rfl) rfl
theorem q528 : (Jvm.Cond.instanceMethod ({ cls := "java/lang/String", name := "indexOf", desc := "(II)I" } : Jvm.MethodName)) ∈ lw_all := lw_g (lw_at lw_m2 173 rfl) rfl
theorem q529 : (Jvm.Cond.selects "java/lang/String" ({ cls := "java/lang/String", name := "indexOf", desc := "(II)I" } : Jvm.MethodName) ({ cls := "java/lang/String", name := "indexOf", desc := "(II)I" } : Jvm.MethodName)) ∈ lw_all := lw_g (lw_at lw_m2 174 rfl) rfl
theorem q530 : (Jvm.Cond.code ({ cls := "java/lang/String", name := "indexOf", desc := "(II)I" } : Jvm.MethodName) prog_26_method_80_code (3 : Nat) (Option.some Jvm.ClassFile.FieldType.int)) ∈ lw_all := lw_g (lw_at lw_m2 175 rfl) rfl
theorem q531 : (Jvm.Cond.methodLink "java/lang/String" (505 : Nat) ({ cls := "java/lang/String", name := "length", desc := "()I" } : Jvm.MethodName)) ∈ lw_all := lw_g (lw_at lw_m2 176 rfl) rfl
theorem q532 : (Jvm.Cond.methodLink "java/lang/String" (637 : Nat) ({ cls := "java/lang/StringLatin1", name := "indexOf", desc := "([BIII)I" } : Jvm.MethodName)) ∈ lw_all := lw_g (lw_at lw_m2 177 rfl) rfl
theorem q543 : (Jvm.Cond.methodLink "java/lang/String" (640 : Nat) ({ cls := "java/lang/StringUTF16", name := "indexOf", desc := "([BIII)I" } : Jvm.MethodName)) ∈ lw_all := lw_g (lw_at lw_m2 188 rfl) rfl
theorem q556 : (Jvm.Cond.static ({ cls := "java/lang/String", name := "checkBoundsBeginEnd", desc := "(III)V" } : Jvm.MethodName)) ∈ lw_all := lw_g (lw_at lw_m2 201 rfl) rfl
theorem q557 : (Jvm.Cond.code ({ cls := "java/lang/String", name := "checkBoundsBeginEnd", desc := "(III)V" } : Jvm.MethodName) prog_26_method_158_code (3 : Nat) (Option.none : Option Jvm.ClassFile.FieldType)) ∈ lw_all := lw_g (lw_at lw_m2 202 rfl) rfl
theorem q558 : (Jvm.Cond.methodLink "java/lang/String" (1062 : Nat) ({ cls := "jdk/internal/util/Preconditions", name := "checkFromToIndex", desc := "(IIILjava/util/function/BiFunction;)I" } : Jvm.MethodName)) ∈ lw_all := lw_g (lw_at lw_m2 203 rfl) rfl
theorem q1125 : (Jvm.Cond.instantiable "java/lang/String" (4 : Nat)) ∈ lw_all := lw_g (lw_at lw_m5 50 rfl) rfl
theorem q1126 : (Jvm.Cond.laysFinal "java/lang/String" "java/lang/String" "value" "[B") ∈ lw_all := lw_g (lw_at lw_m5 51 rfl) rfl
theorem q1127 : (Jvm.Cond.soleField "java/lang/String" "value") ∈ lw_all := lw_g (lw_at lw_m5 52 rfl) rfl
theorem q1128 : (Jvm.Cond.laysFinal "java/lang/String" "java/lang/String" "coder" "B") ∈ lw_all := lw_g (lw_at lw_m5 53 rfl) rfl
theorem q1129 : (Jvm.Cond.soleField "java/lang/String" "coder") ∈ lw_all := lw_g (lw_at lw_m5 54 rfl) rfl
theorem q1832 : (Jvm.Cond.fieldLink "java/lang/String" (9 : Nat) "java/lang/String" "value" "[B") ∈ lw_all := lw_g (lw_at lw_m8 37 rfl) rfl
theorem q1833 : (Jvm.Cond.fieldLink "java/lang/String" (15 : Nat) "java/lang/String" "coder" "B") ∈ lw_all := lw_g (lw_at lw_m8 38 rfl) rfl
theorem in_J3 : ∀ w ∈ wsJ30, w ∈ lw_all := lw_in wsJ30 [1126, 1128] (by decide +kernel) (by decide +kernel)
theorem q123 : (Jvm.Cond.initialized "java/lang/StringLatin1") ∈ lw_all := lw_g (lw_at lw_m1 8 rfl) rfl
theorem q484 : (Jvm.Cond.static ({ cls := "java/lang/StringLatin1", name := "charAt", desc := "([BI)C" } : Jvm.MethodName)) ∈ lw_all := lw_g (lw_at lw_m2 129 rfl) rfl
theorem q485 : (Jvm.Cond.code ({ cls := "java/lang/StringLatin1", name := "charAt", desc := "([BI)C" } : Jvm.MethodName) prog_27_method_2_code (2 : Nat) (Option.some Jvm.ClassFile.FieldType.char)) ∈ lw_all := lw_g (lw_at lw_m2 130 rfl) rfl
theorem q486 : (Jvm.Cond.methodLink "java/lang/StringLatin1" (9 : Nat) ({ cls := "java/lang/String", name := "checkIndex", desc := "(II)V" } : Jvm.MethodName)) ∈ lw_all := lw_g (lw_at lw_m2 131 rfl) rfl
theorem q533 : (Jvm.Cond.static ({ cls := "java/lang/StringLatin1", name := "indexOf", desc := "([BIII)I" } : Jvm.MethodName)) ∈ lw_all := lw_g (lw_at lw_m2 178 rfl) rfl
theorem q534 : (Jvm.Cond.code ({ cls := "java/lang/StringLatin1", name := "indexOf", desc := "([BIII)I" } : Jvm.MethodName) prog_27_method_22_code (4 : Nat) (Option.some Jvm.ClassFile.FieldType.int)) ∈ lw_all := lw_g (lw_at lw_m2 179 rfl) rfl
theorem q535 : (Jvm.Cond.methodLink "java/lang/StringLatin1" (88 : Nat) ({ cls := "java/lang/StringLatin1", name := "canEncode", desc := "(I)Z" } : Jvm.MethodName)) ∈ lw_all := lw_g (lw_at lw_m2 180 rfl) rfl
theorem q536 : (Jvm.Cond.static ({ cls := "java/lang/StringLatin1", name := "canEncode", desc := "(I)Z" } : Jvm.MethodName)) ∈ lw_all := lw_g (lw_at lw_m2 181 rfl) rfl
theorem q537 : (Jvm.Cond.code ({ cls := "java/lang/StringLatin1", name := "canEncode", desc := "(I)Z" } : Jvm.MethodName) prog_27_method_4_code (1 : Nat) (Option.some Jvm.ClassFile.FieldType.boolean)) ∈ lw_all := lw_g (lw_at lw_m2 182 rfl) rfl
theorem q538 : (Jvm.Cond.methodLink "java/lang/StringLatin1" (92 : Nat) ({ cls := "java/lang/Math", name := "max", desc := "(II)I" } : Jvm.MethodName)) ∈ lw_all := lw_g (lw_at lw_m2 183 rfl) rfl
theorem q539 : (Jvm.Cond.methodLink "java/lang/StringLatin1" (38 : Nat) ({ cls := "java/lang/Math", name := "min", desc := "(II)I" } : Jvm.MethodName)) ∈ lw_all := lw_g (lw_at lw_m2 184 rfl) rfl
theorem q540 : (Jvm.Cond.methodLink "java/lang/StringLatin1" (95 : Nat) ({ cls := "java/lang/StringLatin1", name := "indexOfChar", desc := "([BIII)I" } : Jvm.MethodName)) ∈ lw_all := lw_g (lw_at lw_m2 185 rfl) rfl
theorem q541 : (Jvm.Cond.static ({ cls := "java/lang/StringLatin1", name := "indexOfChar", desc := "([BIII)I" } : Jvm.MethodName)) ∈ lw_all := lw_g (lw_at lw_m2 186 rfl) rfl
theorem q542 : (Jvm.Cond.code ({ cls := "java/lang/StringLatin1", name := "indexOfChar", desc := "([BIII)I" } : Jvm.MethodName) prog_27_method_23_code (6 : Nat) (Option.some Jvm.ClassFile.FieldType.int)) ∈ lw_all := lw_g (lw_at lw_m2 187 rfl) rfl
theorem q124 : (Jvm.Cond.initialized "jdk/internal/util/Preconditions") ∈ lw_all := lw_g (lw_at lw_m1 9 rfl) rfl
theorem q490 : (Jvm.Cond.laysStatic "jdk/internal/util/Preconditions" "SIOOBE_FORMATTER" "Ljava/util/function/BiFunction;") ∈ lw_tbl := lw_at lw_m2 135 rfl
theorem q492 : (Jvm.Cond.static ({ cls := "jdk/internal/util/Preconditions", name := "checkIndex", desc := "(IILjava/util/function/BiFunction;)I" } : Jvm.MethodName)) ∈ lw_all := lw_g (lw_at lw_m2 137 rfl) rfl
theorem q493 : (Jvm.Cond.code ({ cls := "jdk/internal/util/Preconditions", name := "checkIndex", desc := "(IILjava/util/function/BiFunction;)I" } : Jvm.MethodName) prog_31_method_11_code (3 : Nat) (Option.some Jvm.ClassFile.FieldType.int)) ∈ lw_all := lw_g (lw_at lw_m2 138 rfl) rfl
theorem q559 : (Jvm.Cond.static ({ cls := "jdk/internal/util/Preconditions", name := "checkFromToIndex", desc := "(IIILjava/util/function/BiFunction;)I" } : Jvm.MethodName)) ∈ lw_all := lw_g (lw_at lw_m2 204 rfl) rfl
theorem q560 : (Jvm.Cond.code ({ cls := "jdk/internal/util/Preconditions", name := "checkFromToIndex", desc := "(IIILjava/util/function/BiFunction;)I" } : Jvm.MethodName) prog_31_method_12_code (4 : Nat) (Option.some Jvm.ClassFile.FieldType.int)) ∈ lw_all := lw_g (lw_at lw_m2 205 rfl) rfl
theorem q125 : (Jvm.Cond.initialized "java/lang/StringUTF16") ∈ lw_all := lw_g (lw_at lw_m1 10 rfl) rfl
theorem q495 : (Jvm.Cond.static ({ cls := "java/lang/StringUTF16", name := "charAt", desc := "([BI)C" } : Jvm.MethodName)) ∈ lw_all := lw_g (lw_at lw_m2 140 rfl) rfl
theorem q496 : (Jvm.Cond.code ({ cls := "java/lang/StringUTF16", name := "charAt", desc := "([BI)C" } : Jvm.MethodName) prog_28_method_83_code (2 : Nat) (Option.some Jvm.ClassFile.FieldType.char)) ∈ lw_all := lw_g (lw_at lw_m2 141 rfl) rfl
theorem q497 : (Jvm.Cond.methodLink "java/lang/StringUTF16" (67 : Nat) ({ cls := "java/lang/StringUTF16", name := "checkIndex", desc := "(I[B)V" } : Jvm.MethodName)) ∈ lw_all := lw_g (lw_at lw_m2 142 rfl) rfl
theorem q498 : (Jvm.Cond.static ({ cls := "java/lang/StringUTF16", name := "checkIndex", desc := "(I[B)V" } : Jvm.MethodName)) ∈ lw_all := lw_g (lw_at lw_m2 143 rfl) rfl
theorem q499 : (Jvm.Cond.code ({ cls := "java/lang/StringUTF16", name := "checkIndex", desc := "(I[B)V" } : Jvm.MethodName) prog_28_method_91_code (2 : Nat) (Option.none : Option Jvm.ClassFile.FieldType)) ∈ lw_all := lw_g (lw_at lw_m2 144 rfl) rfl
theorem q500 : (Jvm.Cond.methodLink "java/lang/StringUTF16" (48 : Nat) ({ cls := "java/lang/StringUTF16", name := "length", desc := "([B)I" } : Jvm.MethodName)) ∈ lw_all := lw_g (lw_at lw_m2 145 rfl) rfl
theorem q501 : (Jvm.Cond.static ({ cls := "java/lang/StringUTF16", name := "length", desc := "([B)I" } : Jvm.MethodName)) ∈ lw_all := lw_g (lw_at lw_m2 146 rfl) rfl
theorem q502 : (Jvm.Cond.code ({ cls := "java/lang/StringUTF16", name := "length", desc := "([B)I" } : Jvm.MethodName) prog_28_method_6_code (1 : Nat) (Option.some Jvm.ClassFile.FieldType.int)) ∈ lw_all := lw_g (lw_at lw_m2 147 rfl) rfl
theorem q503 : (Jvm.Cond.methodLink "java/lang/StringUTF16" (414 : Nat) ({ cls := "java/lang/String", name := "checkIndex", desc := "(II)V" } : Jvm.MethodName)) ∈ lw_all := lw_g (lw_at lw_m2 148 rfl) rfl
theorem q504 : (Jvm.Cond.methodLink "java/lang/StringUTF16" (71 : Nat) ({ cls := "java/lang/StringUTF16", name := "getChar", desc := "([BI)C" } : Jvm.MethodName)) ∈ lw_all := lw_g (lw_at lw_m2 149 rfl) rfl
theorem q505 : (Jvm.Cond.static ({ cls := "java/lang/StringUTF16", name := "getChar", desc := "([BI)C" } : Jvm.MethodName)) ∈ lw_all := lw_g (lw_at lw_m2 150 rfl) rfl
theorem q506 : (Jvm.Cond.code ({ cls := "java/lang/StringUTF16", name := "getChar", desc := "([BI)C" } : Jvm.MethodName) prog_28_method_5_code (2 : Nat) (Option.some Jvm.ClassFile.FieldType.char)) ∈ lw_all := lw_g (lw_at lw_m2 151 rfl) rfl
theorem q507 : (Jvm.Cond.fieldLink "java/lang/StringUTF16" (44 : Nat) "java/lang/StringUTF16" "$assertionsDisabled" "Z") ∈ lw_all := lw_g (lw_at lw_m2 152 rfl) rfl
theorem q508 : (Jvm.Cond.laysStatic "java/lang/StringUTF16" "$assertionsDisabled" "Z") ∈ lw_tbl := lw_at lw_m2 153 rfl
theorem q509 : (Jvm.Cond.fieldLink "java/lang/StringUTF16" (59 : Nat) "java/lang/StringUTF16" "HI_BYTE_SHIFT" "I") ∈ lw_all := lw_g (lw_at lw_m2 154 rfl) rfl
theorem q510 : (Jvm.Cond.laysStatic "java/lang/StringUTF16" "HI_BYTE_SHIFT" "I") ∈ lw_tbl := lw_at lw_m2 155 rfl
theorem q511 : (Jvm.Cond.fieldLink "java/lang/StringUTF16" (63 : Nat) "java/lang/StringUTF16" "LO_BYTE_SHIFT" "I") ∈ lw_all := lw_g (lw_at lw_m2 156 rfl) rfl
theorem q512 : (Jvm.Cond.laysStatic "java/lang/StringUTF16" "LO_BYTE_SHIFT" "I") ∈ lw_tbl := lw_at lw_m2 157 rfl
theorem q544 : (Jvm.Cond.static ({ cls := "java/lang/StringUTF16", name := "indexOf", desc := "([BIII)I" } : Jvm.MethodName)) ∈ lw_all := lw_g (lw_at lw_m2 189 rfl) rfl
theorem q545 : (Jvm.Cond.code ({ cls := "java/lang/StringUTF16", name := "indexOf", desc := "([BIII)I" } : Jvm.MethodName) prog_28_method_40_code (4 : Nat) (Option.some Jvm.ClassFile.FieldType.int)) ∈ lw_all := lw_g (lw_at lw_m2 190 rfl) rfl
theorem q546 : (Jvm.Cond.methodLink "java/lang/StringUTF16" (224 : Nat) ({ cls := "java/lang/Math", name := "max", desc := "(II)I" } : Jvm.MethodName)) ∈ lw_all := lw_g (lw_at lw_m2 191 rfl) rfl
theorem q547 : (Jvm.Cond.methodLink "java/lang/StringUTF16" (183 : Nat) ({ cls := "java/lang/Math", name := "min", desc := "(II)I" } : Jvm.MethodName)) ∈ lw_all := lw_g (lw_at lw_m2 192 rfl) rfl
theorem q548 : (Jvm.Cond.constant "java/lang/StringUTF16" (227 : Nat) (65536 : Int32)) ∈ lw_all := lw_g (lw_at lw_m2 193 rfl) rfl
theorem q549 : (Jvm.Cond.methodLink "java/lang/StringUTF16" (228 : Nat) ({ cls := "java/lang/StringUTF16", name := "indexOfChar", desc := "([BIII)I" } : Jvm.MethodName)) ∈ lw_all := lw_g (lw_at lw_m2 194 rfl) rfl
theorem q550 : (Jvm.Cond.static ({ cls := "java/lang/StringUTF16", name := "indexOfChar", desc := "([BIII)I" } : Jvm.MethodName)) ∈ lw_all := lw_g (lw_at lw_m2 195 rfl) rfl
theorem q551 : (Jvm.Cond.code ({ cls := "java/lang/StringUTF16", name := "indexOfChar", desc := "([BIII)I" } : Jvm.MethodName) prog_28_method_47_code (4 : Nat) (Option.some Jvm.ClassFile.FieldType.int)) ∈ lw_all := lw_g (lw_at lw_m2 196 rfl) rfl
theorem q552 : (Jvm.Cond.methodLink "java/lang/StringUTF16" (96 : Nat) ({ cls := "java/lang/StringUTF16", name := "checkBoundsBeginEnd", desc := "(II[B)V" } : Jvm.MethodName)) ∈ lw_all := lw_g (lw_at lw_m2 197 rfl) rfl
theorem q553 : (Jvm.Cond.static ({ cls := "java/lang/StringUTF16", name := "checkBoundsBeginEnd", desc := "(II[B)V" } : Jvm.MethodName)) ∈ lw_all := lw_g (lw_at lw_m2 198 rfl) rfl
theorem q554 : (Jvm.Cond.code ({ cls := "java/lang/StringUTF16", name := "checkBoundsBeginEnd", desc := "(II[B)V" } : Jvm.MethodName) prog_28_method_93_code (3 : Nat) (Option.none : Option Jvm.ClassFile.FieldType)) ∈ lw_all := lw_g (lw_at lw_m2 199 rfl) rfl
theorem q555 : (Jvm.Cond.methodLink "java/lang/StringUTF16" (241 : Nat) ({ cls := "java/lang/String", name := "checkBoundsBeginEnd", desc := "(III)V" } : Jvm.MethodName)) ∈ lw_all := lw_g (lw_at lw_m2 200 rfl) rfl
theorem q561 : (Jvm.Cond.methodLink "java/lang/StringUTF16" (244 : Nat) ({ cls := "java/lang/StringUTF16", name := "indexOfCharUnsafe", desc := "([BIII)I" } : Jvm.MethodName)) ∈ lw_all := lw_g (lw_at lw_m2 206 rfl) rfl
theorem q562 : (Jvm.Cond.static ({ cls := "java/lang/StringUTF16", name := "indexOfCharUnsafe", desc := "([BIII)I" } : Jvm.MethodName)) ∈ lw_all := lw_g (lw_at lw_m2 207 rfl) rfl
theorem q563 : (Jvm.Cond.code ({ cls := "java/lang/StringUTF16", name := "indexOfCharUnsafe", desc := "([BIII)I" } : Jvm.MethodName) prog_28_method_48_code (5 : Nat) (Option.some Jvm.ClassFile.FieldType.int)) ∈ lw_all := lw_g (lw_at lw_m2 208 rfl) rfl
theorem q564 : (Jvm.Cond.methodLink "java/lang/StringUTF16" (232 : Nat) ({ cls := "java/lang/StringUTF16", name := "indexOfSupplementary", desc := "([BIII)I" } : Jvm.MethodName)) ∈ lw_all := lw_g (lw_at lw_m2 209 rfl) rfl
theorem q565 : (Jvm.Cond.static ({ cls := "java/lang/StringUTF16", name := "indexOfSupplementary", desc := "([BIII)I" } : Jvm.MethodName)) ∈ lw_all := lw_g (lw_at lw_m2 210 rfl) rfl
theorem q566 : (Jvm.Cond.code ({ cls := "java/lang/StringUTF16", name := "indexOfSupplementary", desc := "([BIII)I" } : Jvm.MethodName) prog_28_method_49_code (7 : Nat) (Option.some Jvm.ClassFile.FieldType.int)) ∈ lw_all := lw_g (lw_at lw_m2 211 rfl) rfl
theorem q567 : (Jvm.Cond.methodLink "java/lang/StringUTF16" (164 : Nat) ({ cls := "java/lang/Character", name := "isValidCodePoint", desc := "(I)Z" } : Jvm.MethodName)) ∈ lw_all := lw_g (lw_at lw_m2 212 rfl) rfl
theorem q570 : (Jvm.Cond.methodLink "java/lang/StringUTF16" (157 : Nat) ({ cls := "java/lang/Character", name := "highSurrogate", desc := "(I)C" } : Jvm.MethodName)) ∈ lw_all := lw_g (lw_at lw_m2 215 rfl) rfl
theorem q574 : (Jvm.Cond.methodLink "java/lang/StringUTF16" (161 : Nat) ({ cls := "java/lang/Character", name := "lowSurrogate", desc := "(I)C" } : Jvm.MethodName)) ∈ lw_all := lw_g (lw_at lw_m2 219 rfl) rfl
theorem q126 : (Jvm.Cond.initialized "java/lang/Math") ∈ lw_all := lw_g (lw_at lw_m1 11 rfl) rfl
theorem q319 : (Jvm.Cond.static ({ cls := "java/lang/Math", name := "min", desc := "(II)I" } : Jvm.MethodName)) ∈ lw_all := lw_g (lw_at lw_m1 204 rfl) rfl
theorem q320 : (Jvm.Cond.code ({ cls := "java/lang/Math", name := "min", desc := "(II)I" } : Jvm.MethodName) prog_22_method_69_code (2 : Nat) (Option.some Jvm.ClassFile.FieldType.int)) ∈ lw_all := lw_g (lw_at lw_m1 205 rfl) rfl
theorem q322 : (Jvm.Cond.static ({ cls := "java/lang/Math", name := "max", desc := "(II)I" } : Jvm.MethodName)) ∈ lw_all := lw_g (lw_at lw_m1 207 rfl) rfl
theorem q323 : (Jvm.Cond.code ({ cls := "java/lang/Math", name := "max", desc := "(II)I" } : Jvm.MethodName) prog_22_method_65_code (2 : Nat) (Option.some Jvm.ClassFile.FieldType.int)) ∈ lw_all := lw_g (lw_at lw_m1 208 rfl) rfl
theorem q1003 : (Jvm.Cond.static ({ cls := "java/lang/Math", name := "max", desc := "(JJ)J" } : Jvm.MethodName)) ∈ lw_all := lw_g (lw_at lw_m4 168 rfl) rfl
theorem q1004 : (Jvm.Cond.code ({ cls := "java/lang/Math", name := "max", desc := "(JJ)J" } : Jvm.MethodName) prog_22_method_66_code (4 : Nat) (Option.some Jvm.ClassFile.FieldType.long)) ∈ lw_all := lw_g (lw_at lw_m4 169 rfl) rfl
theorem q127 : (Jvm.Cond.initialized "java/lang/Character") ∈ lw_all := lw_g (lw_at lw_m1 12 rfl) rfl
theorem q568 : (Jvm.Cond.static ({ cls := "java/lang/Character", name := "isValidCodePoint", desc := "(I)Z" } : Jvm.MethodName)) ∈ lw_all := lw_g (lw_at lw_m2 213 rfl) rfl
theorem q569 : (Jvm.Cond.code ({ cls := "java/lang/Character", name := "isValidCodePoint", desc := "(I)Z" } : Jvm.MethodName) prog_18_method_11_code (2 : Nat) (Option.some Jvm.ClassFile.FieldType.boolean)) ∈ lw_all := lw_g (lw_at lw_m2 214 rfl) rfl
theorem q571 : (Jvm.Cond.static ({ cls := "java/lang/Character", name := "highSurrogate", desc := "(I)C" } : Jvm.MethodName)) ∈ lw_all := lw_g (lw_at lw_m2 216 rfl) rfl
theorem q572 : (Jvm.Cond.code ({ cls := "java/lang/Character", name := "highSurrogate", desc := "(I)C" } : Jvm.MethodName) prog_18_method_28_code (1 : Nat) (Option.some Jvm.ClassFile.FieldType.char)) ∈ lw_all := lw_g (lw_at lw_m2 217 rfl) rfl
theorem q573 : (Jvm.Cond.constant "java/lang/Character" (110 : Nat) (55232 : Int32)) ∈ lw_all := lw_g (lw_at lw_m2 218 rfl) rfl
theorem q575 : (Jvm.Cond.static ({ cls := "java/lang/Character", name := "lowSurrogate", desc := "(I)C" } : Jvm.MethodName)) ∈ lw_all := lw_g (lw_at lw_m2 220 rfl) rfl
theorem q576 : (Jvm.Cond.code ({ cls := "java/lang/Character", name := "lowSurrogate", desc := "(I)C" } : Jvm.MethodName) prog_18_method_29_code (1 : Nat) (Option.some Jvm.ClassFile.FieldType.char)) ∈ lw_all := lw_g (lw_at lw_m2 221 rfl) rfl
theorem q577 : (Jvm.Cond.constant "java/lang/Character" (76 : Nat) (56320 : Int32)) ∈ lw_all := lw_g (lw_at lw_m2 222 rfl) rfl
theorem q140 : (Jvm.Cond.initialized "java/lang/IndexOutOfBoundsException") ∈ lw_all := lw_g (lw_at lw_m1 25 rfl) rfl
theorem q714 : (Jvm.Cond.selects "java/lang/IndexOutOfBoundsException" ({ cls := "java/lang/Throwable", name := "fillInStackTrace", desc := "()Ljava/lang/Throwable;" } : Jvm.MethodName) ({ cls := "java/lang/Throwable", name := "fillInStackTrace", desc := "()Ljava/lang/Throwable;" } : Jvm.MethodName)) ∈ lw_all := lw_g (lw_at lw_m3 119 rfl) rfl
theorem q1041 : (Jvm.Cond.instantiable "java/lang/IndexOutOfBoundsException" (6 : Nat)) ∈ lw_all := lw_g (lw_at lw_m4 206 rfl) rfl
theorem q1042 : (Jvm.Cond.castable "java/lang/IndexOutOfBoundsException" "java/lang/IndexOutOfBoundsException") ∈ lw_tbl := lw_at lw_m4 207 rfl
theorem q1043 : (Jvm.Cond.selects "java/lang/IndexOutOfBoundsException" ({ cls := "java/lang/Throwable", name := "fillInStackTrace", desc := "(I)Ljava/lang/Throwable;" } : Jvm.MethodName) ({ cls := "java/lang/Throwable", name := "fillInStackTrace", desc := "(I)Ljava/lang/Throwable;" } : Jvm.MethodName)) ∈ lw_all := lw_g (lw_at lw_m4 208 rfl) rfl
theorem q1044 : (Jvm.Cond.lays "java/lang/IndexOutOfBoundsException" "java/lang/Throwable" "cause" "Ljava/lang/Throwable;") ∈ lw_all := lw_g (lw_at lw_m4 209 rfl) rfl
theorem q1045 : (Jvm.Cond.lays "java/lang/IndexOutOfBoundsException" "java/lang/Throwable" "stackTrace" "[Ljava/lang/StackTraceElement;") ∈ lw_all := lw_g (lw_at lw_m4 210 rfl) rfl
theorem q1046 : (Jvm.Cond.lays "java/lang/IndexOutOfBoundsException" "java/lang/Throwable" "suppressedExceptions" "Ljava/util/List;") ∈ lw_all := lw_g (lw_at lw_m4 211 rfl) rfl
theorem q1047 : (Jvm.Cond.lays "java/lang/IndexOutOfBoundsException" "java/lang/Throwable" "detailMessage" "Ljava/lang/String;") ∈ lw_all := lw_g (lw_at lw_m4 212 rfl) rfl
theorem q1048 : (Jvm.Cond.lays "java/lang/IndexOutOfBoundsException" "java/lang/Throwable" "backtrace" "Ljava/lang/Object;") ∈ lw_all := lw_g (lw_at lw_m4 213 rfl) rfl
theorem q1050 : (Jvm.Cond.instanceMethod ({ cls := "java/lang/IndexOutOfBoundsException", name := "<init>", desc := "()V" } : Jvm.MethodName)) ∈ lw_all := lw_g (lw_at lw_m4 215 rfl) rfl
theorem q1051 : (Jvm.Cond.code ({ cls := "java/lang/IndexOutOfBoundsException", name := "<init>", desc := "()V" } : Jvm.MethodName) prog_21_method_1_code (1 : Nat) (Option.none : Option Jvm.ClassFile.FieldType)) ∈ lw_all := lw_g (lw_at lw_m4 216 rfl) rfl
theorem q1052 : (Jvm.Cond.methodLink "java/lang/IndexOutOfBoundsException" (1 : Nat) ({ cls := "java/lang/RuntimeException", name := "<init>", desc := "()V" } : Jvm.MethodName)) ∈ lw_all := lw_g (lw_at lw_m4 217 rfl) rfl
theorem q1059 : (Jvm.Cond.lays "java/lang/IndexOutOfBoundsException" "java/lang/Throwable" "depth" "I") ∈ lw_all := lw_g (lw_at lw_m4 224 rfl) rfl
theorem q1060 : (Jvm.Cond.superclass "java/lang/IndexOutOfBoundsException" "java/lang/RuntimeException") ∈ lw_all := lw_g (lw_at lw_m4 225 rfl) rfl
theorem q1161 : (Jvm.Cond.instanceMethod ({ cls := "java/lang/IndexOutOfBoundsException", name := "<init>", desc := "(Ljava/lang/String;)V" } : Jvm.MethodName)) ∈ lw_all := lw_g (lw_at lw_m5 86 rfl) rfl
theorem q1162 : (Jvm.Cond.code ({ cls := "java/lang/IndexOutOfBoundsException", name := "<init>", desc := "(Ljava/lang/String;)V" } : Jvm.MethodName) prog_21_method_2_code (2 : Nat) (Option.none : Option Jvm.ClassFile.FieldType)) ∈ lw_all := lw_g (lw_at lw_m5 87 rfl) rfl
theorem q1163 : (Jvm.Cond.methodLink "java/lang/IndexOutOfBoundsException" (7 : Nat) ({ cls := "java/lang/RuntimeException", name := "<init>", desc := "(Ljava/lang/String;)V" } : Jvm.MethodName)) ∈ lw_all := lw_g (lw_at lw_m5 88 rfl) rfl
theorem q1172 : (Jvm.Cond.declares ({ cls := "java/lang/IndexOutOfBoundsException", name := "<init>", desc := "()V" } : Jvm.MethodName)) ∈ lw_tbl := lw_at lw_m5 97 rfl
theorem q1173 : (Jvm.Cond.declares ({ cls := "java/lang/IndexOutOfBoundsException", name := "<init>", desc := "(Ljava/lang/String;)V" } : Jvm.MethodName)) ∈ lw_tbl := lw_at lw_m5 98 rfl
theorem in_J9 : ∀ w ∈ wsJ90, w ∈ lw_all := lw_in wsJ90 [1044, 1045, 1046, 1047, 1048, 1059] (by decide +kernel) (by decide +kernel)
theorem q141 : (Jvm.Cond.initialized "java/lang/NegativeArraySizeException") ∈ lw_all := lw_g (lw_at lw_m1 26 rfl) rfl
theorem q715 : (Jvm.Cond.selects "java/lang/NegativeArraySizeException" ({ cls := "java/lang/Throwable", name := "fillInStackTrace", desc := "()Ljava/lang/Throwable;" } : Jvm.MethodName) ({ cls := "java/lang/Throwable", name := "fillInStackTrace", desc := "()Ljava/lang/Throwable;" } : Jvm.MethodName)) ∈ lw_all := lw_g (lw_at lw_m3 120 rfl) rfl
theorem q1104 : (Jvm.Cond.instantiable "java/lang/NegativeArraySizeException" (6 : Nat)) ∈ lw_all := lw_g (lw_at lw_m5 29 rfl) rfl
theorem q1105 : (Jvm.Cond.instanceMethod ({ cls := "java/lang/NegativeArraySizeException", name := "<init>", desc := "(Ljava/lang/String;)V" } : Jvm.MethodName)) ∈ lw_all := lw_g (lw_at lw_m5 30 rfl) rfl
theorem q1106 : (Jvm.Cond.code ({ cls := "java/lang/NegativeArraySizeException", name := "<init>", desc := "(Ljava/lang/String;)V" } : Jvm.MethodName) prog_23_method_2_code (2 : Nat) (Option.none : Option Jvm.ClassFile.FieldType)) ∈ lw_all := lw_g (lw_at lw_m5 31 rfl) rfl
theorem q1107 : (Jvm.Cond.methodLink "java/lang/NegativeArraySizeException" (7 : Nat) ({ cls := "java/lang/RuntimeException", name := "<init>", desc := "(Ljava/lang/String;)V" } : Jvm.MethodName)) ∈ lw_all := lw_g (lw_at lw_m5 32 rfl) rfl
theorem q1116 : (Jvm.Cond.lays "java/lang/NegativeArraySizeException" "java/lang/Throwable" "backtrace" "Ljava/lang/Object;") ∈ lw_all := lw_g (lw_at lw_m5 41 rfl) rfl
theorem q1117 : (Jvm.Cond.lays "java/lang/NegativeArraySizeException" "java/lang/Throwable" "detailMessage" "Ljava/lang/String;") ∈ lw_all := lw_g (lw_at lw_m5 42 rfl) rfl
theorem q1118 : (Jvm.Cond.lays "java/lang/NegativeArraySizeException" "java/lang/Throwable" "cause" "Ljava/lang/Throwable;") ∈ lw_all := lw_g (lw_at lw_m5 43 rfl) rfl
theorem q1119 : (Jvm.Cond.lays "java/lang/NegativeArraySizeException" "java/lang/Throwable" "stackTrace" "[Ljava/lang/StackTraceElement;") ∈ lw_all := lw_g (lw_at lw_m5 44 rfl) rfl
theorem q1120 : (Jvm.Cond.lays "java/lang/NegativeArraySizeException" "java/lang/Throwable" "depth" "I") ∈ lw_all := lw_g (lw_at lw_m5 45 rfl) rfl
theorem q1121 : (Jvm.Cond.lays "java/lang/NegativeArraySizeException" "java/lang/Throwable" "suppressedExceptions" "Ljava/util/List;") ∈ lw_all := lw_g (lw_at lw_m5 46 rfl) rfl
theorem q1122 : (Jvm.Cond.superclass "java/lang/NegativeArraySizeException" "java/lang/RuntimeException") ∈ lw_all := lw_g (lw_at lw_m5 47 rfl) rfl
theorem q1123 : (Jvm.Cond.castable "java/lang/NegativeArraySizeException" "java/lang/NegativeArraySizeException") ∈ lw_tbl := lw_at lw_m5 48 rfl
theorem q1124 : (Jvm.Cond.selects "java/lang/NegativeArraySizeException" ({ cls := "java/lang/Throwable", name := "fillInStackTrace", desc := "(I)Ljava/lang/Throwable;" } : Jvm.MethodName) ({ cls := "java/lang/Throwable", name := "fillInStackTrace", desc := "(I)Ljava/lang/Throwable;" } : Jvm.MethodName)) ∈ lw_all := lw_g (lw_at lw_m5 49 rfl) rfl
theorem in_J10 : ∀ w ∈ wsJ100, w ∈ lw_all := lw_in wsJ100 [1116, 1117, 1118, 1119, 1120, 1121] (by decide +kernel) (by decide +kernel)
theorem q142 : (Jvm.Cond.initialized "java/lang/NullPointerException") ∈ lw_all := lw_g (lw_at lw_m1 27 rfl) rfl
theorem q716 : (Jvm.Cond.selects "java/lang/NullPointerException" ({ cls := "java/lang/Throwable", name := "fillInStackTrace", desc := "()Ljava/lang/Throwable;" } : Jvm.MethodName) ({ cls := "java/lang/NullPointerException", name := "fillInStackTrace", desc := "()Ljava/lang/Throwable;" } : Jvm.MethodName)) ∈ lw_all := lw_g (lw_at lw_m3 121 rfl) rfl
theorem q717 : (Jvm.Cond.instanceMethod ({ cls := "java/lang/NullPointerException", name := "fillInStackTrace", desc := "()Ljava/lang/Throwable;" } : Jvm.MethodName)) ∈ lw_all := lw_g (lw_at lw_m3 122 rfl) rfl
theorem q718 : (Jvm.Cond.codeSync ({ cls := "java/lang/NullPointerException", name := "fillInStackTrace", desc := "()Ljava/lang/Throwable;" } : Jvm.MethodName) prog_24_method_3_code (1 : Nat) (Option.some (Jvm.ClassFile.FieldType.object "java/lang/Throwable"))) ∈ lw_all := lw_g (lw_at lw_m3 123 rfl) rfl
theorem q719 : (Jvm.Cond.methodLink "java/lang/NullPointerException" (16 : Nat) ({ cls := "java/lang/NullPointerException", name := "getExtendedNPEMessage", desc := "()Ljava/lang/String;" } : Jvm.MethodName)) ∈ lw_all := lw_g (lw_at lw_m3 124 rfl) rfl
theorem q720 : (Jvm.Cond.privateMethod ({ cls := "java/lang/NullPointerException", name := "getExtendedNPEMessage", desc := "()Ljava/lang/String;" } : Jvm.MethodName)) ∈ lw_tbl := lw_at lw_m3 125 rfl
theorem q721 : (Jvm.Cond.instanceMethod ({ cls := "java/lang/NullPointerException", name := "getExtendedNPEMessage", desc := "()Ljava/lang/String;" } : Jvm.MethodName)) ∈ lw_all := lw_g (lw_at lw_m3 126 rfl) rfl
theorem q722 : (Jvm.Cond.instantiable "java/lang/NullPointerException" (8 : Nat)) ∈ lw_all := lw_g (lw_at lw_m3 127 rfl) rfl
theorem q723 : (Jvm.Cond.native ({ cls := "java/lang/NullPointerException", name := "getExtendedNPEMessage", desc := "()Ljava/lang/String;" } : Jvm.MethodName)) ∈ lw_all := lw_g (lw_at lw_m3 128 rfl) rfl
theorem q724 : (Jvm.Cond.methodLink "java/lang/NullPointerException" (24 : Nat) ({ cls := "java/lang/RuntimeException", name := "fillInStackTrace", desc := "()Ljava/lang/Throwable;" } : Jvm.MethodName)) ∈ lw_all := lw_g (lw_at lw_m3 129 rfl) rfl
theorem q727 : (Jvm.Cond.superclass "java/lang/NullPointerException" "java/lang/RuntimeException") ∈ lw_all := lw_g (lw_at lw_m3 132 rfl) rfl
theorem q1139 : (Jvm.Cond.instanceMethod ({ cls := "java/lang/NullPointerException", name := "<init>", desc := "()V" } : Jvm.MethodName)) ∈ lw_all := lw_g (lw_at lw_m5 64 rfl) rfl
theorem q1140 : (Jvm.Cond.code ({ cls := "java/lang/NullPointerException", name := "<init>", desc := "()V" } : Jvm.MethodName) prog_24_method_1_code (1 : Nat) (Option.none : Option Jvm.ClassFile.FieldType)) ∈ lw_all := lw_g (lw_at lw_m5 65 rfl) rfl
theorem q1141 : (Jvm.Cond.methodLink "java/lang/NullPointerException" (1 : Nat) ({ cls := "java/lang/RuntimeException", name := "<init>", desc := "()V" } : Jvm.MethodName)) ∈ lw_all := lw_g (lw_at lw_m5 66 rfl) rfl
theorem q1142 : (Jvm.Cond.fieldLink "java/lang/NullPointerException" (10 : Nat) "java/lang/NullPointerException" "extendedMessageState" "I") ∈ lw_all := lw_g (lw_at lw_m5 67 rfl) rfl
theorem q1143 : (Jvm.Cond.fieldLink "java/lang/NullPointerException" (20 : Nat) "java/lang/NullPointerException" "extendedMessage" "Ljava/lang/String;") ∈ lw_all := lw_g (lw_at lw_m5 68 rfl) rfl
theorem q1144 : (Jvm.Cond.lays "java/lang/NullPointerException" "java/lang/NullPointerException" "extendedMessageState" "I") ∈ lw_all := lw_g (lw_at lw_m5 69 rfl) rfl
theorem q1145 : (Jvm.Cond.soleField "java/lang/NullPointerException" "extendedMessageState") ∈ lw_all := lw_g (lw_at lw_m5 70 rfl) rfl
theorem q1146 : (Jvm.Cond.lays "java/lang/NullPointerException" "java/lang/NullPointerException" "extendedMessage" "Ljava/lang/String;") ∈ lw_all := lw_g (lw_at lw_m5 71 rfl) rfl
theorem q1147 : (Jvm.Cond.soleField "java/lang/NullPointerException" "extendedMessage") ∈ lw_all := lw_g (lw_at lw_m5 72 rfl) rfl
theorem q1148 : (Jvm.Cond.lays "java/lang/NullPointerException" "java/lang/Throwable" "backtrace" "Ljava/lang/Object;") ∈ lw_all := lw_g (lw_at lw_m5 73 rfl) rfl
theorem q1149 : (Jvm.Cond.lays "java/lang/NullPointerException" "java/lang/Throwable" "detailMessage" "Ljava/lang/String;") ∈ lw_all := lw_g (lw_at lw_m5 74 rfl) rfl
theorem q1150 : (Jvm.Cond.lays "java/lang/NullPointerException" "java/lang/Throwable" "cause" "Ljava/lang/Throwable;") ∈ lw_all := lw_g (lw_at lw_m5 75 rfl) rfl
theorem q1151 : (Jvm.Cond.lays "java/lang/NullPointerException" "java/lang/Throwable" "stackTrace" "[Ljava/lang/StackTraceElement;") ∈ lw_all := lw_g (lw_at lw_m5 76 rfl) rfl
theorem q1152 : (Jvm.Cond.lays "java/lang/NullPointerException" "java/lang/Throwable" "depth" "I") ∈ lw_all := lw_g (lw_at lw_m5 77 rfl) rfl
theorem q1153 : (Jvm.Cond.lays "java/lang/NullPointerException" "java/lang/Throwable" "suppressedExceptions" "Ljava/util/List;") ∈ lw_all := lw_g (lw_at lw_m5 78 rfl) rfl
theorem q1154 : (Jvm.Cond.castable "java/lang/NullPointerException" "java/lang/NullPointerException") ∈ lw_tbl := lw_at lw_m5 79 rfl
theorem q1155 : (Jvm.Cond.selects "java/lang/NullPointerException" ({ cls := "java/lang/Throwable", name := "fillInStackTrace", desc := "(I)Ljava/lang/Throwable;" } : Jvm.MethodName) ({ cls := "java/lang/Throwable", name := "fillInStackTrace", desc := "(I)Ljava/lang/Throwable;" } : Jvm.MethodName)) ∈ lw_all := lw_g (lw_at lw_m5 80 rfl) rfl
theorem in_J11 : ∀ w ∈ wsJ110, w ∈ lw_all := lw_in wsJ110 [1148, 1149, 1150, 1151, 1152, 1153, 1144, 1146] (by decide +kernel) (by decide +kernel)
theorem q143 : (Jvm.Cond.initialized "java/lang/ArrayIndexOutOfBoundsException") ∈ lw_all := lw_g (lw_at lw_m1 28 rfl) rfl
theorem q712 : (Jvm.Cond.selects "java/lang/ArrayIndexOutOfBoundsException" ({ cls := "java/lang/Throwable", name := "fillInStackTrace", desc := "()Ljava/lang/Throwable;" } : Jvm.MethodName) ({ cls := "java/lang/Throwable", name := "fillInStackTrace", desc := "()Ljava/lang/Throwable;" } : Jvm.MethodName)) ∈ lw_all := lw_g (lw_at lw_m3 117 rfl) rfl
theorem q1157 : (Jvm.Cond.instantiable "java/lang/ArrayIndexOutOfBoundsException" (6 : Nat)) ∈ lw_all := lw_g (lw_at lw_m5 82 rfl) rfl
theorem q1158 : (Jvm.Cond.instanceMethod ({ cls := "java/lang/ArrayIndexOutOfBoundsException", name := "<init>", desc := "(Ljava/lang/String;)V" } : Jvm.MethodName)) ∈ lw_all := lw_g (lw_at lw_m5 83 rfl) rfl
theorem q1159 : (Jvm.Cond.code ({ cls := "java/lang/ArrayIndexOutOfBoundsException", name := "<init>", desc := "(Ljava/lang/String;)V" } : Jvm.MethodName) prog_17_method_2_code (2 : Nat) (Option.none : Option Jvm.ClassFile.FieldType)) ∈ lw_all := lw_g (lw_at lw_m5 84 rfl) rfl
theorem q1160 : (Jvm.Cond.methodLink "java/lang/ArrayIndexOutOfBoundsException" (7 : Nat) ({ cls := "java/lang/IndexOutOfBoundsException", name := "<init>", desc := "(Ljava/lang/String;)V" } : Jvm.MethodName)) ∈ lw_all := lw_g (lw_at lw_m5 85 rfl) rfl
theorem q1164 : (Jvm.Cond.lays "java/lang/ArrayIndexOutOfBoundsException" "java/lang/Throwable" "backtrace" "Ljava/lang/Object;") ∈ lw_all := lw_g (lw_at lw_m5 89 rfl) rfl
theorem q1165 : (Jvm.Cond.lays "java/lang/ArrayIndexOutOfBoundsException" "java/lang/Throwable" "detailMessage" "Ljava/lang/String;") ∈ lw_all := lw_g (lw_at lw_m5 90 rfl) rfl
theorem q1166 : (Jvm.Cond.lays "java/lang/ArrayIndexOutOfBoundsException" "java/lang/Throwable" "cause" "Ljava/lang/Throwable;") ∈ lw_all := lw_g (lw_at lw_m5 91 rfl) rfl
theorem q1167 : (Jvm.Cond.lays "java/lang/ArrayIndexOutOfBoundsException" "java/lang/Throwable" "stackTrace" "[Ljava/lang/StackTraceElement;") ∈ lw_all := lw_g (lw_at lw_m5 92 rfl) rfl
theorem q1168 : (Jvm.Cond.lays "java/lang/ArrayIndexOutOfBoundsException" "java/lang/Throwable" "depth" "I") ∈ lw_all := lw_g (lw_at lw_m5 93 rfl) rfl
theorem q1169 : (Jvm.Cond.lays "java/lang/ArrayIndexOutOfBoundsException" "java/lang/Throwable" "suppressedExceptions" "Ljava/util/List;") ∈ lw_all := lw_g (lw_at lw_m5 94 rfl) rfl
theorem q1170 : (Jvm.Cond.superclass "java/lang/ArrayIndexOutOfBoundsException" "java/lang/IndexOutOfBoundsException") ∈ lw_all := lw_g (lw_at lw_m5 95 rfl) rfl
theorem q1171 : (Jvm.Cond.castable "java/lang/ArrayIndexOutOfBoundsException" "java/lang/ArrayIndexOutOfBoundsException") ∈ lw_tbl := lw_at lw_m5 96 rfl
theorem q1174 : (Jvm.Cond.selects "java/lang/ArrayIndexOutOfBoundsException" ({ cls := "java/lang/Throwable", name := "fillInStackTrace", desc := "(I)Ljava/lang/Throwable;" } : Jvm.MethodName) ({ cls := "java/lang/Throwable", name := "fillInStackTrace", desc := "(I)Ljava/lang/Throwable;" } : Jvm.MethodName)) ∈ lw_all := lw_g (lw_at lw_m5 99 rfl) rfl
theorem q1820 : (Jvm.Cond.castable "java/lang/ArrayIndexOutOfBoundsException" "java/lang/IndexOutOfBoundsException") ∈ lw_tbl := lw_at lw_m8 25 rfl
theorem in_J12 : ∀ w ∈ wsJ120, w ∈ lw_all := lw_in wsJ120 [1164, 1165, 1166, 1167, 1168, 1169] (by decide +kernel) (by decide +kernel)
theorem q145 : (Jvm.Cond.initialized "java/lang/ClassCastException") ∈ lw_all := lw_g (lw_at lw_m1 30 rfl) rfl
theorem q713 : (Jvm.Cond.selects "java/lang/ClassCastException" ({ cls := "java/lang/Throwable", name := "fillInStackTrace", desc := "()Ljava/lang/Throwable;" } : Jvm.MethodName) ({ cls := "java/lang/Throwable", name := "fillInStackTrace", desc := "()Ljava/lang/Throwable;" } : Jvm.MethodName)) ∈ lw_all := lw_g (lw_at lw_m3 118 rfl) rfl
theorem q1219 : (Jvm.Cond.instantiable "java/lang/ClassCastException" (6 : Nat)) ∈ lw_all := lw_g (lw_at lw_m5 144 rfl) rfl
theorem q1220 : (Jvm.Cond.instanceMethod ({ cls := "java/lang/ClassCastException", name := "<init>", desc := "(Ljava/lang/String;)V" } : Jvm.MethodName)) ∈ lw_all := lw_g (lw_at lw_m5 145 rfl) rfl
theorem q1221 : (Jvm.Cond.code ({ cls := "java/lang/ClassCastException", name := "<init>", desc := "(Ljava/lang/String;)V" } : Jvm.MethodName) prog_19_method_2_code (2 : Nat) (Option.none : Option Jvm.ClassFile.FieldType)) ∈ lw_all := lw_g (lw_at lw_m5 146 rfl) rfl
theorem q1222 : (Jvm.Cond.methodLink "java/lang/ClassCastException" (7 : Nat) ({ cls := "java/lang/RuntimeException", name := "<init>", desc := "(Ljava/lang/String;)V" } : Jvm.MethodName)) ∈ lw_all := lw_g (lw_at lw_m5 147 rfl) rfl
theorem q1223 : (Jvm.Cond.lays "java/lang/ClassCastException" "java/lang/Throwable" "backtrace" "Ljava/lang/Object;") ∈ lw_all := lw_g (lw_at lw_m5 148 rfl) rfl
theorem q1224 : (Jvm.Cond.lays "java/lang/ClassCastException" "java/lang/Throwable" "detailMessage" "Ljava/lang/String;") ∈ lw_all := lw_g (lw_at lw_m5 149 rfl) rfl
theorem q1225 : (Jvm.Cond.lays "java/lang/ClassCastException" "java/lang/Throwable" "cause" "Ljava/lang/Throwable;") ∈ lw_all := lw_g (lw_at lw_m5 150 rfl) rfl
theorem q1226 : (Jvm.Cond.lays "java/lang/ClassCastException" "java/lang/Throwable" "stackTrace" "[Ljava/lang/StackTraceElement;") ∈ lw_all := lw_g (lw_at lw_m5 151 rfl) rfl
theorem q1227 : (Jvm.Cond.lays "java/lang/ClassCastException" "java/lang/Throwable" "depth" "I") ∈ lw_all := lw_g (lw_at lw_m5 152 rfl) rfl
theorem q1228 : (Jvm.Cond.lays "java/lang/ClassCastException" "java/lang/Throwable" "suppressedExceptions" "Ljava/util/List;") ∈ lw_all := lw_g (lw_at lw_m5 153 rfl) rfl
theorem q1229 : (Jvm.Cond.superclass "java/lang/ClassCastException" "java/lang/RuntimeException") ∈ lw_all := lw_g (lw_at lw_m5 154 rfl) rfl
theorem q1230 : (Jvm.Cond.castable "java/lang/ClassCastException" "java/lang/ClassCastException") ∈ lw_tbl := lw_at lw_m5 155 rfl
theorem q1231 : (Jvm.Cond.selects "java/lang/ClassCastException" ({ cls := "java/lang/Throwable", name := "fillInStackTrace", desc := "(I)Ljava/lang/Throwable;" } : Jvm.MethodName) ({ cls := "java/lang/Throwable", name := "fillInStackTrace", desc := "(I)Ljava/lang/Throwable;" } : Jvm.MethodName)) ∈ lw_all := lw_g (lw_at lw_m5 156 rfl) rfl
theorem in_J13 : ∀ w ∈ wsJ130, w ∈ lw_all := lw_in wsJ130 [1223, 1224, 1225, 1226, 1227, 1228] (by decide +kernel) (by decide +kernel)
theorem q171 : (Jvm.Cond.instanceMethod ({ cls := "java/lang/Object", name := "<init>", desc := "()V" } : Jvm.MethodName)) ∈ lw_all := lw_g (lw_at lw_m1 56 rfl) rfl
theorem q172 : (Jvm.Cond.code ({ cls := "java/lang/Object", name := "<init>", desc := "()V" } : Jvm.MethodName) object_method_1_code (1 : Nat) (Option.none : Option Jvm.ClassFile.FieldType)) ∈ lw_all := lw_g (lw_at lw_m1 57 rfl) rfl
theorem q443 : (Jvm.Cond.arrayOver (Jvm.ClassFile.FieldType.object "BulbInAStaff$Node")) ∈ lw_tbl := lw_at lw_m2 88 rfl
theorem q618 : (Jvm.Cond.arrayClass Jvm.ClassFile.FieldType.byte) ∈ lw_all := lw_g (lw_at lw_m3 23 rfl) rfl
theorem q679 : (Jvm.Cond.arrayOver (Jvm.ClassFile.FieldType.object "BulbInAStaff$Bulb")) ∈ lw_tbl := lw_at lw_m3 84 rfl
theorem q761 : (Jvm.Cond.arrayClass Jvm.ClassFile.FieldType.int) ∈ lw_all := lw_g (lw_at lw_m3 166 rfl) rfl
theorem q763 : (Jvm.Cond.arrayOver (Jvm.ClassFile.FieldType.array (Jvm.ClassFile.FieldType.object "BulbInAStaff$Node"))) ∈ lw_tbl := lw_at lw_m3 168 rfl
theorem q765 : (Jvm.Cond.arrayOver (Jvm.ClassFile.FieldType.object "java/lang/String")) ∈ lw_tbl := lw_at lw_m3 170 rfl
theorem q779 : (Jvm.Cond.arrayOver (Jvm.ClassFile.FieldType.array Jvm.ClassFile.FieldType.int)) ∈ lw_tbl := lw_at lw_m3 184 rfl
theorem q781 : (Jvm.Cond.arrayOver (Jvm.ClassFile.FieldType.object "BulbInAStaff$Sheet")) ∈ lw_tbl := lw_at lw_m3 186 rfl
theorem q1178 : (Jvm.Cond.arrayClass Jvm.ClassFile.FieldType.short) ∈ lw_all := lw_g (lw_at lw_m5 103 rfl) rfl
theorem q1380 : (Jvm.Cond.arrayClass Jvm.ClassFile.FieldType.boolean) ∈ lw_all := lw_g (lw_at lw_m6 65 rfl) rfl
theorem q115 : (Jvm.Cond.initialized "BulbInAStaffLaw") ∈ lw_all := lw_g (lw_at lw_m1 0 rfl) rfl
theorem q146 : (Jvm.Cond.methodLink "BulbInAStaffLaw" (18 : Nat) ({ cls := "BulbInAStaff", name := "plant", desc := "(III)I" } : Jvm.MethodName)) ∈ lw_all := lw_g (lw_at lw_m1 31 rfl) rfl
theorem q240 : (Jvm.Cond.methodLink "BulbInAStaffLaw" (13 : Nat) ({ cls := "BulbInAStaff", name := "set", desc := "(III)I" } : Jvm.MethodName)) ∈ lw_all := lw_g (lw_at lw_m1 125 rfl) rfl
theorem q427 : (Jvm.Cond.methodLink "BulbInAStaffLaw" (22 : Nat) ({ cls := "BulbInAStaff", name := "told", desc := "(II)I" } : Jvm.MethodName)) ∈ lw_all := lw_g (lw_at lw_m2 72 rfl) rfl
theorem q428 : (Jvm.Cond.methodLink "BulbInAStaffLaw" (36 : Nat) ({ cls := "BulbInAStaff", name := "feed", desc := "(I)I" } : Jvm.MethodName)) ∈ lw_all := lw_g (lw_at lw_m2 73 rfl) rfl
theorem q433 : (Jvm.Cond.methodLink "BulbInAStaffLaw" (40 : Nat) ({ cls := "BulbInAStaff", name := "text", desc := "()I" } : Jvm.MethodName)) ∈ lw_all := lw_g (lw_at lw_m2 78 rfl) rfl
theorem q674 : (Jvm.Cond.classLink "BulbInAStaffLaw" (7 : Nat) "BulbInAStaff") ∈ lw_all := lw_g (lw_at lw_m3 79 rfl) rfl
theorem q675 : (Jvm.Cond.methodLink "BulbInAStaffLaw" (9 : Nat) ({ cls := "BulbInAStaff", name := "<init>", desc := "()V" } : Jvm.MethodName)) ∈ lw_all := lw_g (lw_at lw_m3 80 rfl) rfl
theorem q895 : (Jvm.Cond.methodLink "BulbInAStaffLaw" (45 : Nat) ({ cls := "BulbInAStaff", name := "force", desc := "(I)I" } : Jvm.MethodName)) ∈ lw_all := lw_g (lw_at lw_m4 60 rfl) rfl
theorem q903 : (Jvm.Cond.methodLink "BulbInAStaffLaw" (27 : Nat) ({ cls := "BulbInAStaff", name := "dig", desc := "(III)I" } : Jvm.MethodName)) ∈ lw_all := lw_g (lw_at lw_m4 68 rfl) rfl
theorem q907 : (Jvm.Cond.methodLink "BulbInAStaffLaw" (31 : Nat) ({ cls := "BulbInAStaff", name := "sell", desc := "(I)I" } : Jvm.MethodName)) ∈ lw_all := lw_g (lw_at lw_m4 72 rfl) rfl
theorem q916 : (Jvm.Cond.methodLink "BulbInAStaffLaw" (49 : Nat) ({ cls := "BulbInAStaff", name := "year", desc := "()I" } : Jvm.MethodName)) ∈ lw_all := lw_g (lw_at lw_m4 81 rfl) rfl
theorem q928 : (Jvm.Cond.methodLink "BulbInAStaffLaw" (53 : Nat) ({ cls := "BulbInAStaff", name := "run", desc := "(II)I" } : Jvm.MethodName)) ∈ lw_all := lw_g (lw_at lw_m4 93 rfl) rfl
theorem q961 : (Jvm.Cond.methodLink "BulbInAStaffLaw" (57 : Nat) ({ cls := "BulbInAStaff", name := "first", desc := "(II)I" } : Jvm.MethodName)) ∈ lw_all := lw_g (lw_at lw_m4 126 rfl) rfl
theorem q966 : (Jvm.Cond.methodLink "BulbInAStaffLaw" (61 : Nat) ({ cls := "BulbInAStaff", name := "found", desc := "(III)J" } : Jvm.MethodName)) ∈ lw_all := lw_g (lw_at lw_m4 131 rfl) rfl
theorem q980 : (Jvm.Cond.methodLink "BulbInAStaffLaw" (66 : Nat) ({ cls := "BulbInAStaff", name := "soil", desc := "(III)I" } : Jvm.MethodName)) ∈ lw_all := lw_g (lw_at lw_m4 145 rfl) rfl
theorem q988 : (Jvm.Cond.methodLink "BulbInAStaffLaw" (70 : Nat) ({ cls := "BulbInAStaff", name := "sown", desc := "(II)I" } : Jvm.MethodName)) ∈ lw_all := lw_g (lw_at lw_m4 153 rfl) rfl
theorem q997 : (Jvm.Cond.methodLink "BulbInAStaffLaw" (74 : Nat) ({ cls := "BulbInAStaff", name := "safest", desc := "(I)I" } : Jvm.MethodName)) ∈ lw_all := lw_g (lw_at lw_m4 162 rfl) rfl
theorem q1005 : (Jvm.Cond.methodLink "BulbInAStaffLaw" (78 : Nat) ({ cls := "BulbInAStaff", name := "when", desc := "(II)I" } : Jvm.MethodName)) ∈ lw_all := lw_g (lw_at lw_m4 170 rfl) rfl
theorem q1009 : (Jvm.Cond.methodLink "BulbInAStaffLaw" (82 : Nat) ({ cls := "BulbInAStaff", name := "enough", desc := "(III)I" } : Jvm.MethodName)) ∈ lw_all := lw_g (lw_at lw_m4 174 rfl) rfl
theorem q1013 : (Jvm.Cond.methodLink "BulbInAStaffLaw" (86 : Nat) ({ cls := "BulbInAStaff", name := "tells", desc := "(III)I" } : Jvm.MethodName)) ∈ lw_all := lw_g (lw_at lw_m4 178 rfl) rfl
theorem q1095 : (Jvm.Cond.methodLink "BulbInAStaffLaw" (90 : Nat) ({ cls := "BulbInAStaff", name := "film", desc := "(III)I" } : Jvm.MethodName)) ∈ lw_all := lw_g (lw_at lw_m5 20 rfl) rfl
theorem q1179 : (Jvm.Cond.methodLink "BulbInAStaffLaw" (94 : Nat) ({ cls := "BulbInAStaff", name := "drawn", desc := "(II)I" } : Jvm.MethodName)) ∈ lw_all := lw_g (lw_at lw_m5 104 rfl) rfl
theorem q1188 : (Jvm.Cond.methodLink "BulbInAStaffLaw" (98 : Nat) ({ cls := "BulbInAStaff", name := "chance", desc := "(III)J" } : Jvm.MethodName)) ∈ lw_all := lw_g (lw_at lw_m5 113 rfl) rfl
theorem q1193 : (Jvm.Cond.methodLink "BulbInAStaffLaw" (102 : Nat) ({ cls := "BulbInAStaff", name := "image", desc := "()I" } : Jvm.MethodName)) ∈ lw_all := lw_g (lw_at lw_m5 118 rfl) rfl
theorem q1200 : (Jvm.Cond.methodLink "BulbInAStaffLaw" (106 : Nat) ({ cls := "BulbInAStaff", name := "back", desc := "()I" } : Jvm.MethodName)) ∈ lw_all := lw_g (lw_at lw_m5 125 rfl) rfl
theorem q1204 : (Jvm.Cond.methodLink "BulbInAStaffLaw" (110 : Nat) ({ cls := "BulbInAStaff", name := "count", desc := "(I)I" } : Jvm.MethodName)) ∈ lw_all := lw_g (lw_at lw_m5 129 rfl) rfl
theorem q1208 : (Jvm.Cond.methodLink "BulbInAStaffLaw" (114 : Nat) ({ cls := "BulbInAStaff", name := "sheet", desc := "(III)I" } : Jvm.MethodName)) ∈ lw_all := lw_g (lw_at lw_m5 133 rfl) rfl
theorem q1209 : (Jvm.Cond.methodLink "BulbInAStaffLaw" (118 : Nat) ({ cls := "BulbInAStaff", name := "cell", desc := "(III)I" } : Jvm.MethodName)) ∈ lw_all := lw_g (lw_at lw_m5 134 rfl) rfl
theorem q1210 : (Jvm.Cond.methodLink "BulbInAStaffLaw" (122 : Nat) ({ cls := "BulbInAStaff", name := "copy", desc := "(IIIII)I" } : Jvm.MethodName)) ∈ lw_all := lw_g (lw_at lw_m5 135 rfl) rfl
theorem q1214 : (Jvm.Cond.methodLink "BulbInAStaffLaw" (127 : Nat) ({ cls := "BulbInAStaff", name := "plants", desc := "(IIII)I" } : Jvm.MethodName)) ∈ lw_all := lw_g (lw_at lw_m5 139 rfl) rfl
theorem q1237 : (Jvm.Cond.methodLink "BulbInAStaffLaw" (132 : Nat) ({ cls := "BulbInAStaff", name := "taken", desc := "(II)I" } : Jvm.MethodName)) ∈ lw_all := lw_g (lw_at lw_m5 162 rfl) rfl
theorem q1244 : (Jvm.Cond.classLink "BulbInAStaffLaw" (10 : Nat) "BulbInAStaffModel") ∈ lw_all := lw_g (lw_at lw_m5 169 rfl) rfl
theorem q1246 : (Jvm.Cond.methodLink "BulbInAStaffLaw" (12 : Nat) ({ cls := "BulbInAStaffModel", name := "<init>", desc := "()V" } : Jvm.MethodName)) ∈ lw_all := lw_g (lw_at lw_m5 171 rfl) rfl
theorem q1381 : (Jvm.Cond.methodLink "BulbInAStaffLaw" (17 : Nat) ({ cls := "BulbInAStaffModel", name := "set", desc := "(III)I" } : Jvm.MethodName)) ∈ lw_all := lw_g (lw_at lw_m6 66 rfl) rfl
theorem q1623 : (Jvm.Cond.methodLink "BulbInAStaffLaw" (21 : Nat) ({ cls := "BulbInAStaffModel", name := "plant", desc := "(III)I" } : Jvm.MethodName)) ∈ lw_all := lw_g (lw_at lw_m7 68 rfl) rfl
theorem q1632 : (Jvm.Cond.methodLink "BulbInAStaffLaw" (26 : Nat) ({ cls := "BulbInAStaffModel", name := "told", desc := "(II)I" } : Jvm.MethodName)) ∈ lw_all := lw_g (lw_at lw_m7 77 rfl) rfl
theorem q1633 : (Jvm.Cond.methodLink "BulbInAStaffLaw" (39 : Nat) ({ cls := "BulbInAStaffModel", name := "feed", desc := "(I)I" } : Jvm.MethodName)) ∈ lw_all := lw_g (lw_at lw_m7 78 rfl) rfl
theorem q1638 : (Jvm.Cond.methodLink "BulbInAStaffLaw" (44 : Nat) ({ cls := "BulbInAStaffModel", name := "text", desc := "()I" } : Jvm.MethodName)) ∈ lw_all := lw_g (lw_at lw_m7 83 rfl) rfl
theorem q1642 : (Jvm.Cond.methodLink "BulbInAStaffLaw" (48 : Nat) ({ cls := "BulbInAStaffModel", name := "force", desc := "(I)I" } : Jvm.MethodName)) ∈ lw_all := lw_g (lw_at lw_m7 87 rfl) rfl
theorem q1646 : (Jvm.Cond.methodLink "BulbInAStaffLaw" (30 : Nat) ({ cls := "BulbInAStaffModel", name := "dig", desc := "(III)I" } : Jvm.MethodName)) ∈ lw_all := lw_g (lw_at lw_m7 91 rfl) rfl
theorem q1651 : (Jvm.Cond.methodLink "BulbInAStaffLaw" (35 : Nat) ({ cls := "BulbInAStaffModel", name := "sell", desc := "(I)I" } : Jvm.MethodName)) ∈ lw_all := lw_g (lw_at lw_m7 96 rfl) rfl
theorem q1660 : (Jvm.Cond.methodLink "BulbInAStaffLaw" (52 : Nat) ({ cls := "BulbInAStaffModel", name := "year", desc := "()I" } : Jvm.MethodName)) ∈ lw_all := lw_g (lw_at lw_m7 105 rfl) rfl
theorem q1672 : (Jvm.Cond.methodLink "BulbInAStaffLaw" (56 : Nat) ({ cls := "BulbInAStaffModel", name := "run", desc := "(II)I" } : Jvm.MethodName)) ∈ lw_all := lw_g (lw_at lw_m7 117 rfl) rfl
theorem q1699 : (Jvm.Cond.methodLink "BulbInAStaffLaw" (60 : Nat) ({ cls := "BulbInAStaffModel", name := "first", desc := "(II)I" } : Jvm.MethodName)) ∈ lw_all := lw_g (lw_at lw_m7 144 rfl) rfl
theorem q1704 : (Jvm.Cond.methodLink "BulbInAStaffLaw" (65 : Nat) ({ cls := "BulbInAStaffModel", name := "found", desc := "(III)J" } : Jvm.MethodName)) ∈ lw_all := lw_g (lw_at lw_m7 149 rfl) rfl
theorem q1715 : (Jvm.Cond.methodLink "BulbInAStaffLaw" (69 : Nat) ({ cls := "BulbInAStaffModel", name := "soil", desc := "(III)I" } : Jvm.MethodName)) ∈ lw_all := lw_g (lw_at lw_m7 160 rfl) rfl
theorem q1723 : (Jvm.Cond.methodLink "BulbInAStaffLaw" (73 : Nat) ({ cls := "BulbInAStaffModel", name := "sown", desc := "(II)I" } : Jvm.MethodName)) ∈ lw_all := lw_g (lw_at lw_m7 168 rfl) rfl
theorem q1728 : (Jvm.Cond.methodLink "BulbInAStaffLaw" (77 : Nat) ({ cls := "BulbInAStaffModel", name := "safest", desc := "(I)I" } : Jvm.MethodName)) ∈ lw_all := lw_g (lw_at lw_m7 173 rfl) rfl
theorem q1733 : (Jvm.Cond.methodLink "BulbInAStaffLaw" (81 : Nat) ({ cls := "BulbInAStaffModel", name := "when", desc := "(II)I" } : Jvm.MethodName)) ∈ lw_all := lw_g (lw_at lw_m7 178 rfl) rfl
theorem q1741 : (Jvm.Cond.methodLink "BulbInAStaffLaw" (85 : Nat) ({ cls := "BulbInAStaffModel", name := "enough", desc := "(III)I" } : Jvm.MethodName)) ∈ lw_all := lw_g (lw_at lw_m7 186 rfl) rfl
theorem q1745 : (Jvm.Cond.methodLink "BulbInAStaffLaw" (89 : Nat) ({ cls := "BulbInAStaffModel", name := "tells", desc := "(III)I" } : Jvm.MethodName)) ∈ lw_all := lw_g (lw_at lw_m7 190 rfl) rfl
theorem q1757 : (Jvm.Cond.methodLink "BulbInAStaffLaw" (93 : Nat) ({ cls := "BulbInAStaffModel", name := "film", desc := "(III)I" } : Jvm.MethodName)) ∈ lw_all := lw_g (lw_at lw_m7 202 rfl) rfl
theorem q1766 : (Jvm.Cond.methodLink "BulbInAStaffLaw" (97 : Nat) ({ cls := "BulbInAStaffModel", name := "drawn", desc := "(II)I" } : Jvm.MethodName)) ∈ lw_all := lw_g (lw_at lw_m7 211 rfl) rfl
theorem q1775 : (Jvm.Cond.methodLink "BulbInAStaffLaw" (101 : Nat) ({ cls := "BulbInAStaffModel", name := "chance", desc := "(III)J" } : Jvm.MethodName)) ∈ lw_all := lw_g (lw_at lw_m7 220 rfl) rfl
theorem q1780 : (Jvm.Cond.methodLink "BulbInAStaffLaw" (105 : Nat) ({ cls := "BulbInAStaffModel", name := "image", desc := "()I" } : Jvm.MethodName)) ∈ lw_all := lw_g (lw_at lw_m7 225 rfl) rfl
theorem q1784 : (Jvm.Cond.methodLink "BulbInAStaffLaw" (109 : Nat) ({ cls := "BulbInAStaffModel", name := "back", desc := "()I" } : Jvm.MethodName)) ∈ lw_all := lw_g (lw_at lw_m7 229 rfl) rfl
theorem q1788 : (Jvm.Cond.methodLink "BulbInAStaffLaw" (113 : Nat) ({ cls := "BulbInAStaffModel", name := "count", desc := "(I)I" } : Jvm.MethodName)) ∈ lw_all := lw_g (lw_at lw_m7 233 rfl) rfl
theorem q1792 : (Jvm.Cond.methodLink "BulbInAStaffLaw" (117 : Nat) ({ cls := "BulbInAStaffModel", name := "sheet", desc := "(III)I" } : Jvm.MethodName)) ∈ lw_all := lw_g (lw_at lw_m7 237 rfl) rfl
theorem q1793 : (Jvm.Cond.methodLink "BulbInAStaffLaw" (121 : Nat) ({ cls := "BulbInAStaffModel", name := "cell", desc := "(III)I" } : Jvm.MethodName)) ∈ lw_all := lw_g (lw_at lw_m7 238 rfl) rfl
theorem q1797 : (Jvm.Cond.methodLink "BulbInAStaffLaw" (126 : Nat) ({ cls := "BulbInAStaffModel", name := "copy", desc := "(IIIII)I" } : Jvm.MethodName)) ∈ lw_all := lw_g (lw_at lw_m8 2 rfl) rfl
theorem q1801 : (Jvm.Cond.methodLink "BulbInAStaffLaw" (131 : Nat) ({ cls := "BulbInAStaffModel", name := "plants", desc := "(IIII)I" } : Jvm.MethodName)) ∈ lw_all := lw_g (lw_at lw_m8 6 rfl) rfl
theorem q1806 : (Jvm.Cond.methodLink "BulbInAStaffLaw" (135 : Nat) ({ cls := "BulbInAStaffModel", name := "taken", desc := "(II)I" } : Jvm.MethodName)) ∈ lw_all := lw_g (lw_at lw_m8 11 rfl) rfl
theorem q144 : (Jvm.Cond.initialized "java/lang/System") ∈ lw_all := lw_g (lw_at lw_m1 29 rfl) rfl
theorem q1198 : (Jvm.Cond.static ({ cls := "java/lang/System", name := "arraycopy", desc := "(Ljava/lang/Object;ILjava/lang/Object;II)V" } : Jvm.MethodName)) ∈ lw_all := lw_g (lw_at lw_m5 123 rfl) rfl
theorem q1199 : (Jvm.Cond.native ({ cls := "java/lang/System", name := "arraycopy", desc := "(Ljava/lang/Object;ILjava/lang/Object;II)V" } : Jvm.MethodName)) ∈ lw_all := lw_g (lw_at lw_m5 124 rfl) rfl
