set_option maxRecDepth 100000
abbrev cX6_init : ByteArray := prog_14_method_1_code
def yX6_init : MethodName := ⟨RX6, "<init>", "()V"⟩
def dkwX6_init_8 : List UInt8 := [188, 10, 181, 0, 78, 42, 17, 0, 240, 188, 11, 181, 0, 81, 42, 16, 60, 188, 11, 181, 0, 84, 177]
abbrev dktX6_init_8 : List UInt8 := dkwX6_init_8 ++ []
def dkwX6_init_7 : List UInt8 := [7, 188, 10, 89, 3, 2, 79, 89, 4, 2, 79, 89, 5, 2, 79, 89, 6, 2, 79, 181, 0, 75, 42, 7]
abbrev dktX6_init_7 : List UInt8 := dkwX6_init_7 ++ dktX6_init_8
def dkwX6_init_6 : List UInt8 := [188, 8, 181, 0, 65, 42, 17, 5, 20, 188, 11, 181, 0, 68, 42, 17, 5, 20, 188, 11, 181, 0, 72, 42]
abbrev dktX6_init_6 : List UInt8 := dkwX6_init_6 ++ dktX6_init_7
def dkwX6_init_5 : List UInt8 := [181, 0, 55, 42, 16, 10, 188, 10, 181, 0, 58, 42, 17, 2, 98, 188, 10, 181, 0, 61, 42, 18, 64]
abbrev dktX6_init_5 : List UInt8 := dkwX6_init_5 ++ dktX6_init_6
def dkwX6_init_4 : List UInt8 := [181, 0, 46, 42, 16, 61, 188, 10, 181, 0, 49, 42, 16, 61, 188, 4, 181, 0, 52, 42, 16, 61, 188, 10]
abbrev dktX6_init_4 : List UInt8 := dkwX6_init_4 ++ dktX6_init_5
def dkwX6_init_3 : List UInt8 := [181, 0, 37, 42, 16, 61, 188, 10, 181, 0, 40, 42, 8, 188, 10, 181, 0, 43, 42, 8, 188, 10]
abbrev dktX6_init_3 : List UInt8 := dkwX6_init_3 ++ dktX6_init_4
def dkwX6_init_2 : List UInt8 := [181, 0, 27, 42, 16, 98, 188, 10, 181, 0, 31, 42, 16, 61, 188, 10, 181, 0, 34, 42, 16, 61, 188, 10]
abbrev dktX6_init_2 : List UInt8 := dkwX6_init_2 ++ dktX6_init_3
def dkwX6_init_1 : List UInt8 := [188, 4, 181, 0, 16, 42, 17, 2, 188, 188, 8, 181, 0, 20, 42, 8, 188, 10, 181, 0, 24, 42, 2]
abbrev dktX6_init_1 : List UInt8 := dkwX6_init_1 ++ dktX6_init_2
def dkwX6_init_0 : List UInt8 := [42, 183, 0, 3, 42, 16, 98, 188, 10, 181, 0, 9, 42, 17, 1, 38, 188, 10, 181, 0, 13, 42, 6]
abbrev dktX6_init_0 : List UInt8 := dkwX6_init_0 ++ dktX6_init_1
theorem dksX6_init_0 : cX6_init.data.toList.drop 0 = dktX6_init_0 := by decide +kernel
theorem dksX6_init_1 : cX6_init.data.toList.drop 23 = dktX6_init_1 := dk_seg dksX6_init_0 23 rfl rfl
theorem dksX6_init_2 : cX6_init.data.toList.drop 46 = dktX6_init_2 := dk_seg dksX6_init_1 23 rfl rfl
theorem dksX6_init_3 : cX6_init.data.toList.drop 70 = dktX6_init_3 := dk_seg dksX6_init_2 24 rfl rfl
theorem dksX6_init_4 : cX6_init.data.toList.drop 92 = dktX6_init_4 := dk_seg dksX6_init_3 22 rfl rfl
theorem dksX6_init_5 : cX6_init.data.toList.drop 116 = dktX6_init_5 := dk_seg dksX6_init_4 24 rfl rfl
theorem dksX6_init_6 : cX6_init.data.toList.drop 139 = dktX6_init_6 := dk_seg dksX6_init_5 23 rfl rfl
theorem dksX6_init_7 : cX6_init.data.toList.drop 163 = dktX6_init_7 := dk_seg dksX6_init_6 24 rfl rfl
theorem dksX6_init_8 : cX6_init.data.toList.drop 187 = dktX6_init_8 := dk_seg dksX6_init_7 24 rfl rfl
theorem dX6_init_0 : decode cX6_init 0 = .ok (.aload_n 0, 1) := dk_42 (dk_at dksX6_init_0 0 rfl rfl)
theorem dX6_init_1 : decode cX6_init 1 = .ok (.invokespecial 3, 3) := dk_183 0 3 (dk_at dksX6_init_0 1 rfl rfl)
theorem dX6_init_4 : decode cX6_init 4 = .ok (.aload_n 0, 1) := dk_42 (dk_at dksX6_init_0 4 rfl rfl)
theorem dX6_init_5 : decode cX6_init 5 = .ok (.bipush 98, 2) := dk_16 98 (dk_at dksX6_init_0 5 rfl rfl)
theorem dX6_init_7 : decode cX6_init 7 = .ok (.newarray .int, 2) := dk_188_10 (dk_at dksX6_init_0 7 rfl rfl)
theorem dX6_init_9 : decode cX6_init 9 = .ok (.putfield 9, 3) := dk_181 0 9 (dk_at dksX6_init_0 9 rfl rfl)
theorem dX6_init_12 : decode cX6_init 12 = .ok (.aload_n 0, 1) := dk_42 (dk_at dksX6_init_0 12 rfl rfl)
theorem dX6_init_13 : decode cX6_init 13 = .ok (.sipush 294, 3) := dk_17 1 38 (dk_at dksX6_init_0 13 rfl rfl)
theorem dX6_init_16 : decode cX6_init 16 = .ok (.newarray .int, 2) := dk_188_10 (dk_at dksX6_init_0 16 rfl rfl)
theorem dX6_init_18 : decode cX6_init 18 = .ok (.putfield 13, 3) := dk_181 0 13 (dk_at dksX6_init_0 18 rfl rfl)
theorem dX6_init_21 : decode cX6_init 21 = .ok (.aload_n 0, 1) := dk_42 (dk_at dksX6_init_0 21 rfl rfl)
theorem dX6_init_22 : decode cX6_init 22 = .ok (.iconst 3, 1) := dk_6 (dk_at dksX6_init_0 22 rfl rfl)
theorem dX6_init_23 : decode cX6_init 23 = .ok (.newarray .boolean, 2) := dk_188_4 (dk_at dksX6_init_1 0 rfl rfl)
theorem dX6_init_25 : decode cX6_init 25 = .ok (.putfield 16, 3) := dk_181 0 16 (dk_at dksX6_init_1 2 rfl rfl)
theorem dX6_init_28 : decode cX6_init 28 = .ok (.aload_n 0, 1) := dk_42 (dk_at dksX6_init_1 5 rfl rfl)
theorem dX6_init_29 : decode cX6_init 29 = .ok (.sipush 700, 3) := dk_17 2 188 (dk_at dksX6_init_1 6 rfl rfl)
theorem dX6_init_32 : decode cX6_init 32 = .ok (.newarray .byte, 2) := dk_188_8 (dk_at dksX6_init_1 9 rfl rfl)
theorem dX6_init_34 : decode cX6_init 34 = .ok (.putfield 20, 3) := dk_181 0 20 (dk_at dksX6_init_1 11 rfl rfl)
theorem dX6_init_37 : decode cX6_init 37 = .ok (.aload_n 0, 1) := dk_42 (dk_at dksX6_init_1 14 rfl rfl)
theorem dX6_init_38 : decode cX6_init 38 = .ok (.iconst 5, 1) := dk_8 (dk_at dksX6_init_1 15 rfl rfl)
theorem dX6_init_39 : decode cX6_init 39 = .ok (.newarray .int, 2) := dk_188_10 (dk_at dksX6_init_1 16 rfl rfl)
theorem dX6_init_41 : decode cX6_init 41 = .ok (.putfield 24, 3) := dk_181 0 24 (dk_at dksX6_init_1 18 rfl rfl)
theorem dX6_init_44 : decode cX6_init 44 = .ok (.aload_n 0, 1) := dk_42 (dk_at dksX6_init_1 21 rfl rfl)
theorem dX6_init_45 : decode cX6_init 45 = .ok (.iconst (-1), 1) := dk_2 (dk_at dksX6_init_1 22 rfl rfl)
theorem dX6_init_46 : decode cX6_init 46 = .ok (.putfield 27, 3) := dk_181 0 27 (dk_at dksX6_init_2 0 rfl rfl)
theorem dX6_init_49 : decode cX6_init 49 = .ok (.aload_n 0, 1) := dk_42 (dk_at dksX6_init_2 3 rfl rfl)
theorem dX6_init_50 : decode cX6_init 50 = .ok (.bipush 98, 2) := dk_16 98 (dk_at dksX6_init_2 4 rfl rfl)
theorem dX6_init_52 : decode cX6_init 52 = .ok (.newarray .int, 2) := dk_188_10 (dk_at dksX6_init_2 6 rfl rfl)
theorem dX6_init_54 : decode cX6_init 54 = .ok (.putfield 31, 3) := dk_181 0 31 (dk_at dksX6_init_2 8 rfl rfl)
theorem dX6_init_57 : decode cX6_init 57 = .ok (.aload_n 0, 1) := dk_42 (dk_at dksX6_init_2 11 rfl rfl)
theorem dX6_init_58 : decode cX6_init 58 = .ok (.bipush 61, 2) := dk_16 61 (dk_at dksX6_init_2 12 rfl rfl)
theorem dX6_init_60 : decode cX6_init 60 = .ok (.newarray .int, 2) := dk_188_10 (dk_at dksX6_init_2 14 rfl rfl)
theorem dX6_init_62 : decode cX6_init 62 = .ok (.putfield 34, 3) := dk_181 0 34 (dk_at dksX6_init_2 16 rfl rfl)
theorem dX6_init_65 : decode cX6_init 65 = .ok (.aload_n 0, 1) := dk_42 (dk_at dksX6_init_2 19 rfl rfl)
theorem dX6_init_66 : decode cX6_init 66 = .ok (.bipush 61, 2) := dk_16 61 (dk_at dksX6_init_2 20 rfl rfl)
theorem dX6_init_68 : decode cX6_init 68 = .ok (.newarray .int, 2) := dk_188_10 (dk_at dksX6_init_2 22 rfl rfl)
theorem dX6_init_70 : decode cX6_init 70 = .ok (.putfield 37, 3) := dk_181 0 37 (dk_at dksX6_init_3 0 rfl rfl)
theorem dX6_init_73 : decode cX6_init 73 = .ok (.aload_n 0, 1) := dk_42 (dk_at dksX6_init_3 3 rfl rfl)
theorem dX6_init_74 : decode cX6_init 74 = .ok (.bipush 61, 2) := dk_16 61 (dk_at dksX6_init_3 4 rfl rfl)
theorem dX6_init_76 : decode cX6_init 76 = .ok (.newarray .int, 2) := dk_188_10 (dk_at dksX6_init_3 6 rfl rfl)
theorem dX6_init_78 : decode cX6_init 78 = .ok (.putfield 40, 3) := dk_181 0 40 (dk_at dksX6_init_3 8 rfl rfl)
theorem dX6_init_81 : decode cX6_init 81 = .ok (.aload_n 0, 1) := dk_42 (dk_at dksX6_init_3 11 rfl rfl)
theorem dX6_init_82 : decode cX6_init 82 = .ok (.iconst 5, 1) := dk_8 (dk_at dksX6_init_3 12 rfl rfl)
theorem dX6_init_83 : decode cX6_init 83 = .ok (.newarray .int, 2) := dk_188_10 (dk_at dksX6_init_3 13 rfl rfl)
theorem dX6_init_85 : decode cX6_init 85 = .ok (.putfield 43, 3) := dk_181 0 43 (dk_at dksX6_init_3 15 rfl rfl)
theorem dX6_init_88 : decode cX6_init 88 = .ok (.aload_n 0, 1) := dk_42 (dk_at dksX6_init_3 18 rfl rfl)
theorem dX6_init_89 : decode cX6_init 89 = .ok (.iconst 5, 1) := dk_8 (dk_at dksX6_init_3 19 rfl rfl)
theorem dX6_init_90 : decode cX6_init 90 = .ok (.newarray .int, 2) := dk_188_10 (dk_at dksX6_init_3 20 rfl rfl)
theorem dX6_init_92 : decode cX6_init 92 = .ok (.putfield 46, 3) := dk_181 0 46 (dk_at dksX6_init_4 0 rfl rfl)
theorem dX6_init_95 : decode cX6_init 95 = .ok (.aload_n 0, 1) := dk_42 (dk_at dksX6_init_4 3 rfl rfl)
theorem dX6_init_96 : decode cX6_init 96 = .ok (.bipush 61, 2) := dk_16 61 (dk_at dksX6_init_4 4 rfl rfl)
theorem dX6_init_98 : decode cX6_init 98 = .ok (.newarray .int, 2) := dk_188_10 (dk_at dksX6_init_4 6 rfl rfl)
theorem dX6_init_100 : decode cX6_init 100 = .ok (.putfield 49, 3) := dk_181 0 49 (dk_at dksX6_init_4 8 rfl rfl)
theorem dX6_init_103 : decode cX6_init 103 = .ok (.aload_n 0, 1) := dk_42 (dk_at dksX6_init_4 11 rfl rfl)
theorem dX6_init_104 : decode cX6_init 104 = .ok (.bipush 61, 2) := dk_16 61 (dk_at dksX6_init_4 12 rfl rfl)
theorem dX6_init_106 : decode cX6_init 106 = .ok (.newarray .boolean, 2) := dk_188_4 (dk_at dksX6_init_4 14 rfl rfl)
theorem dX6_init_108 : decode cX6_init 108 = .ok (.putfield 52, 3) := dk_181 0 52 (dk_at dksX6_init_4 16 rfl rfl)
theorem dX6_init_111 : decode cX6_init 111 = .ok (.aload_n 0, 1) := dk_42 (dk_at dksX6_init_4 19 rfl rfl)
theorem dX6_init_112 : decode cX6_init 112 = .ok (.bipush 61, 2) := dk_16 61 (dk_at dksX6_init_4 20 rfl rfl)
theorem dX6_init_114 : decode cX6_init 114 = .ok (.newarray .int, 2) := dk_188_10 (dk_at dksX6_init_4 22 rfl rfl)
theorem dX6_init_116 : decode cX6_init 116 = .ok (.putfield 55, 3) := dk_181 0 55 (dk_at dksX6_init_5 0 rfl rfl)
theorem dX6_init_119 : decode cX6_init 119 = .ok (.aload_n 0, 1) := dk_42 (dk_at dksX6_init_5 3 rfl rfl)
theorem dX6_init_120 : decode cX6_init 120 = .ok (.bipush 10, 2) := dk_16 10 (dk_at dksX6_init_5 4 rfl rfl)
theorem dX6_init_122 : decode cX6_init 122 = .ok (.newarray .int, 2) := dk_188_10 (dk_at dksX6_init_5 6 rfl rfl)
theorem dX6_init_124 : decode cX6_init 124 = .ok (.putfield 58, 3) := dk_181 0 58 (dk_at dksX6_init_5 8 rfl rfl)
theorem dX6_init_127 : decode cX6_init 127 = .ok (.aload_n 0, 1) := dk_42 (dk_at dksX6_init_5 11 rfl rfl)
theorem dX6_init_128 : decode cX6_init 128 = .ok (.sipush 610, 3) := dk_17 2 98 (dk_at dksX6_init_5 12 rfl rfl)
theorem dX6_init_131 : decode cX6_init 131 = .ok (.newarray .int, 2) := dk_188_10 (dk_at dksX6_init_5 15 rfl rfl)
theorem dX6_init_133 : decode cX6_init 133 = .ok (.putfield 61, 3) := dk_181 0 61 (dk_at dksX6_init_5 17 rfl rfl)
theorem dX6_init_136 : decode cX6_init 136 = .ok (.aload_n 0, 1) := dk_42 (dk_at dksX6_init_5 20 rfl rfl)
theorem dX6_init_137 : decode cX6_init 137 = .ok (.ldc 64, 2) := dk_18 64 (dk_at dksX6_init_5 21 rfl rfl)
theorem dX6_init_139 : decode cX6_init 139 = .ok (.newarray .byte, 2) := dk_188_8 (dk_at dksX6_init_6 0 rfl rfl)
theorem dX6_init_141 : decode cX6_init 141 = .ok (.putfield 65, 3) := dk_181 0 65 (dk_at dksX6_init_6 2 rfl rfl)
theorem dX6_init_144 : decode cX6_init 144 = .ok (.aload_n 0, 1) := dk_42 (dk_at dksX6_init_6 5 rfl rfl)
theorem dX6_init_145 : decode cX6_init 145 = .ok (.sipush 1300, 3) := dk_17 5 20 (dk_at dksX6_init_6 6 rfl rfl)
theorem dX6_init_148 : decode cX6_init 148 = .ok (.newarray .long, 2) := dk_188_11 (dk_at dksX6_init_6 9 rfl rfl)
theorem dX6_init_150 : decode cX6_init 150 = .ok (.putfield 68, 3) := dk_181 0 68 (dk_at dksX6_init_6 11 rfl rfl)
theorem dX6_init_153 : decode cX6_init 153 = .ok (.aload_n 0, 1) := dk_42 (dk_at dksX6_init_6 14 rfl rfl)
theorem dX6_init_154 : decode cX6_init 154 = .ok (.sipush 1300, 3) := dk_17 5 20 (dk_at dksX6_init_6 15 rfl rfl)
theorem dX6_init_157 : decode cX6_init 157 = .ok (.newarray .long, 2) := dk_188_11 (dk_at dksX6_init_6 18 rfl rfl)
theorem dX6_init_159 : decode cX6_init 159 = .ok (.putfield 72, 3) := dk_181 0 72 (dk_at dksX6_init_6 20 rfl rfl)
theorem dX6_init_162 : decode cX6_init 162 = .ok (.aload_n 0, 1) := dk_42 (dk_at dksX6_init_6 23 rfl rfl)
theorem dX6_init_163 : decode cX6_init 163 = .ok (.iconst 4, 1) := dk_7 (dk_at dksX6_init_7 0 rfl rfl)
theorem dX6_init_164 : decode cX6_init 164 = .ok (.newarray .int, 2) := dk_188_10 (dk_at dksX6_init_7 1 rfl rfl)
theorem dX6_init_166 : decode cX6_init 166 = .ok (.dup, 1) := dk_89 (dk_at dksX6_init_7 3 rfl rfl)
theorem dX6_init_167 : decode cX6_init 167 = .ok (.iconst 0, 1) := dk_3 (dk_at dksX6_init_7 4 rfl rfl)
theorem dX6_init_168 : decode cX6_init 168 = .ok (.iconst (-1), 1) := dk_2 (dk_at dksX6_init_7 5 rfl rfl)
theorem dX6_init_169 : decode cX6_init 169 = .ok (.iastore, 1) := dk_79 (dk_at dksX6_init_7 6 rfl rfl)
theorem dX6_init_170 : decode cX6_init 170 = .ok (.dup, 1) := dk_89 (dk_at dksX6_init_7 7 rfl rfl)
theorem dX6_init_171 : decode cX6_init 171 = .ok (.iconst 1, 1) := dk_4 (dk_at dksX6_init_7 8 rfl rfl)
theorem dX6_init_172 : decode cX6_init 172 = .ok (.iconst (-1), 1) := dk_2 (dk_at dksX6_init_7 9 rfl rfl)
theorem dX6_init_173 : decode cX6_init 173 = .ok (.iastore, 1) := dk_79 (dk_at dksX6_init_7 10 rfl rfl)
theorem dX6_init_174 : decode cX6_init 174 = .ok (.dup, 1) := dk_89 (dk_at dksX6_init_7 11 rfl rfl)
theorem dX6_init_175 : decode cX6_init 175 = .ok (.iconst 2, 1) := dk_5 (dk_at dksX6_init_7 12 rfl rfl)
theorem dX6_init_176 : decode cX6_init 176 = .ok (.iconst (-1), 1) := dk_2 (dk_at dksX6_init_7 13 rfl rfl)
theorem dX6_init_177 : decode cX6_init 177 = .ok (.iastore, 1) := dk_79 (dk_at dksX6_init_7 14 rfl rfl)
theorem dX6_init_178 : decode cX6_init 178 = .ok (.dup, 1) := dk_89 (dk_at dksX6_init_7 15 rfl rfl)
theorem dX6_init_179 : decode cX6_init 179 = .ok (.iconst 3, 1) := dk_6 (dk_at dksX6_init_7 16 rfl rfl)
theorem dX6_init_180 : decode cX6_init 180 = .ok (.iconst (-1), 1) := dk_2 (dk_at dksX6_init_7 17 rfl rfl)
theorem dX6_init_181 : decode cX6_init 181 = .ok (.iastore, 1) := dk_79 (dk_at dksX6_init_7 18 rfl rfl)
theorem dX6_init_182 : decode cX6_init 182 = .ok (.putfield 75, 3) := dk_181 0 75 (dk_at dksX6_init_7 19 rfl rfl)
theorem dX6_init_185 : decode cX6_init 185 = .ok (.aload_n 0, 1) := dk_42 (dk_at dksX6_init_7 22 rfl rfl)
theorem dX6_init_186 : decode cX6_init 186 = .ok (.iconst 4, 1) := dk_7 (dk_at dksX6_init_7 23 rfl rfl)
theorem dX6_init_187 : decode cX6_init 187 = .ok (.newarray .int, 2) := dk_188_10 (dk_at dksX6_init_8 0 rfl rfl)
theorem dX6_init_189 : decode cX6_init 189 = .ok (.putfield 78, 3) := dk_181 0 78 (dk_at dksX6_init_8 2 rfl rfl)
theorem dX6_init_192 : decode cX6_init 192 = .ok (.aload_n 0, 1) := dk_42 (dk_at dksX6_init_8 5 rfl rfl)
theorem dX6_init_193 : decode cX6_init 193 = .ok (.sipush 240, 3) := dk_17 0 240 (dk_at dksX6_init_8 6 rfl rfl)
theorem dX6_init_196 : decode cX6_init 196 = .ok (.newarray .long, 2) := dk_188_11 (dk_at dksX6_init_8 9 rfl rfl)
theorem dX6_init_198 : decode cX6_init 198 = .ok (.putfield 81, 3) := dk_181 0 81 (dk_at dksX6_init_8 11 rfl rfl)
theorem dX6_init_201 : decode cX6_init 201 = .ok (.aload_n 0, 1) := dk_42 (dk_at dksX6_init_8 14 rfl rfl)
theorem dX6_init_202 : decode cX6_init 202 = .ok (.bipush 60, 2) := dk_16 60 (dk_at dksX6_init_8 15 rfl rfl)
theorem dX6_init_204 : decode cX6_init 204 = .ok (.newarray .long, 2) := dk_188_11 (dk_at dksX6_init_8 17 rfl rfl)
theorem dX6_init_206 : decode cX6_init 206 = .ok (.putfield 84, 3) := dk_181 0 84 (dk_at dksX6_init_8 19 rfl rfl)
theorem dX6_init_209 : decode cX6_init 209 = .ok (.return_, 1) := dk_177 (dk_at dksX6_init_8 22 rfl rfl)
abbrev cX6_image : ByteArray := prog_14_method_6_code
def yX6_image : MethodName := ⟨RX6, "image", "(I)I"⟩
def dkwX6_image_2 : List UInt8 := [180, 0, 16, 27, 4, 84, 3, 172]
abbrev dktX6_image_2 : List UInt8 := dkwX6_image_2 ++ []
def dkwX6_image_1 : List UInt8 := [180, 0, 13, 16, 98, 27, 104, 28, 96, 42, 180, 0, 9, 28, 46, 79, 132, 2, 1, 167, 255, 230, 42]
abbrev dktX6_image_1 : List UInt8 := dkwX6_image_1 ++ dktX6_image_2
def dkwX6_image_0 : List UInt8 := [27, 133, 9, 20, 0, 90, 184, 0, 92, 154, 0, 6, 16, 254, 172, 3, 61, 28, 16, 98, 162, 0, 26, 42]
abbrev dktX6_image_0 : List UInt8 := dkwX6_image_0 ++ dktX6_image_1
theorem dksX6_image_0 : cX6_image.data.toList.drop 0 = dktX6_image_0 := by decide +kernel
theorem dksX6_image_1 : cX6_image.data.toList.drop 24 = dktX6_image_1 := dk_seg dksX6_image_0 24 rfl rfl
theorem dksX6_image_2 : cX6_image.data.toList.drop 47 = dktX6_image_2 := dk_seg dksX6_image_1 23 rfl rfl
theorem dX6_image_0 : decode cX6_image 0 = .ok (.iload_n 1, 1) := dk_27 (dk_at dksX6_image_0 0 rfl rfl)
theorem dX6_image_1 : decode cX6_image 1 = .ok (.i2l, 1) := dk_133 (dk_at dksX6_image_0 1 rfl rfl)
theorem dX6_image_2 : decode cX6_image 2 = .ok (.lconst 0, 1) := dk_9 (dk_at dksX6_image_0 2 rfl rfl)
theorem dX6_image_3 : decode cX6_image 3 = .ok (.ldc2_w 90, 3) := dk_20 0 90 (dk_at dksX6_image_0 3 rfl rfl)
theorem dX6_image_6 : decode cX6_image 6 = .ok (.invokestatic 92, 3) := dk_184 0 92 (dk_at dksX6_image_0 6 rfl rfl)
theorem dX6_image_9 : decode cX6_image 9 = .ok (.ifCond .ne 6, 3) := dk_154 0 6 (dk_at dksX6_image_0 9 rfl rfl)
theorem dX6_image_12 : decode cX6_image 12 = .ok (.bipush (-2), 2) := dk_16 254 (dk_at dksX6_image_0 12 rfl rfl)
theorem dX6_image_14 : decode cX6_image 14 = .ok (.ireturn, 1) := dk_172 (dk_at dksX6_image_0 14 rfl rfl)
theorem dX6_image_15 : decode cX6_image 15 = .ok (.iconst 0, 1) := dk_3 (dk_at dksX6_image_0 15 rfl rfl)
theorem dX6_image_16 : decode cX6_image 16 = .ok (.istore_n 2, 1) := dk_61 (dk_at dksX6_image_0 16 rfl rfl)
theorem dX6_image_17 : decode cX6_image 17 = .ok (.iload_n 2, 1) := dk_28 (dk_at dksX6_image_0 17 rfl rfl)
theorem dX6_image_18 : decode cX6_image 18 = .ok (.bipush 98, 2) := dk_16 98 (dk_at dksX6_image_0 18 rfl rfl)
theorem dX6_image_20 : decode cX6_image 20 = .ok (.if_icmp .ge 26, 3) := dk_162 0 26 (dk_at dksX6_image_0 20 rfl rfl)
theorem dX6_image_23 : decode cX6_image 23 = .ok (.aload_n 0, 1) := dk_42 (dk_at dksX6_image_0 23 rfl rfl)
theorem dX6_image_24 : decode cX6_image 24 = .ok (.getfield 13, 3) := dk_180 0 13 (dk_at dksX6_image_1 0 rfl rfl)
theorem dX6_image_27 : decode cX6_image 27 = .ok (.bipush 98, 2) := dk_16 98 (dk_at dksX6_image_1 3 rfl rfl)
theorem dX6_image_29 : decode cX6_image 29 = .ok (.iload_n 1, 1) := dk_27 (dk_at dksX6_image_1 5 rfl rfl)
theorem dX6_image_30 : decode cX6_image 30 = .ok (.imul, 1) := dk_104 (dk_at dksX6_image_1 6 rfl rfl)
theorem dX6_image_31 : decode cX6_image 31 = .ok (.iload_n 2, 1) := dk_28 (dk_at dksX6_image_1 7 rfl rfl)
theorem dX6_image_32 : decode cX6_image 32 = .ok (.iadd, 1) := dk_96 (dk_at dksX6_image_1 8 rfl rfl)
theorem dX6_image_33 : decode cX6_image 33 = .ok (.aload_n 0, 1) := dk_42 (dk_at dksX6_image_1 9 rfl rfl)
theorem dX6_image_34 : decode cX6_image 34 = .ok (.getfield 9, 3) := dk_180 0 9 (dk_at dksX6_image_1 10 rfl rfl)
theorem dX6_image_37 : decode cX6_image 37 = .ok (.iload_n 2, 1) := dk_28 (dk_at dksX6_image_1 13 rfl rfl)
theorem dX6_image_38 : decode cX6_image 38 = .ok (.iaload, 1) := dk_46 (dk_at dksX6_image_1 14 rfl rfl)
theorem dX6_image_39 : decode cX6_image 39 = .ok (.iastore, 1) := dk_79 (dk_at dksX6_image_1 15 rfl rfl)
theorem dX6_image_40 : decode cX6_image 40 = .ok (.iinc 2 1, 3) := dk_132 2 1 (dk_at dksX6_image_1 16 rfl rfl)
theorem dX6_image_43 : decode cX6_image 43 = .ok (.goto (-26), 3) := dk_167 255 230 (dk_at dksX6_image_1 19 rfl rfl)
theorem dX6_image_46 : decode cX6_image 46 = .ok (.aload_n 0, 1) := dk_42 (dk_at dksX6_image_1 22 rfl rfl)
theorem dX6_image_47 : decode cX6_image 47 = .ok (.getfield 16, 3) := dk_180 0 16 (dk_at dksX6_image_2 0 rfl rfl)
theorem dX6_image_50 : decode cX6_image 50 = .ok (.iload_n 1, 1) := dk_27 (dk_at dksX6_image_2 3 rfl rfl)
theorem dX6_image_51 : decode cX6_image 51 = .ok (.iconst 1, 1) := dk_4 (dk_at dksX6_image_2 4 rfl rfl)
theorem dX6_image_52 : decode cX6_image 52 = .ok (.bastore, 1) := dk_84 (dk_at dksX6_image_2 5 rfl rfl)
theorem dX6_image_53 : decode cX6_image 53 = .ok (.iconst 0, 1) := dk_3 (dk_at dksX6_image_2 6 rfl rfl)
theorem dX6_image_54 : decode cX6_image 54 = .ok (.ireturn, 1) := dk_172 (dk_at dksX6_image_2 7 rfl rfl)
abbrev cX6_in : ByteArray := prog_14_method_3_code
def yX6_in : MethodName := ⟨RX6, "in", "(JJJ)Z"⟩
def dkwX6_in_0 : List UInt8 := [30, 32, 148, 155, 0, 14, 30, 22, 4, 148, 157, 0, 7, 4, 167, 0, 4, 3, 172]
abbrev dktX6_in_0 : List UInt8 := dkwX6_in_0 ++ []
theorem dksX6_in_0 : cX6_in.data.toList.drop 0 = dktX6_in_0 := by decide +kernel
theorem dX6_in_0 : decode cX6_in 0 = .ok (.lload_n 0, 1) := dk_30 (dk_at dksX6_in_0 0 rfl rfl)
theorem dX6_in_1 : decode cX6_in 1 = .ok (.lload_n 2, 1) := dk_32 (dk_at dksX6_in_0 1 rfl rfl)
theorem dX6_in_2 : decode cX6_in 2 = .ok (.lcmp, 1) := dk_148 (dk_at dksX6_in_0 2 rfl rfl)
theorem dX6_in_3 : decode cX6_in 3 = .ok (.ifCond .lt 14, 3) := dk_155 0 14 (dk_at dksX6_in_0 3 rfl rfl)
theorem dX6_in_6 : decode cX6_in 6 = .ok (.lload_n 0, 1) := dk_30 (dk_at dksX6_in_0 6 rfl rfl)
theorem dX6_in_7 : decode cX6_in 7 = .ok (.lload 4, 2) := dk_22 4 (dk_at dksX6_in_0 7 rfl rfl)
theorem dX6_in_9 : decode cX6_in 9 = .ok (.lcmp, 1) := dk_148 (dk_at dksX6_in_0 9 rfl rfl)
theorem dX6_in_10 : decode cX6_in 10 = .ok (.ifCond .gt 7, 3) := dk_157 0 7 (dk_at dksX6_in_0 10 rfl rfl)
theorem dX6_in_13 : decode cX6_in 13 = .ok (.iconst 1, 1) := dk_4 (dk_at dksX6_in_0 13 rfl rfl)
theorem dX6_in_14 : decode cX6_in 14 = .ok (.goto 4, 3) := dk_167 0 4 (dk_at dksX6_in_0 14 rfl rfl)
theorem dX6_in_17 : decode cX6_in 17 = .ok (.iconst 0, 1) := dk_3 (dk_at dksX6_in_0 17 rfl rfl)
theorem dX6_in_18 : decode cX6_in 18 = .ok (.ireturn, 1) := dk_172 (dk_at dksX6_in_0 18 rfl rfl)
abbrev cX6_back : ByteArray := prog_14_method_7_code
def yX6_back : MethodName := ⟨RX6, "back", "(I)I"⟩
def dkwX6_back_2 : List UInt8 := [28, 96, 46, 79, 132, 2, 1, 167, 255, 230, 3, 172]
abbrev dktX6_back_2 : List UInt8 := dkwX6_back_2 ++ []
def dkwX6_back_1 : List UInt8 := [16, 250, 172, 3, 61, 28, 16, 98, 162, 0, 26, 42, 180, 0, 9, 28, 42, 180, 0, 13, 16, 98, 27, 104]
abbrev dktX6_back_1 : List UInt8 := dkwX6_back_1 ++ dktX6_back_2
def dkwX6_back_0 : List UInt8 := [27, 133, 9, 20, 0, 90, 184, 0, 92, 154, 0, 6, 16, 254, 172, 42, 180, 0, 16, 27, 51, 154, 0, 6]
abbrev dktX6_back_0 : List UInt8 := dkwX6_back_0 ++ dktX6_back_1
theorem dksX6_back_0 : cX6_back.data.toList.drop 0 = dktX6_back_0 := by decide +kernel
theorem dksX6_back_1 : cX6_back.data.toList.drop 24 = dktX6_back_1 := dk_seg dksX6_back_0 24 rfl rfl
theorem dksX6_back_2 : cX6_back.data.toList.drop 48 = dktX6_back_2 := dk_seg dksX6_back_1 24 rfl rfl
theorem dX6_back_0 : decode cX6_back 0 = .ok (.iload_n 1, 1) := dk_27 (dk_at dksX6_back_0 0 rfl rfl)
theorem dX6_back_1 : decode cX6_back 1 = .ok (.i2l, 1) := dk_133 (dk_at dksX6_back_0 1 rfl rfl)
theorem dX6_back_2 : decode cX6_back 2 = .ok (.lconst 0, 1) := dk_9 (dk_at dksX6_back_0 2 rfl rfl)
theorem dX6_back_3 : decode cX6_back 3 = .ok (.ldc2_w 90, 3) := dk_20 0 90 (dk_at dksX6_back_0 3 rfl rfl)
theorem dX6_back_6 : decode cX6_back 6 = .ok (.invokestatic 92, 3) := dk_184 0 92 (dk_at dksX6_back_0 6 rfl rfl)
theorem dX6_back_9 : decode cX6_back 9 = .ok (.ifCond .ne 6, 3) := dk_154 0 6 (dk_at dksX6_back_0 9 rfl rfl)
theorem dX6_back_12 : decode cX6_back 12 = .ok (.bipush (-2), 2) := dk_16 254 (dk_at dksX6_back_0 12 rfl rfl)
theorem dX6_back_14 : decode cX6_back 14 = .ok (.ireturn, 1) := dk_172 (dk_at dksX6_back_0 14 rfl rfl)
theorem dX6_back_15 : decode cX6_back 15 = .ok (.aload_n 0, 1) := dk_42 (dk_at dksX6_back_0 15 rfl rfl)
theorem dX6_back_16 : decode cX6_back 16 = .ok (.getfield 16, 3) := dk_180 0 16 (dk_at dksX6_back_0 16 rfl rfl)
theorem dX6_back_19 : decode cX6_back 19 = .ok (.iload_n 1, 1) := dk_27 (dk_at dksX6_back_0 19 rfl rfl)
theorem dX6_back_20 : decode cX6_back 20 = .ok (.baload, 1) := dk_51 (dk_at dksX6_back_0 20 rfl rfl)
theorem dX6_back_21 : decode cX6_back 21 = .ok (.ifCond .ne 6, 3) := dk_154 0 6 (dk_at dksX6_back_0 21 rfl rfl)
theorem dX6_back_24 : decode cX6_back 24 = .ok (.bipush (-6), 2) := dk_16 250 (dk_at dksX6_back_1 0 rfl rfl)
theorem dX6_back_26 : decode cX6_back 26 = .ok (.ireturn, 1) := dk_172 (dk_at dksX6_back_1 2 rfl rfl)
theorem dX6_back_27 : decode cX6_back 27 = .ok (.iconst 0, 1) := dk_3 (dk_at dksX6_back_1 3 rfl rfl)
theorem dX6_back_28 : decode cX6_back 28 = .ok (.istore_n 2, 1) := dk_61 (dk_at dksX6_back_1 4 rfl rfl)
theorem dX6_back_29 : decode cX6_back 29 = .ok (.iload_n 2, 1) := dk_28 (dk_at dksX6_back_1 5 rfl rfl)
theorem dX6_back_30 : decode cX6_back 30 = .ok (.bipush 98, 2) := dk_16 98 (dk_at dksX6_back_1 6 rfl rfl)
theorem dX6_back_32 : decode cX6_back 32 = .ok (.if_icmp .ge 26, 3) := dk_162 0 26 (dk_at dksX6_back_1 8 rfl rfl)
theorem dX6_back_35 : decode cX6_back 35 = .ok (.aload_n 0, 1) := dk_42 (dk_at dksX6_back_1 11 rfl rfl)
theorem dX6_back_36 : decode cX6_back 36 = .ok (.getfield 9, 3) := dk_180 0 9 (dk_at dksX6_back_1 12 rfl rfl)
theorem dX6_back_39 : decode cX6_back 39 = .ok (.iload_n 2, 1) := dk_28 (dk_at dksX6_back_1 15 rfl rfl)
theorem dX6_back_40 : decode cX6_back 40 = .ok (.aload_n 0, 1) := dk_42 (dk_at dksX6_back_1 16 rfl rfl)
theorem dX6_back_41 : decode cX6_back 41 = .ok (.getfield 13, 3) := dk_180 0 13 (dk_at dksX6_back_1 17 rfl rfl)
theorem dX6_back_44 : decode cX6_back 44 = .ok (.bipush 98, 2) := dk_16 98 (dk_at dksX6_back_1 20 rfl rfl)
theorem dX6_back_46 : decode cX6_back 46 = .ok (.iload_n 1, 1) := dk_27 (dk_at dksX6_back_1 22 rfl rfl)
theorem dX6_back_47 : decode cX6_back 47 = .ok (.imul, 1) := dk_104 (dk_at dksX6_back_1 23 rfl rfl)
theorem dX6_back_48 : decode cX6_back 48 = .ok (.iload_n 2, 1) := dk_28 (dk_at dksX6_back_2 0 rfl rfl)
theorem dX6_back_49 : decode cX6_back 49 = .ok (.iadd, 1) := dk_96 (dk_at dksX6_back_2 1 rfl rfl)
theorem dX6_back_50 : decode cX6_back 50 = .ok (.iaload, 1) := dk_46 (dk_at dksX6_back_2 2 rfl rfl)
theorem dX6_back_51 : decode cX6_back 51 = .ok (.iastore, 1) := dk_79 (dk_at dksX6_back_2 3 rfl rfl)
theorem dX6_back_52 : decode cX6_back 52 = .ok (.iinc 2 1, 3) := dk_132 2 1 (dk_at dksX6_back_2 4 rfl rfl)
theorem dX6_back_55 : decode cX6_back 55 = .ok (.goto (-26), 3) := dk_167 255 230 (dk_at dksX6_back_2 7 rfl rfl)
theorem dX6_back_58 : decode cX6_back 58 = .ok (.iconst 0, 1) := dk_3 (dk_at dksX6_back_2 10 rfl rfl)
theorem dX6_back_59 : decode cX6_back 59 = .ok (.ireturn, 1) := dk_172 (dk_at dksX6_back_2 11 rfl rfl)
abbrev cX6_feed : ByteArray := prog_14_method_14_code
def yX6_feed : MethodName := ⟨RX6, "feed", "(IIIII)I"⟩
def dkwX6_feed_5 : List UInt8 := [180, 0, 98, 172]
abbrev dktX6_feed_5 : List UInt8 := dkwX6_feed_5 ++ []
def dkwX6_feed_4 : List UInt8 := [100, 122, 145, 84, 132, 6, 1, 167, 255, 213, 42, 89, 180, 0, 98, 16, 20, 96, 181, 0, 98, 42]
abbrev dktX6_feed_4 : List UInt8 := dkwX6_feed_4 ++ dktX6_feed_5
def dkwX6_feed_3 : List UInt8 := [180, 0, 98, 21, 6, 96, 42, 180, 0, 24, 21, 6, 7, 108, 46, 16, 24, 16, 8, 21, 6, 7, 112, 104]
abbrev dktX6_feed_3 : List UInt8 := dkwX6_feed_3 ++ dktX6_feed_4
def dkwX6_feed_2 : List UInt8 := [180, 0, 24, 7, 21, 5, 79, 3, 54, 6, 21, 6, 16, 20, 162, 0, 42, 42, 180, 0, 20, 42]
abbrev dktX6_feed_2 : List UInt8 := dkwX6_feed_2 ++ dktX6_feed_3
def dkwX6_feed_1 : List UInt8 := [180, 0, 24, 4, 28, 79, 42, 180, 0, 24, 5, 29, 79, 42, 180, 0, 24, 6, 21, 4, 79, 42]
abbrev dktX6_feed_1 : List UInt8 := dkwX6_feed_1 ++ dktX6_feed_2
def dkwX6_feed_0 : List UInt8 := [42, 180, 0, 98, 16, 20, 96, 17, 2, 188, 164, 0, 5, 2, 172, 42, 180, 0, 24, 3, 27, 79, 42]
abbrev dktX6_feed_0 : List UInt8 := dkwX6_feed_0 ++ dktX6_feed_1
theorem dksX6_feed_0 : cX6_feed.data.toList.drop 0 = dktX6_feed_0 := by decide +kernel
theorem dksX6_feed_1 : cX6_feed.data.toList.drop 23 = dktX6_feed_1 := dk_seg dksX6_feed_0 23 rfl rfl
theorem dksX6_feed_2 : cX6_feed.data.toList.drop 45 = dktX6_feed_2 := dk_seg dksX6_feed_1 22 rfl rfl
theorem dksX6_feed_3 : cX6_feed.data.toList.drop 67 = dktX6_feed_3 := dk_seg dksX6_feed_2 22 rfl rfl
theorem dksX6_feed_4 : cX6_feed.data.toList.drop 91 = dktX6_feed_4 := dk_seg dksX6_feed_3 24 rfl rfl
theorem dksX6_feed_5 : cX6_feed.data.toList.drop 113 = dktX6_feed_5 := dk_seg dksX6_feed_4 22 rfl rfl
theorem dX6_feed_0 : decode cX6_feed 0 = .ok (.aload_n 0, 1) := dk_42 (dk_at dksX6_feed_0 0 rfl rfl)
theorem dX6_feed_1 : decode cX6_feed 1 = .ok (.getfield 98, 3) := dk_180 0 98 (dk_at dksX6_feed_0 1 rfl rfl)
theorem dX6_feed_4 : decode cX6_feed 4 = .ok (.bipush 20, 2) := dk_16 20 (dk_at dksX6_feed_0 4 rfl rfl)
theorem dX6_feed_6 : decode cX6_feed 6 = .ok (.iadd, 1) := dk_96 (dk_at dksX6_feed_0 6 rfl rfl)
theorem dX6_feed_7 : decode cX6_feed 7 = .ok (.sipush 700, 3) := dk_17 2 188 (dk_at dksX6_feed_0 7 rfl rfl)
theorem dX6_feed_10 : decode cX6_feed 10 = .ok (.if_icmp .le 5, 3) := dk_164 0 5 (dk_at dksX6_feed_0 10 rfl rfl)
theorem dX6_feed_13 : decode cX6_feed 13 = .ok (.iconst (-1), 1) := dk_2 (dk_at dksX6_feed_0 13 rfl rfl)
theorem dX6_feed_14 : decode cX6_feed 14 = .ok (.ireturn, 1) := dk_172 (dk_at dksX6_feed_0 14 rfl rfl)
theorem dX6_feed_15 : decode cX6_feed 15 = .ok (.aload_n 0, 1) := dk_42 (dk_at dksX6_feed_0 15 rfl rfl)
theorem dX6_feed_16 : decode cX6_feed 16 = .ok (.getfield 24, 3) := dk_180 0 24 (dk_at dksX6_feed_0 16 rfl rfl)
theorem dX6_feed_19 : decode cX6_feed 19 = .ok (.iconst 0, 1) := dk_3 (dk_at dksX6_feed_0 19 rfl rfl)
theorem dX6_feed_20 : decode cX6_feed 20 = .ok (.iload_n 1, 1) := dk_27 (dk_at dksX6_feed_0 20 rfl rfl)
theorem dX6_feed_21 : decode cX6_feed 21 = .ok (.iastore, 1) := dk_79 (dk_at dksX6_feed_0 21 rfl rfl)
theorem dX6_feed_22 : decode cX6_feed 22 = .ok (.aload_n 0, 1) := dk_42 (dk_at dksX6_feed_0 22 rfl rfl)
theorem dX6_feed_23 : decode cX6_feed 23 = .ok (.getfield 24, 3) := dk_180 0 24 (dk_at dksX6_feed_1 0 rfl rfl)
theorem dX6_feed_26 : decode cX6_feed 26 = .ok (.iconst 1, 1) := dk_4 (dk_at dksX6_feed_1 3 rfl rfl)
theorem dX6_feed_27 : decode cX6_feed 27 = .ok (.iload_n 2, 1) := dk_28 (dk_at dksX6_feed_1 4 rfl rfl)
theorem dX6_feed_28 : decode cX6_feed 28 = .ok (.iastore, 1) := dk_79 (dk_at dksX6_feed_1 5 rfl rfl)
theorem dX6_feed_29 : decode cX6_feed 29 = .ok (.aload_n 0, 1) := dk_42 (dk_at dksX6_feed_1 6 rfl rfl)
theorem dX6_feed_30 : decode cX6_feed 30 = .ok (.getfield 24, 3) := dk_180 0 24 (dk_at dksX6_feed_1 7 rfl rfl)
theorem dX6_feed_33 : decode cX6_feed 33 = .ok (.iconst 2, 1) := dk_5 (dk_at dksX6_feed_1 10 rfl rfl)
theorem dX6_feed_34 : decode cX6_feed 34 = .ok (.iload_n 3, 1) := dk_29 (dk_at dksX6_feed_1 11 rfl rfl)
theorem dX6_feed_35 : decode cX6_feed 35 = .ok (.iastore, 1) := dk_79 (dk_at dksX6_feed_1 12 rfl rfl)
theorem dX6_feed_36 : decode cX6_feed 36 = .ok (.aload_n 0, 1) := dk_42 (dk_at dksX6_feed_1 13 rfl rfl)
theorem dX6_feed_37 : decode cX6_feed 37 = .ok (.getfield 24, 3) := dk_180 0 24 (dk_at dksX6_feed_1 14 rfl rfl)
theorem dX6_feed_40 : decode cX6_feed 40 = .ok (.iconst 3, 1) := dk_6 (dk_at dksX6_feed_1 17 rfl rfl)
theorem dX6_feed_41 : decode cX6_feed 41 = .ok (.iload 4, 2) := dk_21 4 (dk_at dksX6_feed_1 18 rfl rfl)
theorem dX6_feed_43 : decode cX6_feed 43 = .ok (.iastore, 1) := dk_79 (dk_at dksX6_feed_1 20 rfl rfl)
theorem dX6_feed_44 : decode cX6_feed 44 = .ok (.aload_n 0, 1) := dk_42 (dk_at dksX6_feed_1 21 rfl rfl)
theorem dX6_feed_45 : decode cX6_feed 45 = .ok (.getfield 24, 3) := dk_180 0 24 (dk_at dksX6_feed_2 0 rfl rfl)
theorem dX6_feed_48 : decode cX6_feed 48 = .ok (.iconst 4, 1) := dk_7 (dk_at dksX6_feed_2 3 rfl rfl)
theorem dX6_feed_49 : decode cX6_feed 49 = .ok (.iload 5, 2) := dk_21 5 (dk_at dksX6_feed_2 4 rfl rfl)
theorem dX6_feed_51 : decode cX6_feed 51 = .ok (.iastore, 1) := dk_79 (dk_at dksX6_feed_2 6 rfl rfl)
theorem dX6_feed_52 : decode cX6_feed 52 = .ok (.iconst 0, 1) := dk_3 (dk_at dksX6_feed_2 7 rfl rfl)
theorem dX6_feed_53 : decode cX6_feed 53 = .ok (.istore 6, 2) := dk_54 6 (dk_at dksX6_feed_2 8 rfl rfl)
theorem dX6_feed_55 : decode cX6_feed 55 = .ok (.iload 6, 2) := dk_21 6 (dk_at dksX6_feed_2 10 rfl rfl)
theorem dX6_feed_57 : decode cX6_feed 57 = .ok (.bipush 20, 2) := dk_16 20 (dk_at dksX6_feed_2 12 rfl rfl)
theorem dX6_feed_59 : decode cX6_feed 59 = .ok (.if_icmp .ge 42, 3) := dk_162 0 42 (dk_at dksX6_feed_2 14 rfl rfl)
theorem dX6_feed_62 : decode cX6_feed 62 = .ok (.aload_n 0, 1) := dk_42 (dk_at dksX6_feed_2 17 rfl rfl)
theorem dX6_feed_63 : decode cX6_feed 63 = .ok (.getfield 20, 3) := dk_180 0 20 (dk_at dksX6_feed_2 18 rfl rfl)
theorem dX6_feed_66 : decode cX6_feed 66 = .ok (.aload_n 0, 1) := dk_42 (dk_at dksX6_feed_2 21 rfl rfl)
theorem dX6_feed_67 : decode cX6_feed 67 = .ok (.getfield 98, 3) := dk_180 0 98 (dk_at dksX6_feed_3 0 rfl rfl)
theorem dX6_feed_70 : decode cX6_feed 70 = .ok (.iload 6, 2) := dk_21 6 (dk_at dksX6_feed_3 3 rfl rfl)
theorem dX6_feed_72 : decode cX6_feed 72 = .ok (.iadd, 1) := dk_96 (dk_at dksX6_feed_3 5 rfl rfl)
theorem dX6_feed_73 : decode cX6_feed 73 = .ok (.aload_n 0, 1) := dk_42 (dk_at dksX6_feed_3 6 rfl rfl)
theorem dX6_feed_74 : decode cX6_feed 74 = .ok (.getfield 24, 3) := dk_180 0 24 (dk_at dksX6_feed_3 7 rfl rfl)
theorem dX6_feed_77 : decode cX6_feed 77 = .ok (.iload 6, 2) := dk_21 6 (dk_at dksX6_feed_3 10 rfl rfl)
theorem dX6_feed_79 : decode cX6_feed 79 = .ok (.iconst 4, 1) := dk_7 (dk_at dksX6_feed_3 12 rfl rfl)
theorem dX6_feed_80 : decode cX6_feed 80 = .ok (.idiv, 1) := dk_108 (dk_at dksX6_feed_3 13 rfl rfl)
theorem dX6_feed_81 : decode cX6_feed 81 = .ok (.iaload, 1) := dk_46 (dk_at dksX6_feed_3 14 rfl rfl)
theorem dX6_feed_82 : decode cX6_feed 82 = .ok (.bipush 24, 2) := dk_16 24 (dk_at dksX6_feed_3 15 rfl rfl)
theorem dX6_feed_84 : decode cX6_feed 84 = .ok (.bipush 8, 2) := dk_16 8 (dk_at dksX6_feed_3 17 rfl rfl)
theorem dX6_feed_86 : decode cX6_feed 86 = .ok (.iload 6, 2) := dk_21 6 (dk_at dksX6_feed_3 19 rfl rfl)
theorem dX6_feed_88 : decode cX6_feed 88 = .ok (.iconst 4, 1) := dk_7 (dk_at dksX6_feed_3 21 rfl rfl)
theorem dX6_feed_89 : decode cX6_feed 89 = .ok (.irem, 1) := dk_112 (dk_at dksX6_feed_3 22 rfl rfl)
theorem dX6_feed_90 : decode cX6_feed 90 = .ok (.imul, 1) := dk_104 (dk_at dksX6_feed_3 23 rfl rfl)
theorem dX6_feed_91 : decode cX6_feed 91 = .ok (.isub, 1) := dk_100 (dk_at dksX6_feed_4 0 rfl rfl)
theorem dX6_feed_92 : decode cX6_feed 92 = .ok (.ishr, 1) := dk_122 (dk_at dksX6_feed_4 1 rfl rfl)
theorem dX6_feed_93 : decode cX6_feed 93 = .ok (.i2b, 1) := dk_145 (dk_at dksX6_feed_4 2 rfl rfl)
theorem dX6_feed_94 : decode cX6_feed 94 = .ok (.bastore, 1) := dk_84 (dk_at dksX6_feed_4 3 rfl rfl)
theorem dX6_feed_95 : decode cX6_feed 95 = .ok (.iinc 6 1, 3) := dk_132 6 1 (dk_at dksX6_feed_4 4 rfl rfl)
theorem dX6_feed_98 : decode cX6_feed 98 = .ok (.goto (-43), 3) := dk_167 255 213 (dk_at dksX6_feed_4 7 rfl rfl)
theorem dX6_feed_101 : decode cX6_feed 101 = .ok (.aload_n 0, 1) := dk_42 (dk_at dksX6_feed_4 10 rfl rfl)
theorem dX6_feed_102 : decode cX6_feed 102 = .ok (.dup, 1) := dk_89 (dk_at dksX6_feed_4 11 rfl rfl)
theorem dX6_feed_103 : decode cX6_feed 103 = .ok (.getfield 98, 3) := dk_180 0 98 (dk_at dksX6_feed_4 12 rfl rfl)
theorem dX6_feed_106 : decode cX6_feed 106 = .ok (.bipush 20, 2) := dk_16 20 (dk_at dksX6_feed_4 15 rfl rfl)
theorem dX6_feed_108 : decode cX6_feed 108 = .ok (.iadd, 1) := dk_96 (dk_at dksX6_feed_4 17 rfl rfl)
theorem dX6_feed_109 : decode cX6_feed 109 = .ok (.putfield 98, 3) := dk_181 0 98 (dk_at dksX6_feed_4 18 rfl rfl)
theorem dX6_feed_112 : decode cX6_feed 112 = .ok (.aload_n 0, 1) := dk_42 (dk_at dksX6_feed_4 21 rfl rfl)
theorem dX6_feed_113 : decode cX6_feed 113 = .ok (.getfield 98, 3) := dk_180 0 98 (dk_at dksX6_feed_5 0 rfl rfl)
theorem dX6_feed_116 : decode cX6_feed 116 = .ok (.ireturn, 1) := dk_172 (dk_at dksX6_feed_5 3 rfl rfl)
abbrev cX6_end : ByteArray := prog_14_method_15_code
def yX6_end : MethodName := ⟨RX6, "end", "(I)I"⟩
def dkwX6_end_0 : List UInt8 := [27, 133, 9, 42, 180, 0, 98, 133, 184, 0, 92, 154, 0, 5, 2, 172, 42, 27, 181, 0, 98, 27, 172]
abbrev dktX6_end_0 : List UInt8 := dkwX6_end_0 ++ []
theorem dksX6_end_0 : cX6_end.data.toList.drop 0 = dktX6_end_0 := by decide +kernel
theorem dX6_end_0 : decode cX6_end 0 = .ok (.iload_n 1, 1) := dk_27 (dk_at dksX6_end_0 0 rfl rfl)
theorem dX6_end_1 : decode cX6_end 1 = .ok (.i2l, 1) := dk_133 (dk_at dksX6_end_0 1 rfl rfl)
theorem dX6_end_2 : decode cX6_end 2 = .ok (.lconst 0, 1) := dk_9 (dk_at dksX6_end_0 2 rfl rfl)
theorem dX6_end_3 : decode cX6_end 3 = .ok (.aload_n 0, 1) := dk_42 (dk_at dksX6_end_0 3 rfl rfl)
theorem dX6_end_4 : decode cX6_end 4 = .ok (.getfield 98, 3) := dk_180 0 98 (dk_at dksX6_end_0 4 rfl rfl)
theorem dX6_end_7 : decode cX6_end 7 = .ok (.i2l, 1) := dk_133 (dk_at dksX6_end_0 7 rfl rfl)
theorem dX6_end_8 : decode cX6_end 8 = .ok (.invokestatic 92, 3) := dk_184 0 92 (dk_at dksX6_end_0 8 rfl rfl)
theorem dX6_end_11 : decode cX6_end 11 = .ok (.ifCond .ne 5, 3) := dk_154 0 5 (dk_at dksX6_end_0 11 rfl rfl)
theorem dX6_end_14 : decode cX6_end 14 = .ok (.iconst (-1), 1) := dk_2 (dk_at dksX6_end_0 14 rfl rfl)
theorem dX6_end_15 : decode cX6_end 15 = .ok (.ireturn, 1) := dk_172 (dk_at dksX6_end_0 15 rfl rfl)
theorem dX6_end_16 : decode cX6_end 16 = .ok (.aload_n 0, 1) := dk_42 (dk_at dksX6_end_0 16 rfl rfl)
theorem dX6_end_17 : decode cX6_end 17 = .ok (.iload_n 1, 1) := dk_27 (dk_at dksX6_end_0 17 rfl rfl)
theorem dX6_end_18 : decode cX6_end 18 = .ok (.putfield 98, 3) := dk_181 0 98 (dk_at dksX6_end_0 18 rfl rfl)
theorem dX6_end_21 : decode cX6_end 21 = .ok (.iload_n 1, 1) := dk_27 (dk_at dksX6_end_0 21 rfl rfl)
theorem dX6_end_22 : decode cX6_end 22 = .ok (.ireturn, 1) := dk_172 (dk_at dksX6_end_0 22 rfl rfl)
abbrev cX6_fault : ByteArray := prog_14_method_25_code
def yX6_fault : MethodName := ⟨RX6, "fault", "(I)I"⟩
def dkwX6_fault_1 : List UInt8 := [172]
abbrev dktX6_fault_1 : List UInt8 := dkwX6_fault_1 ++ []
def dkwX6_fault_0 : List UInt8 := [27, 154, 0, 10, 42, 180, 0, 135, 167, 0, 16, 27, 4, 160, 0, 10, 42, 180, 0, 27, 167, 0, 4, 2]
abbrev dktX6_fault_0 : List UInt8 := dkwX6_fault_0 ++ dktX6_fault_1
theorem dksX6_fault_0 : cX6_fault.data.toList.drop 0 = dktX6_fault_0 := by decide +kernel
theorem dksX6_fault_1 : cX6_fault.data.toList.drop 24 = dktX6_fault_1 := dk_seg dksX6_fault_0 24 rfl rfl
theorem dX6_fault_0 : decode cX6_fault 0 = .ok (.iload_n 1, 1) := dk_27 (dk_at dksX6_fault_0 0 rfl rfl)
theorem dX6_fault_1 : decode cX6_fault 1 = .ok (.ifCond .ne 10, 3) := dk_154 0 10 (dk_at dksX6_fault_0 1 rfl rfl)
theorem dX6_fault_4 : decode cX6_fault 4 = .ok (.aload_n 0, 1) := dk_42 (dk_at dksX6_fault_0 4 rfl rfl)
theorem dX6_fault_5 : decode cX6_fault 5 = .ok (.getfield 135, 3) := dk_180 0 135 (dk_at dksX6_fault_0 5 rfl rfl)
theorem dX6_fault_8 : decode cX6_fault 8 = .ok (.goto 16, 3) := dk_167 0 16 (dk_at dksX6_fault_0 8 rfl rfl)
theorem dX6_fault_11 : decode cX6_fault 11 = .ok (.iload_n 1, 1) := dk_27 (dk_at dksX6_fault_0 11 rfl rfl)
theorem dX6_fault_12 : decode cX6_fault 12 = .ok (.iconst 1, 1) := dk_4 (dk_at dksX6_fault_0 12 rfl rfl)
theorem dX6_fault_13 : decode cX6_fault 13 = .ok (.if_icmp .ne 10, 3) := dk_160 0 10 (dk_at dksX6_fault_0 13 rfl rfl)
theorem dX6_fault_16 : decode cX6_fault 16 = .ok (.aload_n 0, 1) := dk_42 (dk_at dksX6_fault_0 16 rfl rfl)
theorem dX6_fault_17 : decode cX6_fault 17 = .ok (.getfield 27, 3) := dk_180 0 27 (dk_at dksX6_fault_0 17 rfl rfl)
theorem dX6_fault_20 : decode cX6_fault 20 = .ok (.goto 4, 3) := dk_167 0 4 (dk_at dksX6_fault_0 20 rfl rfl)
theorem dX6_fault_23 : decode cX6_fault 23 = .ok (.iconst (-1), 1) := dk_2 (dk_at dksX6_fault_0 23 rfl rfl)
theorem dX6_fault_24 : decode cX6_fault 24 = .ok (.ireturn, 1) := dk_172 (dk_at dksX6_fault_1 0 rfl rfl)
abbrev cX6_rivers : ByteArray := prog_14_method_32_code
def yX6_rivers : MethodName := ⟨RX6, "rivers", "()I"⟩
def dkwX6_rivers_7 : List UInt8 := [167, 255, 235, 42, 180, 0, 9, 16, 7, 46, 172]
abbrev dktX6_rivers_7 : List UInt8 := dkwX6_rivers_7 ++ []
def dkwX6_rivers_6 : List UInt8 := [60, 27, 16, 98, 162, 0, 21, 42, 180, 0, 9, 27, 42, 180, 0, 31, 27, 46, 79, 132, 1, 1]
abbrev dktX6_rivers_6 : List UInt8 := dkwX6_rivers_6 ++ dktX6_rivers_7
def dkwX6_rivers_5 : List UInt8 := [161, 0, 17, 42, 180, 0, 31, 16, 8, 6, 27, 104, 96, 3, 96, 2, 79, 132, 1, 1, 167, 255, 207, 3]
abbrev dktX6_rivers_5 : List UInt8 := dkwX6_rivers_5 ++ dktX6_rivers_6
def dkwX6_rivers_4 : List UInt8 := [46, 162, 0, 45, 42, 180, 0, 31, 16, 8, 6, 27, 104, 96, 3, 96, 46, 42, 180, 0, 31, 6, 46]
abbrev dktX6_rivers_4 : List UInt8 := dkwX6_rivers_4 ++ dktX6_rivers_5
def dkwX6_rivers_3 : List UInt8 := [182, 0, 216, 167, 255, 238, 42, 182, 0, 138, 154, 0, 6, 16, 252, 172, 3, 60, 27, 42, 180, 0, 31, 6]
abbrev dktX6_rivers_3 : List UInt8 := dkwX6_rivers_3 ++ dktX6_rivers_4
def dkwX6_rivers_2 : List UInt8 := [167, 255, 240, 42, 182, 0, 156, 42, 182, 0, 138, 153, 0, 17, 42, 180, 0, 114, 153, 0, 10, 42]
abbrev dktX6_rivers_2 : List UInt8 := dkwX6_rivers_2 ++ dktX6_rivers_3
def dkwX6_rivers_1 : List UInt8 := [2, 181, 0, 27, 3, 60, 27, 16, 98, 162, 0, 16, 42, 180, 0, 31, 27, 3, 79, 132, 1, 1]
abbrev dktX6_rivers_1 : List UInt8 := dkwX6_rivers_1 ++ dktX6_rivers_2
def dkwX6_rivers_0 : List UInt8 := [42, 42, 180, 0, 98, 181, 0, 101, 42, 3, 181, 0, 98, 42, 3, 181, 0, 104, 42, 3, 181, 0, 135, 42]
abbrev dktX6_rivers_0 : List UInt8 := dkwX6_rivers_0 ++ dktX6_rivers_1
theorem dksX6_rivers_0 : cX6_rivers.data.toList.drop 0 = dktX6_rivers_0 := by decide +kernel
theorem dksX6_rivers_1 : cX6_rivers.data.toList.drop 24 = dktX6_rivers_1 := dk_seg dksX6_rivers_0 24 rfl rfl
theorem dksX6_rivers_2 : cX6_rivers.data.toList.drop 46 = dktX6_rivers_2 := dk_seg dksX6_rivers_1 22 rfl rfl
theorem dksX6_rivers_3 : cX6_rivers.data.toList.drop 68 = dktX6_rivers_3 := dk_seg dksX6_rivers_2 22 rfl rfl
theorem dksX6_rivers_4 : cX6_rivers.data.toList.drop 92 = dktX6_rivers_4 := dk_seg dksX6_rivers_3 24 rfl rfl
theorem dksX6_rivers_5 : cX6_rivers.data.toList.drop 115 = dktX6_rivers_5 := dk_seg dksX6_rivers_4 23 rfl rfl
theorem dksX6_rivers_6 : cX6_rivers.data.toList.drop 139 = dktX6_rivers_6 := dk_seg dksX6_rivers_5 24 rfl rfl
theorem dksX6_rivers_7 : cX6_rivers.data.toList.drop 161 = dktX6_rivers_7 := dk_seg dksX6_rivers_6 22 rfl rfl
theorem dX6_rivers_0 : decode cX6_rivers 0 = .ok (.aload_n 0, 1) := dk_42 (dk_at dksX6_rivers_0 0 rfl rfl)
theorem dX6_rivers_1 : decode cX6_rivers 1 = .ok (.aload_n 0, 1) := dk_42 (dk_at dksX6_rivers_0 1 rfl rfl)
theorem dX6_rivers_2 : decode cX6_rivers 2 = .ok (.getfield 98, 3) := dk_180 0 98 (dk_at dksX6_rivers_0 2 rfl rfl)
theorem dX6_rivers_5 : decode cX6_rivers 5 = .ok (.putfield 101, 3) := dk_181 0 101 (dk_at dksX6_rivers_0 5 rfl rfl)
theorem dX6_rivers_8 : decode cX6_rivers 8 = .ok (.aload_n 0, 1) := dk_42 (dk_at dksX6_rivers_0 8 rfl rfl)
theorem dX6_rivers_9 : decode cX6_rivers 9 = .ok (.iconst 0, 1) := dk_3 (dk_at dksX6_rivers_0 9 rfl rfl)
theorem dX6_rivers_10 : decode cX6_rivers 10 = .ok (.putfield 98, 3) := dk_181 0 98 (dk_at dksX6_rivers_0 10 rfl rfl)
theorem dX6_rivers_13 : decode cX6_rivers 13 = .ok (.aload_n 0, 1) := dk_42 (dk_at dksX6_rivers_0 13 rfl rfl)
theorem dX6_rivers_14 : decode cX6_rivers 14 = .ok (.iconst 0, 1) := dk_3 (dk_at dksX6_rivers_0 14 rfl rfl)
theorem dX6_rivers_15 : decode cX6_rivers 15 = .ok (.putfield 104, 3) := dk_181 0 104 (dk_at dksX6_rivers_0 15 rfl rfl)
theorem dX6_rivers_18 : decode cX6_rivers 18 = .ok (.aload_n 0, 1) := dk_42 (dk_at dksX6_rivers_0 18 rfl rfl)
theorem dX6_rivers_19 : decode cX6_rivers 19 = .ok (.iconst 0, 1) := dk_3 (dk_at dksX6_rivers_0 19 rfl rfl)
theorem dX6_rivers_20 : decode cX6_rivers 20 = .ok (.putfield 135, 3) := dk_181 0 135 (dk_at dksX6_rivers_0 20 rfl rfl)
theorem dX6_rivers_23 : decode cX6_rivers 23 = .ok (.aload_n 0, 1) := dk_42 (dk_at dksX6_rivers_0 23 rfl rfl)
theorem dX6_rivers_24 : decode cX6_rivers 24 = .ok (.iconst (-1), 1) := dk_2 (dk_at dksX6_rivers_1 0 rfl rfl)
theorem dX6_rivers_25 : decode cX6_rivers 25 = .ok (.putfield 27, 3) := dk_181 0 27 (dk_at dksX6_rivers_1 1 rfl rfl)
theorem dX6_rivers_28 : decode cX6_rivers 28 = .ok (.iconst 0, 1) := dk_3 (dk_at dksX6_rivers_1 4 rfl rfl)
theorem dX6_rivers_29 : decode cX6_rivers 29 = .ok (.istore_n 1, 1) := dk_60 (dk_at dksX6_rivers_1 5 rfl rfl)
theorem dX6_rivers_30 : decode cX6_rivers 30 = .ok (.iload_n 1, 1) := dk_27 (dk_at dksX6_rivers_1 6 rfl rfl)
theorem dX6_rivers_31 : decode cX6_rivers 31 = .ok (.bipush 98, 2) := dk_16 98 (dk_at dksX6_rivers_1 7 rfl rfl)
theorem dX6_rivers_33 : decode cX6_rivers 33 = .ok (.if_icmp .ge 16, 3) := dk_162 0 16 (dk_at dksX6_rivers_1 9 rfl rfl)
theorem dX6_rivers_36 : decode cX6_rivers 36 = .ok (.aload_n 0, 1) := dk_42 (dk_at dksX6_rivers_1 12 rfl rfl)
theorem dX6_rivers_37 : decode cX6_rivers 37 = .ok (.getfield 31, 3) := dk_180 0 31 (dk_at dksX6_rivers_1 13 rfl rfl)
theorem dX6_rivers_40 : decode cX6_rivers 40 = .ok (.iload_n 1, 1) := dk_27 (dk_at dksX6_rivers_1 16 rfl rfl)
theorem dX6_rivers_41 : decode cX6_rivers 41 = .ok (.iconst 0, 1) := dk_3 (dk_at dksX6_rivers_1 17 rfl rfl)
theorem dX6_rivers_42 : decode cX6_rivers 42 = .ok (.iastore, 1) := dk_79 (dk_at dksX6_rivers_1 18 rfl rfl)
theorem dX6_rivers_43 : decode cX6_rivers 43 = .ok (.iinc 1 1, 3) := dk_132 1 1 (dk_at dksX6_rivers_1 19 rfl rfl)
theorem dX6_rivers_46 : decode cX6_rivers 46 = .ok (.goto (-16), 3) := dk_167 255 240 (dk_at dksX6_rivers_2 0 rfl rfl)
theorem dX6_rivers_49 : decode cX6_rivers 49 = .ok (.aload_n 0, 1) := dk_42 (dk_at dksX6_rivers_2 3 rfl rfl)
theorem dX6_rivers_50 : decode cX6_rivers 50 = .ok (.invokevirtual 156, 3) := dk_182 0 156 (dk_at dksX6_rivers_2 4 rfl rfl)
theorem dX6_rivers_53 : decode cX6_rivers 53 = .ok (.aload_n 0, 1) := dk_42 (dk_at dksX6_rivers_2 7 rfl rfl)
theorem dX6_rivers_54 : decode cX6_rivers 54 = .ok (.invokevirtual 138, 3) := dk_182 0 138 (dk_at dksX6_rivers_2 8 rfl rfl)
theorem dX6_rivers_57 : decode cX6_rivers 57 = .ok (.ifCond .eq 17, 3) := dk_153 0 17 (dk_at dksX6_rivers_2 11 rfl rfl)
theorem dX6_rivers_60 : decode cX6_rivers 60 = .ok (.aload_n 0, 1) := dk_42 (dk_at dksX6_rivers_2 14 rfl rfl)
theorem dX6_rivers_61 : decode cX6_rivers 61 = .ok (.getfield 114, 3) := dk_180 0 114 (dk_at dksX6_rivers_2 15 rfl rfl)
theorem dX6_rivers_64 : decode cX6_rivers 64 = .ok (.ifCond .eq 10, 3) := dk_153 0 10 (dk_at dksX6_rivers_2 18 rfl rfl)
theorem dX6_rivers_67 : decode cX6_rivers 67 = .ok (.aload_n 0, 1) := dk_42 (dk_at dksX6_rivers_2 21 rfl rfl)
theorem dX6_rivers_68 : decode cX6_rivers 68 = .ok (.invokevirtual 216, 3) := dk_182 0 216 (dk_at dksX6_rivers_3 0 rfl rfl)
theorem dX6_rivers_71 : decode cX6_rivers 71 = .ok (.goto (-18), 3) := dk_167 255 238 (dk_at dksX6_rivers_3 3 rfl rfl)
theorem dX6_rivers_74 : decode cX6_rivers 74 = .ok (.aload_n 0, 1) := dk_42 (dk_at dksX6_rivers_3 6 rfl rfl)
theorem dX6_rivers_75 : decode cX6_rivers 75 = .ok (.invokevirtual 138, 3) := dk_182 0 138 (dk_at dksX6_rivers_3 7 rfl rfl)
theorem dX6_rivers_78 : decode cX6_rivers 78 = .ok (.ifCond .ne 6, 3) := dk_154 0 6 (dk_at dksX6_rivers_3 10 rfl rfl)
theorem dX6_rivers_81 : decode cX6_rivers 81 = .ok (.bipush (-4), 2) := dk_16 252 (dk_at dksX6_rivers_3 13 rfl rfl)
theorem dX6_rivers_83 : decode cX6_rivers 83 = .ok (.ireturn, 1) := dk_172 (dk_at dksX6_rivers_3 15 rfl rfl)
theorem dX6_rivers_84 : decode cX6_rivers 84 = .ok (.iconst 0, 1) := dk_3 (dk_at dksX6_rivers_3 16 rfl rfl)
theorem dX6_rivers_85 : decode cX6_rivers 85 = .ok (.istore_n 1, 1) := dk_60 (dk_at dksX6_rivers_3 17 rfl rfl)
theorem dX6_rivers_86 : decode cX6_rivers 86 = .ok (.iload_n 1, 1) := dk_27 (dk_at dksX6_rivers_3 18 rfl rfl)
theorem dX6_rivers_87 : decode cX6_rivers 87 = .ok (.aload_n 0, 1) := dk_42 (dk_at dksX6_rivers_3 19 rfl rfl)
theorem dX6_rivers_88 : decode cX6_rivers 88 = .ok (.getfield 31, 3) := dk_180 0 31 (dk_at dksX6_rivers_3 20 rfl rfl)
theorem dX6_rivers_91 : decode cX6_rivers 91 = .ok (.iconst 3, 1) := dk_6 (dk_at dksX6_rivers_3 23 rfl rfl)
theorem dX6_rivers_92 : decode cX6_rivers 92 = .ok (.iaload, 1) := dk_46 (dk_at dksX6_rivers_4 0 rfl rfl)
theorem dX6_rivers_93 : decode cX6_rivers 93 = .ok (.if_icmp .ge 45, 3) := dk_162 0 45 (dk_at dksX6_rivers_4 1 rfl rfl)
theorem dX6_rivers_96 : decode cX6_rivers 96 = .ok (.aload_n 0, 1) := dk_42 (dk_at dksX6_rivers_4 4 rfl rfl)
theorem dX6_rivers_97 : decode cX6_rivers 97 = .ok (.getfield 31, 3) := dk_180 0 31 (dk_at dksX6_rivers_4 5 rfl rfl)
theorem dX6_rivers_100 : decode cX6_rivers 100 = .ok (.bipush 8, 2) := dk_16 8 (dk_at dksX6_rivers_4 8 rfl rfl)
theorem dX6_rivers_102 : decode cX6_rivers 102 = .ok (.iconst 3, 1) := dk_6 (dk_at dksX6_rivers_4 10 rfl rfl)
theorem dX6_rivers_103 : decode cX6_rivers 103 = .ok (.iload_n 1, 1) := dk_27 (dk_at dksX6_rivers_4 11 rfl rfl)
theorem dX6_rivers_104 : decode cX6_rivers 104 = .ok (.imul, 1) := dk_104 (dk_at dksX6_rivers_4 12 rfl rfl)
theorem dX6_rivers_105 : decode cX6_rivers 105 = .ok (.iadd, 1) := dk_96 (dk_at dksX6_rivers_4 13 rfl rfl)
theorem dX6_rivers_106 : decode cX6_rivers 106 = .ok (.iconst 0, 1) := dk_3 (dk_at dksX6_rivers_4 14 rfl rfl)
theorem dX6_rivers_107 : decode cX6_rivers 107 = .ok (.iadd, 1) := dk_96 (dk_at dksX6_rivers_4 15 rfl rfl)
theorem dX6_rivers_108 : decode cX6_rivers 108 = .ok (.iaload, 1) := dk_46 (dk_at dksX6_rivers_4 16 rfl rfl)
theorem dX6_rivers_109 : decode cX6_rivers 109 = .ok (.aload_n 0, 1) := dk_42 (dk_at dksX6_rivers_4 17 rfl rfl)
theorem dX6_rivers_110 : decode cX6_rivers 110 = .ok (.getfield 31, 3) := dk_180 0 31 (dk_at dksX6_rivers_4 18 rfl rfl)
theorem dX6_rivers_113 : decode cX6_rivers 113 = .ok (.iconst 3, 1) := dk_6 (dk_at dksX6_rivers_4 21 rfl rfl)
theorem dX6_rivers_114 : decode cX6_rivers 114 = .ok (.iaload, 1) := dk_46 (dk_at dksX6_rivers_4 22 rfl rfl)
theorem dX6_rivers_115 : decode cX6_rivers 115 = .ok (.if_icmp .lt 17, 3) := dk_161 0 17 (dk_at dksX6_rivers_5 0 rfl rfl)
theorem dX6_rivers_118 : decode cX6_rivers 118 = .ok (.aload_n 0, 1) := dk_42 (dk_at dksX6_rivers_5 3 rfl rfl)
theorem dX6_rivers_119 : decode cX6_rivers 119 = .ok (.getfield 31, 3) := dk_180 0 31 (dk_at dksX6_rivers_5 4 rfl rfl)
theorem dX6_rivers_122 : decode cX6_rivers 122 = .ok (.bipush 8, 2) := dk_16 8 (dk_at dksX6_rivers_5 7 rfl rfl)
theorem dX6_rivers_124 : decode cX6_rivers 124 = .ok (.iconst 3, 1) := dk_6 (dk_at dksX6_rivers_5 9 rfl rfl)
theorem dX6_rivers_125 : decode cX6_rivers 125 = .ok (.iload_n 1, 1) := dk_27 (dk_at dksX6_rivers_5 10 rfl rfl)
theorem dX6_rivers_126 : decode cX6_rivers 126 = .ok (.imul, 1) := dk_104 (dk_at dksX6_rivers_5 11 rfl rfl)
theorem dX6_rivers_127 : decode cX6_rivers 127 = .ok (.iadd, 1) := dk_96 (dk_at dksX6_rivers_5 12 rfl rfl)
theorem dX6_rivers_128 : decode cX6_rivers 128 = .ok (.iconst 0, 1) := dk_3 (dk_at dksX6_rivers_5 13 rfl rfl)
theorem dX6_rivers_129 : decode cX6_rivers 129 = .ok (.iadd, 1) := dk_96 (dk_at dksX6_rivers_5 14 rfl rfl)
theorem dX6_rivers_130 : decode cX6_rivers 130 = .ok (.iconst (-1), 1) := dk_2 (dk_at dksX6_rivers_5 15 rfl rfl)
theorem dX6_rivers_131 : decode cX6_rivers 131 = .ok (.iastore, 1) := dk_79 (dk_at dksX6_rivers_5 16 rfl rfl)
theorem dX6_rivers_132 : decode cX6_rivers 132 = .ok (.iinc 1 1, 3) := dk_132 1 1 (dk_at dksX6_rivers_5 17 rfl rfl)
theorem dX6_rivers_135 : decode cX6_rivers 135 = .ok (.goto (-49), 3) := dk_167 255 207 (dk_at dksX6_rivers_5 20 rfl rfl)
theorem dX6_rivers_138 : decode cX6_rivers 138 = .ok (.iconst 0, 1) := dk_3 (dk_at dksX6_rivers_5 23 rfl rfl)
theorem dX6_rivers_139 : decode cX6_rivers 139 = .ok (.istore_n 1, 1) := dk_60 (dk_at dksX6_rivers_6 0 rfl rfl)
theorem dX6_rivers_140 : decode cX6_rivers 140 = .ok (.iload_n 1, 1) := dk_27 (dk_at dksX6_rivers_6 1 rfl rfl)
theorem dX6_rivers_141 : decode cX6_rivers 141 = .ok (.bipush 98, 2) := dk_16 98 (dk_at dksX6_rivers_6 2 rfl rfl)
theorem dX6_rivers_143 : decode cX6_rivers 143 = .ok (.if_icmp .ge 21, 3) := dk_162 0 21 (dk_at dksX6_rivers_6 4 rfl rfl)
theorem dX6_rivers_146 : decode cX6_rivers 146 = .ok (.aload_n 0, 1) := dk_42 (dk_at dksX6_rivers_6 7 rfl rfl)
theorem dX6_rivers_147 : decode cX6_rivers 147 = .ok (.getfield 9, 3) := dk_180 0 9 (dk_at dksX6_rivers_6 8 rfl rfl)
theorem dX6_rivers_150 : decode cX6_rivers 150 = .ok (.iload_n 1, 1) := dk_27 (dk_at dksX6_rivers_6 11 rfl rfl)
theorem dX6_rivers_151 : decode cX6_rivers 151 = .ok (.aload_n 0, 1) := dk_42 (dk_at dksX6_rivers_6 12 rfl rfl)
theorem dX6_rivers_152 : decode cX6_rivers 152 = .ok (.getfield 31, 3) := dk_180 0 31 (dk_at dksX6_rivers_6 13 rfl rfl)
theorem dX6_rivers_155 : decode cX6_rivers 155 = .ok (.iload_n 1, 1) := dk_27 (dk_at dksX6_rivers_6 16 rfl rfl)
theorem dX6_rivers_156 : decode cX6_rivers 156 = .ok (.iaload, 1) := dk_46 (dk_at dksX6_rivers_6 17 rfl rfl)
theorem dX6_rivers_157 : decode cX6_rivers 157 = .ok (.iastore, 1) := dk_79 (dk_at dksX6_rivers_6 18 rfl rfl)
theorem dX6_rivers_158 : decode cX6_rivers 158 = .ok (.iinc 1 1, 3) := dk_132 1 1 (dk_at dksX6_rivers_6 19 rfl rfl)
theorem dX6_rivers_161 : decode cX6_rivers 161 = .ok (.goto (-21), 3) := dk_167 255 235 (dk_at dksX6_rivers_7 0 rfl rfl)
theorem dX6_rivers_164 : decode cX6_rivers 164 = .ok (.aload_n 0, 1) := dk_42 (dk_at dksX6_rivers_7 3 rfl rfl)
theorem dX6_rivers_165 : decode cX6_rivers 165 = .ok (.getfield 9, 3) := dk_180 0 9 (dk_at dksX6_rivers_7 4 rfl rfl)
theorem dX6_rivers_168 : decode cX6_rivers 168 = .ok (.bipush 7, 2) := dk_16 7 (dk_at dksX6_rivers_7 7 rfl rfl)
theorem dX6_rivers_170 : decode cX6_rivers 170 = .ok (.iaload, 1) := dk_46 (dk_at dksX6_rivers_7 9 rfl rfl)
theorem dX6_rivers_171 : decode cX6_rivers 171 = .ok (.ireturn, 1) := dk_172 (dk_at dksX6_rivers_7 10 rfl rfl)
abbrev cX6_advance : ByteArray := prog_14_method_17_code
def yX6_advance : MethodName := ⟨RX6, "advance", "()V"⟩
def dkwX6_advance_10 : List UInt8 := [96, 181, 0, 104, 177]
abbrev dktX6_advance_10 : List UInt8 := dkwX6_advance_10 ++ []
def dkwX6_advance_9 : List UInt8 := [167, 0, 28, 42, 27, 16, 59, 160, 0, 7, 6, 167, 0, 4, 7, 181, 0, 114, 42, 89, 180, 0, 104, 4]
abbrev dktX6_advance_9 : List UInt8 := dkwX6_advance_9 ++ dktX6_advance_10
def dkwX6_advance_8 : List UInt8 := [184, 0, 129, 181, 0, 125, 42, 89, 180, 0, 104, 4, 96, 181, 0, 104, 167, 255, 197, 42, 5, 181, 0, 114]
abbrev dktX6_advance_8 : List UInt8 := dkwX6_advance_8 ++ dktX6_advance_9
def dkwX6_advance_7 : List UInt8 := [42, 18, 128, 16, 10, 42, 180, 0, 125, 104, 42, 42, 180, 0, 104, 182, 0, 107, 96, 16, 48, 100]
abbrev dktX6_advance_7 : List UInt8 := dkwX6_advance_7 ++ dktX6_advance_8
def dkwX6_advance_6 : List UInt8 := [181, 0, 125, 42, 42, 180, 0, 104, 182, 0, 107, 133, 20, 0, 121, 20, 0, 123, 184, 0, 92, 153, 0, 44]
abbrev dktX6_advance_6 : List UInt8 := dkwX6_advance_6 ++ dktX6_advance_7
def dkwX6_advance_5 : List UInt8 := [181, 0, 114, 167, 0, 117, 27, 133, 20, 0, 121, 20, 0, 123, 184, 0, 92, 153, 0, 78, 42, 3]
abbrev dktX6_advance_5 : List UInt8 := dkwX6_advance_5 ++ dktX6_advance_6
def dkwX6_advance_4 : List UInt8 := [20, 0, 119, 184, 0, 92, 153, 0, 16, 42, 89, 180, 0, 104, 4, 96, 181, 0, 104, 167, 255, 225, 42, 4]
abbrev dktX6_advance_4 : List UInt8 := dkwX6_advance_4 ++ dktX6_advance_5
def dkwX6_advance_3 : List UInt8 := [20, 0, 117, 20, 0, 119, 184, 0, 92, 153, 0, 45, 42, 42, 180, 0, 104, 182, 0, 107, 133, 20, 0, 117]
abbrev dktX6_advance_3 : List UInt8 := dkwX6_advance_3 ++ dktX6_advance_4
def dkwX6_advance_2 : List UInt8 := [42, 42, 180, 0, 104, 182, 0, 107, 60, 27, 2, 160, 0, 11, 42, 3, 181, 0, 114, 167, 0, 173, 27, 133]
abbrev dktX6_advance_2 : List UInt8 := dkwX6_advance_2 ++ dktX6_advance_3
def dkwX6_advance_1 : List UInt8 := [160, 0, 16, 42, 89, 180, 0, 104, 4, 96, 181, 0, 104, 167, 255, 220, 42, 42, 180, 0, 104, 181, 0, 111]
abbrev dktX6_advance_1 : List UInt8 := dkwX6_advance_1 ++ dktX6_advance_2
def dkwX6_advance_0 : List UInt8 := [42, 42, 180, 0, 104, 182, 0, 107, 16, 32, 159, 0, 16, 42, 42, 180, 0, 104, 182, 0, 107, 16, 10]
abbrev dktX6_advance_0 : List UInt8 := dkwX6_advance_0 ++ dktX6_advance_1
theorem dksX6_advance_0 : cX6_advance.data.toList.drop 0 = dktX6_advance_0 := by decide +kernel
theorem dksX6_advance_1 : cX6_advance.data.toList.drop 23 = dktX6_advance_1 := dk_seg dksX6_advance_0 23 rfl rfl
theorem dksX6_advance_2 : cX6_advance.data.toList.drop 47 = dktX6_advance_2 := dk_seg dksX6_advance_1 24 rfl rfl
theorem dksX6_advance_3 : cX6_advance.data.toList.drop 71 = dktX6_advance_3 := dk_seg dksX6_advance_2 24 rfl rfl
theorem dksX6_advance_4 : cX6_advance.data.toList.drop 95 = dktX6_advance_4 := dk_seg dksX6_advance_3 24 rfl rfl
theorem dksX6_advance_5 : cX6_advance.data.toList.drop 119 = dktX6_advance_5 := dk_seg dksX6_advance_4 24 rfl rfl
theorem dksX6_advance_6 : cX6_advance.data.toList.drop 141 = dktX6_advance_6 := dk_seg dksX6_advance_5 22 rfl rfl
theorem dksX6_advance_7 : cX6_advance.data.toList.drop 165 = dktX6_advance_7 := dk_seg dksX6_advance_6 24 rfl rfl
theorem dksX6_advance_8 : cX6_advance.data.toList.drop 187 = dktX6_advance_8 := dk_seg dksX6_advance_7 22 rfl rfl
theorem dksX6_advance_9 : cX6_advance.data.toList.drop 211 = dktX6_advance_9 := dk_seg dksX6_advance_8 24 rfl rfl
theorem dksX6_advance_10 : cX6_advance.data.toList.drop 235 = dktX6_advance_10 := dk_seg dksX6_advance_9 24 rfl rfl
theorem dX6_advance_0 : decode cX6_advance 0 = .ok (.aload_n 0, 1) := dk_42 (dk_at dksX6_advance_0 0 rfl rfl)
theorem dX6_advance_1 : decode cX6_advance 1 = .ok (.aload_n 0, 1) := dk_42 (dk_at dksX6_advance_0 1 rfl rfl)
theorem dX6_advance_2 : decode cX6_advance 2 = .ok (.getfield 104, 3) := dk_180 0 104 (dk_at dksX6_advance_0 2 rfl rfl)
theorem dX6_advance_5 : decode cX6_advance 5 = .ok (.invokevirtual 107, 3) := dk_182 0 107 (dk_at dksX6_advance_0 5 rfl rfl)
theorem dX6_advance_8 : decode cX6_advance 8 = .ok (.bipush 32, 2) := dk_16 32 (dk_at dksX6_advance_0 8 rfl rfl)
theorem dX6_advance_10 : decode cX6_advance 10 = .ok (.if_icmp .eq 16, 3) := dk_159 0 16 (dk_at dksX6_advance_0 10 rfl rfl)
theorem dX6_advance_13 : decode cX6_advance 13 = .ok (.aload_n 0, 1) := dk_42 (dk_at dksX6_advance_0 13 rfl rfl)
theorem dX6_advance_14 : decode cX6_advance 14 = .ok (.aload_n 0, 1) := dk_42 (dk_at dksX6_advance_0 14 rfl rfl)
theorem dX6_advance_15 : decode cX6_advance 15 = .ok (.getfield 104, 3) := dk_180 0 104 (dk_at dksX6_advance_0 15 rfl rfl)
theorem dX6_advance_18 : decode cX6_advance 18 = .ok (.invokevirtual 107, 3) := dk_182 0 107 (dk_at dksX6_advance_0 18 rfl rfl)
theorem dX6_advance_21 : decode cX6_advance 21 = .ok (.bipush 10, 2) := dk_16 10 (dk_at dksX6_advance_0 21 rfl rfl)
theorem dX6_advance_23 : decode cX6_advance 23 = .ok (.if_icmp .ne 16, 3) := dk_160 0 16 (dk_at dksX6_advance_1 0 rfl rfl)
theorem dX6_advance_26 : decode cX6_advance 26 = .ok (.aload_n 0, 1) := dk_42 (dk_at dksX6_advance_1 3 rfl rfl)
theorem dX6_advance_27 : decode cX6_advance 27 = .ok (.dup, 1) := dk_89 (dk_at dksX6_advance_1 4 rfl rfl)
theorem dX6_advance_28 : decode cX6_advance 28 = .ok (.getfield 104, 3) := dk_180 0 104 (dk_at dksX6_advance_1 5 rfl rfl)
theorem dX6_advance_31 : decode cX6_advance 31 = .ok (.iconst 1, 1) := dk_4 (dk_at dksX6_advance_1 8 rfl rfl)
theorem dX6_advance_32 : decode cX6_advance 32 = .ok (.iadd, 1) := dk_96 (dk_at dksX6_advance_1 9 rfl rfl)
theorem dX6_advance_33 : decode cX6_advance 33 = .ok (.putfield 104, 3) := dk_181 0 104 (dk_at dksX6_advance_1 10 rfl rfl)
theorem dX6_advance_36 : decode cX6_advance 36 = .ok (.goto (-36), 3) := dk_167 255 220 (dk_at dksX6_advance_1 13 rfl rfl)
theorem dX6_advance_39 : decode cX6_advance 39 = .ok (.aload_n 0, 1) := dk_42 (dk_at dksX6_advance_1 16 rfl rfl)
theorem dX6_advance_40 : decode cX6_advance 40 = .ok (.aload_n 0, 1) := dk_42 (dk_at dksX6_advance_1 17 rfl rfl)
theorem dX6_advance_41 : decode cX6_advance 41 = .ok (.getfield 104, 3) := dk_180 0 104 (dk_at dksX6_advance_1 18 rfl rfl)
theorem dX6_advance_44 : decode cX6_advance 44 = .ok (.putfield 111, 3) := dk_181 0 111 (dk_at dksX6_advance_1 21 rfl rfl)
theorem dX6_advance_47 : decode cX6_advance 47 = .ok (.aload_n 0, 1) := dk_42 (dk_at dksX6_advance_2 0 rfl rfl)
theorem dX6_advance_48 : decode cX6_advance 48 = .ok (.aload_n 0, 1) := dk_42 (dk_at dksX6_advance_2 1 rfl rfl)
theorem dX6_advance_49 : decode cX6_advance 49 = .ok (.getfield 104, 3) := dk_180 0 104 (dk_at dksX6_advance_2 2 rfl rfl)
theorem dX6_advance_52 : decode cX6_advance 52 = .ok (.invokevirtual 107, 3) := dk_182 0 107 (dk_at dksX6_advance_2 5 rfl rfl)
theorem dX6_advance_55 : decode cX6_advance 55 = .ok (.istore_n 1, 1) := dk_60 (dk_at dksX6_advance_2 8 rfl rfl)
theorem dX6_advance_56 : decode cX6_advance 56 = .ok (.iload_n 1, 1) := dk_27 (dk_at dksX6_advance_2 9 rfl rfl)
theorem dX6_advance_57 : decode cX6_advance 57 = .ok (.iconst (-1), 1) := dk_2 (dk_at dksX6_advance_2 10 rfl rfl)
theorem dX6_advance_58 : decode cX6_advance 58 = .ok (.if_icmp .ne 11, 3) := dk_160 0 11 (dk_at dksX6_advance_2 11 rfl rfl)
theorem dX6_advance_61 : decode cX6_advance 61 = .ok (.aload_n 0, 1) := dk_42 (dk_at dksX6_advance_2 14 rfl rfl)
theorem dX6_advance_62 : decode cX6_advance 62 = .ok (.iconst 0, 1) := dk_3 (dk_at dksX6_advance_2 15 rfl rfl)
theorem dX6_advance_63 : decode cX6_advance 63 = .ok (.putfield 114, 3) := dk_181 0 114 (dk_at dksX6_advance_2 16 rfl rfl)
theorem dX6_advance_66 : decode cX6_advance 66 = .ok (.goto 173, 3) := dk_167 0 173 (dk_at dksX6_advance_2 19 rfl rfl)
theorem dX6_advance_69 : decode cX6_advance 69 = .ok (.iload_n 1, 1) := dk_27 (dk_at dksX6_advance_2 22 rfl rfl)
theorem dX6_advance_70 : decode cX6_advance 70 = .ok (.i2l, 1) := dk_133 (dk_at dksX6_advance_2 23 rfl rfl)
theorem dX6_advance_71 : decode cX6_advance 71 = .ok (.ldc2_w 117, 3) := dk_20 0 117 (dk_at dksX6_advance_3 0 rfl rfl)
theorem dX6_advance_74 : decode cX6_advance 74 = .ok (.ldc2_w 119, 3) := dk_20 0 119 (dk_at dksX6_advance_3 3 rfl rfl)
theorem dX6_advance_77 : decode cX6_advance 77 = .ok (.invokestatic 92, 3) := dk_184 0 92 (dk_at dksX6_advance_3 6 rfl rfl)
theorem dX6_advance_80 : decode cX6_advance 80 = .ok (.ifCond .eq 45, 3) := dk_153 0 45 (dk_at dksX6_advance_3 9 rfl rfl)
theorem dX6_advance_83 : decode cX6_advance 83 = .ok (.aload_n 0, 1) := dk_42 (dk_at dksX6_advance_3 12 rfl rfl)
theorem dX6_advance_84 : decode cX6_advance 84 = .ok (.aload_n 0, 1) := dk_42 (dk_at dksX6_advance_3 13 rfl rfl)
theorem dX6_advance_85 : decode cX6_advance 85 = .ok (.getfield 104, 3) := dk_180 0 104 (dk_at dksX6_advance_3 14 rfl rfl)
theorem dX6_advance_88 : decode cX6_advance 88 = .ok (.invokevirtual 107, 3) := dk_182 0 107 (dk_at dksX6_advance_3 17 rfl rfl)
theorem dX6_advance_91 : decode cX6_advance 91 = .ok (.i2l, 1) := dk_133 (dk_at dksX6_advance_3 20 rfl rfl)
theorem dX6_advance_92 : decode cX6_advance 92 = .ok (.ldc2_w 117, 3) := dk_20 0 117 (dk_at dksX6_advance_3 21 rfl rfl)
theorem dX6_advance_95 : decode cX6_advance 95 = .ok (.ldc2_w 119, 3) := dk_20 0 119 (dk_at dksX6_advance_4 0 rfl rfl)
theorem dX6_advance_98 : decode cX6_advance 98 = .ok (.invokestatic 92, 3) := dk_184 0 92 (dk_at dksX6_advance_4 3 rfl rfl)
theorem dX6_advance_101 : decode cX6_advance 101 = .ok (.ifCond .eq 16, 3) := dk_153 0 16 (dk_at dksX6_advance_4 6 rfl rfl)
theorem dX6_advance_104 : decode cX6_advance 104 = .ok (.aload_n 0, 1) := dk_42 (dk_at dksX6_advance_4 9 rfl rfl)
theorem dX6_advance_105 : decode cX6_advance 105 = .ok (.dup, 1) := dk_89 (dk_at dksX6_advance_4 10 rfl rfl)
theorem dX6_advance_106 : decode cX6_advance 106 = .ok (.getfield 104, 3) := dk_180 0 104 (dk_at dksX6_advance_4 11 rfl rfl)
theorem dX6_advance_109 : decode cX6_advance 109 = .ok (.iconst 1, 1) := dk_4 (dk_at dksX6_advance_4 14 rfl rfl)
theorem dX6_advance_110 : decode cX6_advance 110 = .ok (.iadd, 1) := dk_96 (dk_at dksX6_advance_4 15 rfl rfl)
theorem dX6_advance_111 : decode cX6_advance 111 = .ok (.putfield 104, 3) := dk_181 0 104 (dk_at dksX6_advance_4 16 rfl rfl)
theorem dX6_advance_114 : decode cX6_advance 114 = .ok (.goto (-31), 3) := dk_167 255 225 (dk_at dksX6_advance_4 19 rfl rfl)
theorem dX6_advance_117 : decode cX6_advance 117 = .ok (.aload_n 0, 1) := dk_42 (dk_at dksX6_advance_4 22 rfl rfl)
theorem dX6_advance_118 : decode cX6_advance 118 = .ok (.iconst 1, 1) := dk_4 (dk_at dksX6_advance_4 23 rfl rfl)
theorem dX6_advance_119 : decode cX6_advance 119 = .ok (.putfield 114, 3) := dk_181 0 114 (dk_at dksX6_advance_5 0 rfl rfl)
theorem dX6_advance_122 : decode cX6_advance 122 = .ok (.goto 117, 3) := dk_167 0 117 (dk_at dksX6_advance_5 3 rfl rfl)
theorem dX6_advance_125 : decode cX6_advance 125 = .ok (.iload_n 1, 1) := dk_27 (dk_at dksX6_advance_5 6 rfl rfl)
theorem dX6_advance_126 : decode cX6_advance 126 = .ok (.i2l, 1) := dk_133 (dk_at dksX6_advance_5 7 rfl rfl)
theorem dX6_advance_127 : decode cX6_advance 127 = .ok (.ldc2_w 121, 3) := dk_20 0 121 (dk_at dksX6_advance_5 8 rfl rfl)
theorem dX6_advance_130 : decode cX6_advance 130 = .ok (.ldc2_w 123, 3) := dk_20 0 123 (dk_at dksX6_advance_5 11 rfl rfl)
theorem dX6_advance_133 : decode cX6_advance 133 = .ok (.invokestatic 92, 3) := dk_184 0 92 (dk_at dksX6_advance_5 14 rfl rfl)
theorem dX6_advance_136 : decode cX6_advance 136 = .ok (.ifCond .eq 78, 3) := dk_153 0 78 (dk_at dksX6_advance_5 17 rfl rfl)
theorem dX6_advance_139 : decode cX6_advance 139 = .ok (.aload_n 0, 1) := dk_42 (dk_at dksX6_advance_5 20 rfl rfl)
theorem dX6_advance_140 : decode cX6_advance 140 = .ok (.iconst 0, 1) := dk_3 (dk_at dksX6_advance_5 21 rfl rfl)
theorem dX6_advance_141 : decode cX6_advance 141 = .ok (.putfield 125, 3) := dk_181 0 125 (dk_at dksX6_advance_6 0 rfl rfl)
theorem dX6_advance_144 : decode cX6_advance 144 = .ok (.aload_n 0, 1) := dk_42 (dk_at dksX6_advance_6 3 rfl rfl)
theorem dX6_advance_145 : decode cX6_advance 145 = .ok (.aload_n 0, 1) := dk_42 (dk_at dksX6_advance_6 4 rfl rfl)
theorem dX6_advance_146 : decode cX6_advance 146 = .ok (.getfield 104, 3) := dk_180 0 104 (dk_at dksX6_advance_6 5 rfl rfl)
theorem dX6_advance_149 : decode cX6_advance 149 = .ok (.invokevirtual 107, 3) := dk_182 0 107 (dk_at dksX6_advance_6 8 rfl rfl)
theorem dX6_advance_152 : decode cX6_advance 152 = .ok (.i2l, 1) := dk_133 (dk_at dksX6_advance_6 11 rfl rfl)
theorem dX6_advance_153 : decode cX6_advance 153 = .ok (.ldc2_w 121, 3) := dk_20 0 121 (dk_at dksX6_advance_6 12 rfl rfl)
theorem dX6_advance_156 : decode cX6_advance 156 = .ok (.ldc2_w 123, 3) := dk_20 0 123 (dk_at dksX6_advance_6 15 rfl rfl)
theorem dX6_advance_159 : decode cX6_advance 159 = .ok (.invokestatic 92, 3) := dk_184 0 92 (dk_at dksX6_advance_6 18 rfl rfl)
theorem dX6_advance_162 : decode cX6_advance 162 = .ok (.ifCond .eq 44, 3) := dk_153 0 44 (dk_at dksX6_advance_6 21 rfl rfl)
theorem dX6_advance_165 : decode cX6_advance 165 = .ok (.aload_n 0, 1) := dk_42 (dk_at dksX6_advance_7 0 rfl rfl)
theorem dX6_advance_166 : decode cX6_advance 166 = .ok (.ldc 128, 2) := dk_18 128 (dk_at dksX6_advance_7 1 rfl rfl)
theorem dX6_advance_168 : decode cX6_advance 168 = .ok (.bipush 10, 2) := dk_16 10 (dk_at dksX6_advance_7 3 rfl rfl)
theorem dX6_advance_170 : decode cX6_advance 170 = .ok (.aload_n 0, 1) := dk_42 (dk_at dksX6_advance_7 5 rfl rfl)
theorem dX6_advance_171 : decode cX6_advance 171 = .ok (.getfield 125, 3) := dk_180 0 125 (dk_at dksX6_advance_7 6 rfl rfl)
theorem dX6_advance_174 : decode cX6_advance 174 = .ok (.imul, 1) := dk_104 (dk_at dksX6_advance_7 9 rfl rfl)
theorem dX6_advance_175 : decode cX6_advance 175 = .ok (.aload_n 0, 1) := dk_42 (dk_at dksX6_advance_7 10 rfl rfl)
theorem dX6_advance_176 : decode cX6_advance 176 = .ok (.aload_n 0, 1) := dk_42 (dk_at dksX6_advance_7 11 rfl rfl)
theorem dX6_advance_177 : decode cX6_advance 177 = .ok (.getfield 104, 3) := dk_180 0 104 (dk_at dksX6_advance_7 12 rfl rfl)
theorem dX6_advance_180 : decode cX6_advance 180 = .ok (.invokevirtual 107, 3) := dk_182 0 107 (dk_at dksX6_advance_7 15 rfl rfl)
theorem dX6_advance_183 : decode cX6_advance 183 = .ok (.iadd, 1) := dk_96 (dk_at dksX6_advance_7 18 rfl rfl)
theorem dX6_advance_184 : decode cX6_advance 184 = .ok (.bipush 48, 2) := dk_16 48 (dk_at dksX6_advance_7 19 rfl rfl)
theorem dX6_advance_186 : decode cX6_advance 186 = .ok (.isub, 1) := dk_100 (dk_at dksX6_advance_7 21 rfl rfl)
theorem dX6_advance_187 : decode cX6_advance 187 = .ok (.invokestatic 129, 3) := dk_184 0 129 (dk_at dksX6_advance_8 0 rfl rfl)
theorem dX6_advance_190 : decode cX6_advance 190 = .ok (.putfield 125, 3) := dk_181 0 125 (dk_at dksX6_advance_8 3 rfl rfl)
theorem dX6_advance_193 : decode cX6_advance 193 = .ok (.aload_n 0, 1) := dk_42 (dk_at dksX6_advance_8 6 rfl rfl)
theorem dX6_advance_194 : decode cX6_advance 194 = .ok (.dup, 1) := dk_89 (dk_at dksX6_advance_8 7 rfl rfl)
theorem dX6_advance_195 : decode cX6_advance 195 = .ok (.getfield 104, 3) := dk_180 0 104 (dk_at dksX6_advance_8 8 rfl rfl)
theorem dX6_advance_198 : decode cX6_advance 198 = .ok (.iconst 1, 1) := dk_4 (dk_at dksX6_advance_8 11 rfl rfl)
theorem dX6_advance_199 : decode cX6_advance 199 = .ok (.iadd, 1) := dk_96 (dk_at dksX6_advance_8 12 rfl rfl)
theorem dX6_advance_200 : decode cX6_advance 200 = .ok (.putfield 104, 3) := dk_181 0 104 (dk_at dksX6_advance_8 13 rfl rfl)
theorem dX6_advance_203 : decode cX6_advance 203 = .ok (.goto (-59), 3) := dk_167 255 197 (dk_at dksX6_advance_8 16 rfl rfl)
theorem dX6_advance_206 : decode cX6_advance 206 = .ok (.aload_n 0, 1) := dk_42 (dk_at dksX6_advance_8 19 rfl rfl)
theorem dX6_advance_207 : decode cX6_advance 207 = .ok (.iconst 2, 1) := dk_5 (dk_at dksX6_advance_8 20 rfl rfl)
theorem dX6_advance_208 : decode cX6_advance 208 = .ok (.putfield 114, 3) := dk_181 0 114 (dk_at dksX6_advance_8 21 rfl rfl)
theorem dX6_advance_211 : decode cX6_advance 211 = .ok (.goto 28, 3) := dk_167 0 28 (dk_at dksX6_advance_9 0 rfl rfl)
theorem dX6_advance_214 : decode cX6_advance 214 = .ok (.aload_n 0, 1) := dk_42 (dk_at dksX6_advance_9 3 rfl rfl)
theorem dX6_advance_215 : decode cX6_advance 215 = .ok (.iload_n 1, 1) := dk_27 (dk_at dksX6_advance_9 4 rfl rfl)
theorem dX6_advance_216 : decode cX6_advance 216 = .ok (.bipush 59, 2) := dk_16 59 (dk_at dksX6_advance_9 5 rfl rfl)
theorem dX6_advance_218 : decode cX6_advance 218 = .ok (.if_icmp .ne 7, 3) := dk_160 0 7 (dk_at dksX6_advance_9 7 rfl rfl)
theorem dX6_advance_221 : decode cX6_advance 221 = .ok (.iconst 3, 1) := dk_6 (dk_at dksX6_advance_9 10 rfl rfl)
theorem dX6_advance_222 : decode cX6_advance 222 = .ok (.goto 4, 3) := dk_167 0 4 (dk_at dksX6_advance_9 11 rfl rfl)
theorem dX6_advance_225 : decode cX6_advance 225 = .ok (.iconst 4, 1) := dk_7 (dk_at dksX6_advance_9 14 rfl rfl)
theorem dX6_advance_226 : decode cX6_advance 226 = .ok (.putfield 114, 3) := dk_181 0 114 (dk_at dksX6_advance_9 15 rfl rfl)
theorem dX6_advance_229 : decode cX6_advance 229 = .ok (.aload_n 0, 1) := dk_42 (dk_at dksX6_advance_9 18 rfl rfl)
theorem dX6_advance_230 : decode cX6_advance 230 = .ok (.dup, 1) := dk_89 (dk_at dksX6_advance_9 19 rfl rfl)
theorem dX6_advance_231 : decode cX6_advance 231 = .ok (.getfield 104, 3) := dk_180 0 104 (dk_at dksX6_advance_9 20 rfl rfl)
theorem dX6_advance_234 : decode cX6_advance 234 = .ok (.iconst 1, 1) := dk_4 (dk_at dksX6_advance_9 23 rfl rfl)
theorem dX6_advance_235 : decode cX6_advance 235 = .ok (.iadd, 1) := dk_96 (dk_at dksX6_advance_10 0 rfl rfl)
theorem dX6_advance_236 : decode cX6_advance 236 = .ok (.putfield 104, 3) := dk_181 0 104 (dk_at dksX6_advance_10 1 rfl rfl)
theorem dX6_advance_239 : decode cX6_advance 239 = .ok (.return_, 1) := dk_177 (dk_at dksX6_advance_10 4 rfl rfl)
abbrev cX6_see : ByteArray := prog_14_method_16_code
def yX6_see : MethodName := ⟨RX6, "see", "(I)I"⟩
def dkwX6_see_0 : List UInt8 := [27, 42, 180, 0, 101, 162, 0, 16, 42, 180, 0, 20, 27, 51, 17, 0, 255, 126, 167, 0, 4, 2, 172]
abbrev dktX6_see_0 : List UInt8 := dkwX6_see_0 ++ []
theorem dksX6_see_0 : cX6_see.data.toList.drop 0 = dktX6_see_0 := by decide +kernel
theorem dX6_see_0 : decode cX6_see 0 = .ok (.iload_n 1, 1) := dk_27 (dk_at dksX6_see_0 0 rfl rfl)
theorem dX6_see_1 : decode cX6_see 1 = .ok (.aload_n 0, 1) := dk_42 (dk_at dksX6_see_0 1 rfl rfl)
theorem dX6_see_2 : decode cX6_see 2 = .ok (.getfield 101, 3) := dk_180 0 101 (dk_at dksX6_see_0 2 rfl rfl)
theorem dX6_see_5 : decode cX6_see 5 = .ok (.if_icmp .ge 16, 3) := dk_162 0 16 (dk_at dksX6_see_0 5 rfl rfl)
theorem dX6_see_8 : decode cX6_see 8 = .ok (.aload_n 0, 1) := dk_42 (dk_at dksX6_see_0 8 rfl rfl)
theorem dX6_see_9 : decode cX6_see 9 = .ok (.getfield 20, 3) := dk_180 0 20 (dk_at dksX6_see_0 9 rfl rfl)
theorem dX6_see_12 : decode cX6_see 12 = .ok (.iload_n 1, 1) := dk_27 (dk_at dksX6_see_0 12 rfl rfl)
theorem dX6_see_13 : decode cX6_see 13 = .ok (.baload, 1) := dk_51 (dk_at dksX6_see_0 13 rfl rfl)
theorem dX6_see_14 : decode cX6_see 14 = .ok (.sipush 255, 3) := dk_17 0 255 (dk_at dksX6_see_0 14 rfl rfl)
theorem dX6_see_17 : decode cX6_see 17 = .ok (.iand, 1) := dk_126 (dk_at dksX6_see_0 17 rfl rfl)
theorem dX6_see_18 : decode cX6_see 18 = .ok (.goto 4, 3) := dk_167 0 4 (dk_at dksX6_see_0 18 rfl rfl)
theorem dX6_see_21 : decode cX6_see 21 = .ok (.iconst (-1), 1) := dk_2 (dk_at dksX6_see_0 21 rfl rfl)
theorem dX6_see_22 : decode cX6_see 22 = .ok (.ireturn, 1) := dk_172 (dk_at dksX6_see_0 22 rfl rfl)
abbrev cX6_good : ByteArray := prog_14_method_18_code
def yX6_good : MethodName := ⟨RX6, "good", "()Z"⟩
def dkwX6_good_0 : List UInt8 := [42, 180, 0, 135, 154, 0, 7, 4, 167, 0, 4, 3, 172]
abbrev dktX6_good_0 : List UInt8 := dkwX6_good_0 ++ []
theorem dksX6_good_0 : cX6_good.data.toList.drop 0 = dktX6_good_0 := by decide +kernel
theorem dX6_good_0 : decode cX6_good 0 = .ok (.aload_n 0, 1) := dk_42 (dk_at dksX6_good_0 0 rfl rfl)
theorem dX6_good_1 : decode cX6_good 1 = .ok (.getfield 135, 3) := dk_180 0 135 (dk_at dksX6_good_0 1 rfl rfl)
theorem dX6_good_4 : decode cX6_good 4 = .ok (.ifCond .ne 7, 3) := dk_154 0 7 (dk_at dksX6_good_0 4 rfl rfl)
theorem dX6_good_7 : decode cX6_good 7 = .ok (.iconst 1, 1) := dk_4 (dk_at dksX6_good_0 7 rfl rfl)
theorem dX6_good_8 : decode cX6_good 8 = .ok (.goto 4, 3) := dk_167 0 4 (dk_at dksX6_good_0 8 rfl rfl)
theorem dX6_good_11 : decode cX6_good 11 = .ok (.iconst 0, 1) := dk_3 (dk_at dksX6_good_0 11 rfl rfl)
theorem dX6_good_12 : decode cX6_good 12 = .ok (.ireturn, 1) := dk_172 (dk_at dksX6_good_0 12 rfl rfl)
abbrev cX6_readLine : ByteArray := prog_14_method_31_code
def yX6_readLine : MethodName := ⟨RX6, "readLine", "()V"⟩
def dkwX6_readLine_2 : List UInt8 := [153, 0, 7, 42, 182, 0, 156, 42, 180, 0, 31, 16, 7, 92, 46, 4, 96, 79, 177]
abbrev dktX6_readLine_2 : List UInt8 := dkwX6_readLine_2 ++ []
def dkwX6_readLine_1 : List UInt8 := [182, 0, 138, 153, 0, 16, 42, 180, 0, 114, 6, 159, 0, 8, 42, 4, 182, 0, 162, 42, 182, 0, 138]
abbrev dktX6_readLine_1 : List UInt8 := dkwX6_readLine_1 ++ dktX6_readLine_2
def dkwX6_readLine_0 : List UInt8 := [42, 180, 0, 31, 16, 7, 46, 154, 0, 10, 42, 182, 0, 210, 167, 0, 7, 42, 182, 0, 213, 42]
abbrev dktX6_readLine_0 : List UInt8 := dkwX6_readLine_0 ++ dktX6_readLine_1
theorem dksX6_readLine_0 : cX6_readLine.data.toList.drop 0 = dktX6_readLine_0 := by decide +kernel
theorem dksX6_readLine_1 : cX6_readLine.data.toList.drop 22 = dktX6_readLine_1 := dk_seg dksX6_readLine_0 22 rfl rfl
theorem dksX6_readLine_2 : cX6_readLine.data.toList.drop 45 = dktX6_readLine_2 := dk_seg dksX6_readLine_1 23 rfl rfl
theorem dX6_readLine_0 : decode cX6_readLine 0 = .ok (.aload_n 0, 1) := dk_42 (dk_at dksX6_readLine_0 0 rfl rfl)
theorem dX6_readLine_1 : decode cX6_readLine 1 = .ok (.getfield 31, 3) := dk_180 0 31 (dk_at dksX6_readLine_0 1 rfl rfl)
theorem dX6_readLine_4 : decode cX6_readLine 4 = .ok (.bipush 7, 2) := dk_16 7 (dk_at dksX6_readLine_0 4 rfl rfl)
theorem dX6_readLine_6 : decode cX6_readLine 6 = .ok (.iaload, 1) := dk_46 (dk_at dksX6_readLine_0 6 rfl rfl)
theorem dX6_readLine_7 : decode cX6_readLine 7 = .ok (.ifCond .ne 10, 3) := dk_154 0 10 (dk_at dksX6_readLine_0 7 rfl rfl)
theorem dX6_readLine_10 : decode cX6_readLine 10 = .ok (.aload_n 0, 1) := dk_42 (dk_at dksX6_readLine_0 10 rfl rfl)
theorem dX6_readLine_11 : decode cX6_readLine 11 = .ok (.invokevirtual 210, 3) := dk_182 0 210 (dk_at dksX6_readLine_0 11 rfl rfl)
theorem dX6_readLine_14 : decode cX6_readLine 14 = .ok (.goto 7, 3) := dk_167 0 7 (dk_at dksX6_readLine_0 14 rfl rfl)
theorem dX6_readLine_17 : decode cX6_readLine 17 = .ok (.aload_n 0, 1) := dk_42 (dk_at dksX6_readLine_0 17 rfl rfl)
theorem dX6_readLine_18 : decode cX6_readLine 18 = .ok (.invokevirtual 213, 3) := dk_182 0 213 (dk_at dksX6_readLine_0 18 rfl rfl)
theorem dX6_readLine_21 : decode cX6_readLine 21 = .ok (.aload_n 0, 1) := dk_42 (dk_at dksX6_readLine_0 21 rfl rfl)
theorem dX6_readLine_22 : decode cX6_readLine 22 = .ok (.invokevirtual 138, 3) := dk_182 0 138 (dk_at dksX6_readLine_1 0 rfl rfl)
theorem dX6_readLine_25 : decode cX6_readLine 25 = .ok (.ifCond .eq 16, 3) := dk_153 0 16 (dk_at dksX6_readLine_1 3 rfl rfl)
theorem dX6_readLine_28 : decode cX6_readLine 28 = .ok (.aload_n 0, 1) := dk_42 (dk_at dksX6_readLine_1 6 rfl rfl)
theorem dX6_readLine_29 : decode cX6_readLine 29 = .ok (.getfield 114, 3) := dk_180 0 114 (dk_at dksX6_readLine_1 7 rfl rfl)
theorem dX6_readLine_32 : decode cX6_readLine 32 = .ok (.iconst 3, 1) := dk_6 (dk_at dksX6_readLine_1 10 rfl rfl)
theorem dX6_readLine_33 : decode cX6_readLine 33 = .ok (.if_icmp .eq 8, 3) := dk_159 0 8 (dk_at dksX6_readLine_1 11 rfl rfl)
theorem dX6_readLine_36 : decode cX6_readLine 36 = .ok (.aload_n 0, 1) := dk_42 (dk_at dksX6_readLine_1 14 rfl rfl)
theorem dX6_readLine_37 : decode cX6_readLine 37 = .ok (.iconst 1, 1) := dk_4 (dk_at dksX6_readLine_1 15 rfl rfl)
theorem dX6_readLine_38 : decode cX6_readLine 38 = .ok (.invokevirtual 162, 3) := dk_182 0 162 (dk_at dksX6_readLine_1 16 rfl rfl)
theorem dX6_readLine_41 : decode cX6_readLine 41 = .ok (.aload_n 0, 1) := dk_42 (dk_at dksX6_readLine_1 19 rfl rfl)
theorem dX6_readLine_42 : decode cX6_readLine 42 = .ok (.invokevirtual 138, 3) := dk_182 0 138 (dk_at dksX6_readLine_1 20 rfl rfl)
theorem dX6_readLine_45 : decode cX6_readLine 45 = .ok (.ifCond .eq 7, 3) := dk_153 0 7 (dk_at dksX6_readLine_2 0 rfl rfl)
theorem dX6_readLine_48 : decode cX6_readLine 48 = .ok (.aload_n 0, 1) := dk_42 (dk_at dksX6_readLine_2 3 rfl rfl)
theorem dX6_readLine_49 : decode cX6_readLine 49 = .ok (.invokevirtual 156, 3) := dk_182 0 156 (dk_at dksX6_readLine_2 4 rfl rfl)
theorem dX6_readLine_52 : decode cX6_readLine 52 = .ok (.aload_n 0, 1) := dk_42 (dk_at dksX6_readLine_2 7 rfl rfl)
theorem dX6_readLine_53 : decode cX6_readLine 53 = .ok (.getfield 31, 3) := dk_180 0 31 (dk_at dksX6_readLine_2 8 rfl rfl)
theorem dX6_readLine_56 : decode cX6_readLine 56 = .ok (.bipush 7, 2) := dk_16 7 (dk_at dksX6_readLine_2 11 rfl rfl)
theorem dX6_readLine_58 : decode cX6_readLine 58 = .ok (.dup2, 1) := dk_92 (dk_at dksX6_readLine_2 13 rfl rfl)
theorem dX6_readLine_59 : decode cX6_readLine 59 = .ok (.iaload, 1) := dk_46 (dk_at dksX6_readLine_2 14 rfl rfl)
theorem dX6_readLine_60 : decode cX6_readLine 60 = .ok (.iconst 1, 1) := dk_4 (dk_at dksX6_readLine_2 15 rfl rfl)
theorem dX6_readLine_61 : decode cX6_readLine 61 = .ok (.iadd, 1) := dk_96 (dk_at dksX6_readLine_2 16 rfl rfl)
theorem dX6_readLine_62 : decode cX6_readLine 62 = .ok (.iastore, 1) := dk_79 (dk_at dksX6_readLine_2 17 rfl rfl)
theorem dX6_readLine_63 : decode cX6_readLine 63 = .ok (.return_, 1) := dk_177 (dk_at dksX6_readLine_2 18 rfl rfl)
abbrev cX6_readFirst : ByteArray := prog_14_method_26_code
def yX6_readFirst : MethodName := ⟨RX6, "readFirst", "()V"⟩
def dkwX6_readFirst_2 : List UInt8 := [16, 9, 182, 0, 177, 79, 177]
abbrev dktX6_readFirst_2 : List UInt8 := dkwX6_readFirst_2 ++ []
def dkwX6_readFirst_1 : List UInt8 := [180, 0, 31, 4, 42, 18, 181, 3, 16, 10, 182, 0, 177, 79, 42, 180, 0, 31, 5, 42, 18, 183, 4]
abbrev dktX6_readFirst_1 : List UInt8 := dkwX6_readFirst_1 ++ dktX6_readFirst_2
def dkwX6_readFirst_0 : List UInt8 := [42, 18, 173, 182, 0, 166, 42, 180, 0, 31, 3, 42, 18, 175, 3, 16, 60, 182, 0, 177, 79, 42]
abbrev dktX6_readFirst_0 : List UInt8 := dkwX6_readFirst_0 ++ dktX6_readFirst_1
theorem dksX6_readFirst_0 : cX6_readFirst.data.toList.drop 0 = dktX6_readFirst_0 := by decide +kernel
theorem dksX6_readFirst_1 : cX6_readFirst.data.toList.drop 22 = dktX6_readFirst_1 := dk_seg dksX6_readFirst_0 22 rfl rfl
theorem dksX6_readFirst_2 : cX6_readFirst.data.toList.drop 45 = dktX6_readFirst_2 := dk_seg dksX6_readFirst_1 23 rfl rfl
theorem dX6_readFirst_0 : decode cX6_readFirst 0 = .ok (.aload_n 0, 1) := dk_42 (dk_at dksX6_readFirst_0 0 rfl rfl)
theorem dX6_readFirst_1 : decode cX6_readFirst 1 = .ok (.ldc 173, 2) := dk_18 173 (dk_at dksX6_readFirst_0 1 rfl rfl)
theorem dX6_readFirst_3 : decode cX6_readFirst 3 = .ok (.invokevirtual 166, 3) := dk_182 0 166 (dk_at dksX6_readFirst_0 3 rfl rfl)
theorem dX6_readFirst_6 : decode cX6_readFirst 6 = .ok (.aload_n 0, 1) := dk_42 (dk_at dksX6_readFirst_0 6 rfl rfl)
theorem dX6_readFirst_7 : decode cX6_readFirst 7 = .ok (.getfield 31, 3) := dk_180 0 31 (dk_at dksX6_readFirst_0 7 rfl rfl)
theorem dX6_readFirst_10 : decode cX6_readFirst 10 = .ok (.iconst 0, 1) := dk_3 (dk_at dksX6_readFirst_0 10 rfl rfl)
theorem dX6_readFirst_11 : decode cX6_readFirst 11 = .ok (.aload_n 0, 1) := dk_42 (dk_at dksX6_readFirst_0 11 rfl rfl)
theorem dX6_readFirst_12 : decode cX6_readFirst 12 = .ok (.ldc 175, 2) := dk_18 175 (dk_at dksX6_readFirst_0 12 rfl rfl)
theorem dX6_readFirst_14 : decode cX6_readFirst 14 = .ok (.iconst 0, 1) := dk_3 (dk_at dksX6_readFirst_0 14 rfl rfl)
theorem dX6_readFirst_15 : decode cX6_readFirst 15 = .ok (.bipush 60, 2) := dk_16 60 (dk_at dksX6_readFirst_0 15 rfl rfl)
theorem dX6_readFirst_17 : decode cX6_readFirst 17 = .ok (.invokevirtual 177, 3) := dk_182 0 177 (dk_at dksX6_readFirst_0 17 rfl rfl)
theorem dX6_readFirst_20 : decode cX6_readFirst 20 = .ok (.iastore, 1) := dk_79 (dk_at dksX6_readFirst_0 20 rfl rfl)
theorem dX6_readFirst_21 : decode cX6_readFirst 21 = .ok (.aload_n 0, 1) := dk_42 (dk_at dksX6_readFirst_0 21 rfl rfl)
theorem dX6_readFirst_22 : decode cX6_readFirst 22 = .ok (.getfield 31, 3) := dk_180 0 31 (dk_at dksX6_readFirst_1 0 rfl rfl)
theorem dX6_readFirst_25 : decode cX6_readFirst 25 = .ok (.iconst 1, 1) := dk_4 (dk_at dksX6_readFirst_1 3 rfl rfl)
theorem dX6_readFirst_26 : decode cX6_readFirst 26 = .ok (.aload_n 0, 1) := dk_42 (dk_at dksX6_readFirst_1 4 rfl rfl)
theorem dX6_readFirst_27 : decode cX6_readFirst 27 = .ok (.ldc 181, 2) := dk_18 181 (dk_at dksX6_readFirst_1 5 rfl rfl)
theorem dX6_readFirst_29 : decode cX6_readFirst 29 = .ok (.iconst 0, 1) := dk_3 (dk_at dksX6_readFirst_1 7 rfl rfl)
theorem dX6_readFirst_30 : decode cX6_readFirst 30 = .ok (.bipush 10, 2) := dk_16 10 (dk_at dksX6_readFirst_1 8 rfl rfl)
theorem dX6_readFirst_32 : decode cX6_readFirst 32 = .ok (.invokevirtual 177, 3) := dk_182 0 177 (dk_at dksX6_readFirst_1 10 rfl rfl)
theorem dX6_readFirst_35 : decode cX6_readFirst 35 = .ok (.iastore, 1) := dk_79 (dk_at dksX6_readFirst_1 13 rfl rfl)
theorem dX6_readFirst_36 : decode cX6_readFirst 36 = .ok (.aload_n 0, 1) := dk_42 (dk_at dksX6_readFirst_1 14 rfl rfl)
theorem dX6_readFirst_37 : decode cX6_readFirst 37 = .ok (.getfield 31, 3) := dk_180 0 31 (dk_at dksX6_readFirst_1 15 rfl rfl)
theorem dX6_readFirst_40 : decode cX6_readFirst 40 = .ok (.iconst 2, 1) := dk_5 (dk_at dksX6_readFirst_1 18 rfl rfl)
theorem dX6_readFirst_41 : decode cX6_readFirst 41 = .ok (.aload_n 0, 1) := dk_42 (dk_at dksX6_readFirst_1 19 rfl rfl)
theorem dX6_readFirst_42 : decode cX6_readFirst 42 = .ok (.ldc 183, 2) := dk_18 183 (dk_at dksX6_readFirst_1 20 rfl rfl)
theorem dX6_readFirst_44 : decode cX6_readFirst 44 = .ok (.iconst 1, 1) := dk_4 (dk_at dksX6_readFirst_1 22 rfl rfl)
theorem dX6_readFirst_45 : decode cX6_readFirst 45 = .ok (.bipush 9, 2) := dk_16 9 (dk_at dksX6_readFirst_2 0 rfl rfl)
theorem dX6_readFirst_47 : decode cX6_readFirst 47 = .ok (.invokevirtual 177, 3) := dk_182 0 177 (dk_at dksX6_readFirst_2 2 rfl rfl)
theorem dX6_readFirst_50 : decode cX6_readFirst 50 = .ok (.iastore, 1) := dk_79 (dk_at dksX6_readFirst_2 5 rfl rfl)
theorem dX6_readFirst_51 : decode cX6_readFirst 51 = .ok (.return_, 1) := dk_177 (dk_at dksX6_readFirst_2 6 rfl rfl)
abbrev cX6_needs : ByteArray := prog_14_method_22_code
def yX6_needs : MethodName := ⟨RX6, "needs", "(Ljava/lang/String;)V"⟩
def dkwX6_needs_0 : List UInt8 := [42, 43, 182, 0, 159, 154, 0, 8, 42, 4, 182, 0, 162, 177]
abbrev dktX6_needs_0 : List UInt8 := dkwX6_needs_0 ++ []
theorem dksX6_needs_0 : cX6_needs.data.toList.drop 0 = dktX6_needs_0 := by decide +kernel
theorem dX6_needs_0 : decode cX6_needs 0 = .ok (.aload_n 0, 1) := dk_42 (dk_at dksX6_needs_0 0 rfl rfl)
theorem dX6_needs_1 : decode cX6_needs 1 = .ok (.aload_n 1, 1) := dk_43 (dk_at dksX6_needs_0 1 rfl rfl)
theorem dX6_needs_2 : decode cX6_needs 2 = .ok (.invokevirtual 159, 3) := dk_182 0 159 (dk_at dksX6_needs_0 2 rfl rfl)
theorem dX6_needs_5 : decode cX6_needs 5 = .ok (.ifCond .ne 8, 3) := dk_154 0 8 (dk_at dksX6_needs_0 5 rfl rfl)
theorem dX6_needs_8 : decode cX6_needs 8 = .ok (.aload_n 0, 1) := dk_42 (dk_at dksX6_needs_0 8 rfl rfl)
theorem dX6_needs_9 : decode cX6_needs 9 = .ok (.iconst 1, 1) := dk_4 (dk_at dksX6_needs_0 9 rfl rfl)
theorem dX6_needs_10 : decode cX6_needs 10 = .ok (.invokevirtual 162, 3) := dk_182 0 162 (dk_at dksX6_needs_0 10 rfl rfl)
theorem dX6_needs_13 : decode cX6_needs 13 = .ok (.return_, 1) := dk_177 (dk_at dksX6_needs_0 13 rfl rfl)
abbrev cX6_takes : ByteArray := prog_14_method_21_code
def yX6_takes : MethodName := ⟨RX6, "takes", "(Ljava/lang/String;)Z"⟩
def dkwX6_takes_0 : List UInt8 := [42, 43, 182, 0, 152, 61, 28, 153, 0, 7, 42, 182, 0, 156, 28, 172]
abbrev dktX6_takes_0 : List UInt8 := dkwX6_takes_0 ++ []
theorem dksX6_takes_0 : cX6_takes.data.toList.drop 0 = dktX6_takes_0 := by decide +kernel
theorem dX6_takes_0 : decode cX6_takes 0 = .ok (.aload_n 0, 1) := dk_42 (dk_at dksX6_takes_0 0 rfl rfl)
theorem dX6_takes_1 : decode cX6_takes 1 = .ok (.aload_n 1, 1) := dk_43 (dk_at dksX6_takes_0 1 rfl rfl)
theorem dX6_takes_2 : decode cX6_takes 2 = .ok (.invokevirtual 152, 3) := dk_182 0 152 (dk_at dksX6_takes_0 2 rfl rfl)
theorem dX6_takes_5 : decode cX6_takes 5 = .ok (.istore_n 2, 1) := dk_61 (dk_at dksX6_takes_0 5 rfl rfl)
theorem dX6_takes_6 : decode cX6_takes 6 = .ok (.iload_n 2, 1) := dk_28 (dk_at dksX6_takes_0 6 rfl rfl)
theorem dX6_takes_7 : decode cX6_takes 7 = .ok (.ifCond .eq 7, 3) := dk_153 0 7 (dk_at dksX6_takes_0 7 rfl rfl)
theorem dX6_takes_10 : decode cX6_takes 10 = .ok (.aload_n 0, 1) := dk_42 (dk_at dksX6_takes_0 10 rfl rfl)
theorem dX6_takes_11 : decode cX6_takes 11 = .ok (.invokevirtual 156, 3) := dk_182 0 156 (dk_at dksX6_takes_0 11 rfl rfl)
theorem dX6_takes_14 : decode cX6_takes 14 = .ok (.iload_n 2, 1) := dk_28 (dk_at dksX6_takes_0 14 rfl rfl)
theorem dX6_takes_15 : decode cX6_takes 15 = .ok (.ireturn, 1) := dk_172 (dk_at dksX6_takes_0 15 rfl rfl)
abbrev cX6_is : ByteArray := prog_14_method_20_code
def yX6_is : MethodName := ⟨RX6, "is", "(Ljava/lang/String;)Z"⟩
def dkwX6_is_3 : List UInt8 := [167, 0, 4, 3, 61, 132, 3, 1, 167, 255, 216, 28, 172]
abbrev dktX6_is_3 : List UInt8 := dkwX6_is_3 ++ []
def dkwX6_is_2 : List UInt8 := [153, 0, 34, 42, 180, 0, 20, 42, 180, 0, 111, 29, 96, 51, 43, 29, 182, 0, 148, 160, 0, 7, 4]
abbrev dktX6_is_2 : List UInt8 := dkwX6_is_2 ++ dktX6_is_3
def dkwX6_is_1 : List UInt8 := [43, 182, 0, 142, 160, 0, 7, 4, 167, 0, 4, 3, 61, 3, 62, 29, 43, 182, 0, 142, 162, 0, 38, 28]
abbrev dktX6_is_1 : List UInt8 := dkwX6_is_1 ++ dktX6_is_2
def dkwX6_is_0 : List UInt8 := [42, 182, 0, 138, 153, 0, 31, 42, 180, 0, 114, 4, 160, 0, 23, 42, 180, 0, 104, 42, 180, 0, 111, 100]
abbrev dktX6_is_0 : List UInt8 := dkwX6_is_0 ++ dktX6_is_1
theorem dksX6_is_0 : cX6_is.data.toList.drop 0 = dktX6_is_0 := by decide +kernel
theorem dksX6_is_1 : cX6_is.data.toList.drop 24 = dktX6_is_1 := dk_seg dksX6_is_0 24 rfl rfl
theorem dksX6_is_2 : cX6_is.data.toList.drop 48 = dktX6_is_2 := dk_seg dksX6_is_1 24 rfl rfl
theorem dksX6_is_3 : cX6_is.data.toList.drop 71 = dktX6_is_3 := dk_seg dksX6_is_2 23 rfl rfl
theorem dX6_is_0 : decode cX6_is 0 = .ok (.aload_n 0, 1) := dk_42 (dk_at dksX6_is_0 0 rfl rfl)
theorem dX6_is_1 : decode cX6_is 1 = .ok (.invokevirtual 138, 3) := dk_182 0 138 (dk_at dksX6_is_0 1 rfl rfl)
theorem dX6_is_4 : decode cX6_is 4 = .ok (.ifCond .eq 31, 3) := dk_153 0 31 (dk_at dksX6_is_0 4 rfl rfl)
theorem dX6_is_7 : decode cX6_is 7 = .ok (.aload_n 0, 1) := dk_42 (dk_at dksX6_is_0 7 rfl rfl)
theorem dX6_is_8 : decode cX6_is 8 = .ok (.getfield 114, 3) := dk_180 0 114 (dk_at dksX6_is_0 8 rfl rfl)
theorem dX6_is_11 : decode cX6_is 11 = .ok (.iconst 1, 1) := dk_4 (dk_at dksX6_is_0 11 rfl rfl)
theorem dX6_is_12 : decode cX6_is 12 = .ok (.if_icmp .ne 23, 3) := dk_160 0 23 (dk_at dksX6_is_0 12 rfl rfl)
theorem dX6_is_15 : decode cX6_is 15 = .ok (.aload_n 0, 1) := dk_42 (dk_at dksX6_is_0 15 rfl rfl)
theorem dX6_is_16 : decode cX6_is 16 = .ok (.getfield 104, 3) := dk_180 0 104 (dk_at dksX6_is_0 16 rfl rfl)
theorem dX6_is_19 : decode cX6_is 19 = .ok (.aload_n 0, 1) := dk_42 (dk_at dksX6_is_0 19 rfl rfl)
theorem dX6_is_20 : decode cX6_is 20 = .ok (.getfield 111, 3) := dk_180 0 111 (dk_at dksX6_is_0 20 rfl rfl)
theorem dX6_is_23 : decode cX6_is 23 = .ok (.isub, 1) := dk_100 (dk_at dksX6_is_0 23 rfl rfl)
theorem dX6_is_24 : decode cX6_is 24 = .ok (.aload_n 1, 1) := dk_43 (dk_at dksX6_is_1 0 rfl rfl)
theorem dX6_is_25 : decode cX6_is 25 = .ok (.invokevirtual 142, 3) := dk_182 0 142 (dk_at dksX6_is_1 1 rfl rfl)
theorem dX6_is_28 : decode cX6_is 28 = .ok (.if_icmp .ne 7, 3) := dk_160 0 7 (dk_at dksX6_is_1 4 rfl rfl)
theorem dX6_is_31 : decode cX6_is 31 = .ok (.iconst 1, 1) := dk_4 (dk_at dksX6_is_1 7 rfl rfl)
theorem dX6_is_32 : decode cX6_is 32 = .ok (.goto 4, 3) := dk_167 0 4 (dk_at dksX6_is_1 8 rfl rfl)
theorem dX6_is_35 : decode cX6_is 35 = .ok (.iconst 0, 1) := dk_3 (dk_at dksX6_is_1 11 rfl rfl)
theorem dX6_is_36 : decode cX6_is 36 = .ok (.istore_n 2, 1) := dk_61 (dk_at dksX6_is_1 12 rfl rfl)
theorem dX6_is_37 : decode cX6_is 37 = .ok (.iconst 0, 1) := dk_3 (dk_at dksX6_is_1 13 rfl rfl)
theorem dX6_is_38 : decode cX6_is 38 = .ok (.istore_n 3, 1) := dk_62 (dk_at dksX6_is_1 14 rfl rfl)
theorem dX6_is_39 : decode cX6_is 39 = .ok (.iload_n 3, 1) := dk_29 (dk_at dksX6_is_1 15 rfl rfl)
theorem dX6_is_40 : decode cX6_is 40 = .ok (.aload_n 1, 1) := dk_43 (dk_at dksX6_is_1 16 rfl rfl)
theorem dX6_is_41 : decode cX6_is 41 = .ok (.invokevirtual 142, 3) := dk_182 0 142 (dk_at dksX6_is_1 17 rfl rfl)
theorem dX6_is_44 : decode cX6_is 44 = .ok (.if_icmp .ge 38, 3) := dk_162 0 38 (dk_at dksX6_is_1 20 rfl rfl)
theorem dX6_is_47 : decode cX6_is 47 = .ok (.iload_n 2, 1) := dk_28 (dk_at dksX6_is_1 23 rfl rfl)
theorem dX6_is_48 : decode cX6_is 48 = .ok (.ifCond .eq 34, 3) := dk_153 0 34 (dk_at dksX6_is_2 0 rfl rfl)
theorem dX6_is_51 : decode cX6_is 51 = .ok (.aload_n 0, 1) := dk_42 (dk_at dksX6_is_2 3 rfl rfl)
theorem dX6_is_52 : decode cX6_is 52 = .ok (.getfield 20, 3) := dk_180 0 20 (dk_at dksX6_is_2 4 rfl rfl)
theorem dX6_is_55 : decode cX6_is 55 = .ok (.aload_n 0, 1) := dk_42 (dk_at dksX6_is_2 7 rfl rfl)
theorem dX6_is_56 : decode cX6_is 56 = .ok (.getfield 111, 3) := dk_180 0 111 (dk_at dksX6_is_2 8 rfl rfl)
theorem dX6_is_59 : decode cX6_is 59 = .ok (.iload_n 3, 1) := dk_29 (dk_at dksX6_is_2 11 rfl rfl)
theorem dX6_is_60 : decode cX6_is 60 = .ok (.iadd, 1) := dk_96 (dk_at dksX6_is_2 12 rfl rfl)
theorem dX6_is_61 : decode cX6_is 61 = .ok (.baload, 1) := dk_51 (dk_at dksX6_is_2 13 rfl rfl)
theorem dX6_is_62 : decode cX6_is 62 = .ok (.aload_n 1, 1) := dk_43 (dk_at dksX6_is_2 14 rfl rfl)
theorem dX6_is_63 : decode cX6_is 63 = .ok (.iload_n 3, 1) := dk_29 (dk_at dksX6_is_2 15 rfl rfl)
theorem dX6_is_64 : decode cX6_is 64 = .ok (.invokevirtual 148, 3) := dk_182 0 148 (dk_at dksX6_is_2 16 rfl rfl)
theorem dX6_is_67 : decode cX6_is 67 = .ok (.if_icmp .ne 7, 3) := dk_160 0 7 (dk_at dksX6_is_2 19 rfl rfl)
theorem dX6_is_70 : decode cX6_is 70 = .ok (.iconst 1, 1) := dk_4 (dk_at dksX6_is_2 22 rfl rfl)
theorem dX6_is_71 : decode cX6_is 71 = .ok (.goto 4, 3) := dk_167 0 4 (dk_at dksX6_is_3 0 rfl rfl)
theorem dX6_is_74 : decode cX6_is 74 = .ok (.iconst 0, 1) := dk_3 (dk_at dksX6_is_3 3 rfl rfl)
theorem dX6_is_75 : decode cX6_is 75 = .ok (.istore_n 2, 1) := dk_61 (dk_at dksX6_is_3 4 rfl rfl)
theorem dX6_is_76 : decode cX6_is 76 = .ok (.iinc 3 1, 3) := dk_132 3 1 (dk_at dksX6_is_3 5 rfl rfl)
theorem dX6_is_79 : decode cX6_is 79 = .ok (.goto (-40), 3) := dk_167 255 216 (dk_at dksX6_is_3 8 rfl rfl)
theorem dX6_is_82 : decode cX6_is 82 = .ok (.iload_n 2, 1) := dk_28 (dk_at dksX6_is_3 11 rfl rfl)
theorem dX6_is_83 : decode cX6_is 83 = .ok (.ireturn, 1) := dk_172 (dk_at dksX6_is_3 12 rfl rfl)
abbrev cX6_errs : ByteArray := prog_14_method_19_code
def yX6_errs : MethodName := ⟨RX6, "errs", "(I)V"⟩
def dkwX6_errs_0 : List UInt8 := [42, 182, 0, 138, 154, 0, 4, 177, 42, 27, 181, 0, 135, 42, 42, 180, 0, 111, 181, 0, 27, 177]
abbrev dktX6_errs_0 : List UInt8 := dkwX6_errs_0 ++ []
theorem dksX6_errs_0 : cX6_errs.data.toList.drop 0 = dktX6_errs_0 := by decide +kernel
theorem dX6_errs_0 : decode cX6_errs 0 = .ok (.aload_n 0, 1) := dk_42 (dk_at dksX6_errs_0 0 rfl rfl)
theorem dX6_errs_1 : decode cX6_errs 1 = .ok (.invokevirtual 138, 3) := dk_182 0 138 (dk_at dksX6_errs_0 1 rfl rfl)
theorem dX6_errs_4 : decode cX6_errs 4 = .ok (.ifCond .ne 4, 3) := dk_154 0 4 (dk_at dksX6_errs_0 4 rfl rfl)
theorem dX6_errs_7 : decode cX6_errs 7 = .ok (.return_, 1) := dk_177 (dk_at dksX6_errs_0 7 rfl rfl)
theorem dX6_errs_8 : decode cX6_errs 8 = .ok (.aload_n 0, 1) := dk_42 (dk_at dksX6_errs_0 8 rfl rfl)
theorem dX6_errs_9 : decode cX6_errs 9 = .ok (.iload_n 1, 1) := dk_27 (dk_at dksX6_errs_0 9 rfl rfl)
theorem dX6_errs_10 : decode cX6_errs 10 = .ok (.putfield 135, 3) := dk_181 0 135 (dk_at dksX6_errs_0 10 rfl rfl)
theorem dX6_errs_13 : decode cX6_errs 13 = .ok (.aload_n 0, 1) := dk_42 (dk_at dksX6_errs_0 13 rfl rfl)
theorem dX6_errs_14 : decode cX6_errs 14 = .ok (.aload_n 0, 1) := dk_42 (dk_at dksX6_errs_0 14 rfl rfl)
theorem dX6_errs_15 : decode cX6_errs 15 = .ok (.getfield 111, 3) := dk_180 0 111 (dk_at dksX6_errs_0 15 rfl rfl)
theorem dX6_errs_18 : decode cX6_errs 18 = .ok (.putfield 27, 3) := dk_181 0 27 (dk_at dksX6_errs_0 18 rfl rfl)
theorem dX6_errs_21 : decode cX6_errs 21 = .ok (.return_, 1) := dk_177 (dk_at dksX6_errs_0 21 rfl rfl)
abbrev cX6_told : ByteArray := prog_14_method_24_code
def yX6_told : MethodName := ⟨RX6, "told", "(Ljava/lang/String;II)I"⟩
def dkwX6_told_0 : List UInt8 := [42, 43, 182, 0, 166, 42, 28, 29, 182, 0, 170, 172]
abbrev dktX6_told_0 : List UInt8 := dkwX6_told_0 ++ []
theorem dksX6_told_0 : cX6_told.data.toList.drop 0 = dktX6_told_0 := by decide +kernel
theorem dX6_told_0 : decode cX6_told 0 = .ok (.aload_n 0, 1) := dk_42 (dk_at dksX6_told_0 0 rfl rfl)
theorem dX6_told_1 : decode cX6_told 1 = .ok (.aload_n 1, 1) := dk_43 (dk_at dksX6_told_0 1 rfl rfl)
theorem dX6_told_2 : decode cX6_told 2 = .ok (.invokevirtual 166, 3) := dk_182 0 166 (dk_at dksX6_told_0 2 rfl rfl)
theorem dX6_told_5 : decode cX6_told 5 = .ok (.aload_n 0, 1) := dk_42 (dk_at dksX6_told_0 5 rfl rfl)
theorem dX6_told_6 : decode cX6_told 6 = .ok (.iload_n 2, 1) := dk_28 (dk_at dksX6_told_0 6 rfl rfl)
theorem dX6_told_7 : decode cX6_told 7 = .ok (.iload_n 3, 1) := dk_29 (dk_at dksX6_told_0 7 rfl rfl)
theorem dX6_told_8 : decode cX6_told 8 = .ok (.invokevirtual 170, 3) := dk_182 0 170 (dk_at dksX6_told_0 8 rfl rfl)
theorem dX6_told_11 : decode cX6_told 11 = .ok (.ireturn, 1) := dk_172 (dk_at dksX6_told_0 11 rfl rfl)
abbrev cX6_number : ByteArray := prog_14_method_23_code
def yX6_number : MethodName := ⟨RX6, "number", "(II)I"⟩
def dkwX6_number_2 : List UInt8 := [182, 0, 138, 154, 0, 5, 3, 172, 42, 180, 0, 125, 62, 42, 182, 0, 156, 29, 172]
abbrev dktX6_number_2 : List UInt8 := dkwX6_number_2 ++ []
def dkwX6_number_1 : List UInt8 := [153, 0, 23, 42, 180, 0, 125, 133, 27, 133, 28, 133, 184, 0, 92, 154, 0, 8, 42, 5, 182, 0, 162, 42]
abbrev dktX6_number_1 : List UInt8 := dkwX6_number_1 ++ dktX6_number_2
def dkwX6_number_0 : List UInt8 := [42, 182, 0, 138, 153, 0, 16, 42, 180, 0, 114, 5, 159, 0, 8, 42, 4, 182, 0, 162, 42, 182, 0, 138]
abbrev dktX6_number_0 : List UInt8 := dkwX6_number_0 ++ dktX6_number_1
theorem dksX6_number_0 : cX6_number.data.toList.drop 0 = dktX6_number_0 := by decide +kernel
theorem dksX6_number_1 : cX6_number.data.toList.drop 24 = dktX6_number_1 := dk_seg dksX6_number_0 24 rfl rfl
theorem dksX6_number_2 : cX6_number.data.toList.drop 48 = dktX6_number_2 := dk_seg dksX6_number_1 24 rfl rfl
theorem dX6_number_0 : decode cX6_number 0 = .ok (.aload_n 0, 1) := dk_42 (dk_at dksX6_number_0 0 rfl rfl)
theorem dX6_number_1 : decode cX6_number 1 = .ok (.invokevirtual 138, 3) := dk_182 0 138 (dk_at dksX6_number_0 1 rfl rfl)
theorem dX6_number_4 : decode cX6_number 4 = .ok (.ifCond .eq 16, 3) := dk_153 0 16 (dk_at dksX6_number_0 4 rfl rfl)
theorem dX6_number_7 : decode cX6_number 7 = .ok (.aload_n 0, 1) := dk_42 (dk_at dksX6_number_0 7 rfl rfl)
theorem dX6_number_8 : decode cX6_number 8 = .ok (.getfield 114, 3) := dk_180 0 114 (dk_at dksX6_number_0 8 rfl rfl)
theorem dX6_number_11 : decode cX6_number 11 = .ok (.iconst 2, 1) := dk_5 (dk_at dksX6_number_0 11 rfl rfl)
theorem dX6_number_12 : decode cX6_number 12 = .ok (.if_icmp .eq 8, 3) := dk_159 0 8 (dk_at dksX6_number_0 12 rfl rfl)
theorem dX6_number_15 : decode cX6_number 15 = .ok (.aload_n 0, 1) := dk_42 (dk_at dksX6_number_0 15 rfl rfl)
theorem dX6_number_16 : decode cX6_number 16 = .ok (.iconst 1, 1) := dk_4 (dk_at dksX6_number_0 16 rfl rfl)
theorem dX6_number_17 : decode cX6_number 17 = .ok (.invokevirtual 162, 3) := dk_182 0 162 (dk_at dksX6_number_0 17 rfl rfl)
theorem dX6_number_20 : decode cX6_number 20 = .ok (.aload_n 0, 1) := dk_42 (dk_at dksX6_number_0 20 rfl rfl)
theorem dX6_number_21 : decode cX6_number 21 = .ok (.invokevirtual 138, 3) := dk_182 0 138 (dk_at dksX6_number_0 21 rfl rfl)
theorem dX6_number_24 : decode cX6_number 24 = .ok (.ifCond .eq 23, 3) := dk_153 0 23 (dk_at dksX6_number_1 0 rfl rfl)
theorem dX6_number_27 : decode cX6_number 27 = .ok (.aload_n 0, 1) := dk_42 (dk_at dksX6_number_1 3 rfl rfl)
theorem dX6_number_28 : decode cX6_number 28 = .ok (.getfield 125, 3) := dk_180 0 125 (dk_at dksX6_number_1 4 rfl rfl)
theorem dX6_number_31 : decode cX6_number 31 = .ok (.i2l, 1) := dk_133 (dk_at dksX6_number_1 7 rfl rfl)
theorem dX6_number_32 : decode cX6_number 32 = .ok (.iload_n 1, 1) := dk_27 (dk_at dksX6_number_1 8 rfl rfl)
theorem dX6_number_33 : decode cX6_number 33 = .ok (.i2l, 1) := dk_133 (dk_at dksX6_number_1 9 rfl rfl)
theorem dX6_number_34 : decode cX6_number 34 = .ok (.iload_n 2, 1) := dk_28 (dk_at dksX6_number_1 10 rfl rfl)
theorem dX6_number_35 : decode cX6_number 35 = .ok (.i2l, 1) := dk_133 (dk_at dksX6_number_1 11 rfl rfl)
theorem dX6_number_36 : decode cX6_number 36 = .ok (.invokestatic 92, 3) := dk_184 0 92 (dk_at dksX6_number_1 12 rfl rfl)
theorem dX6_number_39 : decode cX6_number 39 = .ok (.ifCond .ne 8, 3) := dk_154 0 8 (dk_at dksX6_number_1 15 rfl rfl)
theorem dX6_number_42 : decode cX6_number 42 = .ok (.aload_n 0, 1) := dk_42 (dk_at dksX6_number_1 18 rfl rfl)
theorem dX6_number_43 : decode cX6_number 43 = .ok (.iconst 2, 1) := dk_5 (dk_at dksX6_number_1 19 rfl rfl)
theorem dX6_number_44 : decode cX6_number 44 = .ok (.invokevirtual 162, 3) := dk_182 0 162 (dk_at dksX6_number_1 20 rfl rfl)
theorem dX6_number_47 : decode cX6_number 47 = .ok (.aload_n 0, 1) := dk_42 (dk_at dksX6_number_1 23 rfl rfl)
theorem dX6_number_48 : decode cX6_number 48 = .ok (.invokevirtual 138, 3) := dk_182 0 138 (dk_at dksX6_number_2 0 rfl rfl)
theorem dX6_number_51 : decode cX6_number 51 = .ok (.ifCond .ne 5, 3) := dk_154 0 5 (dk_at dksX6_number_2 3 rfl rfl)
theorem dX6_number_54 : decode cX6_number 54 = .ok (.iconst 0, 1) := dk_3 (dk_at dksX6_number_2 6 rfl rfl)
theorem dX6_number_55 : decode cX6_number 55 = .ok (.ireturn, 1) := dk_172 (dk_at dksX6_number_2 7 rfl rfl)
theorem dX6_number_56 : decode cX6_number 56 = .ok (.aload_n 0, 1) := dk_42 (dk_at dksX6_number_2 8 rfl rfl)
theorem dX6_number_57 : decode cX6_number 57 = .ok (.getfield 125, 3) := dk_180 0 125 (dk_at dksX6_number_2 9 rfl rfl)
theorem dX6_number_60 : decode cX6_number 60 = .ok (.istore_n 3, 1) := dk_62 (dk_at dksX6_number_2 12 rfl rfl)
theorem dX6_number_61 : decode cX6_number 61 = .ok (.aload_n 0, 1) := dk_42 (dk_at dksX6_number_2 13 rfl rfl)
theorem dX6_number_62 : decode cX6_number 62 = .ok (.invokevirtual 156, 3) := dk_182 0 156 (dk_at dksX6_number_2 14 rfl rfl)
theorem dX6_number_65 : decode cX6_number 65 = .ok (.iload_n 3, 1) := dk_29 (dk_at dksX6_number_2 17 rfl rfl)
theorem dX6_number_66 : decode cX6_number 66 = .ok (.ireturn, 1) := dk_172 (dk_at dksX6_number_2 18 rfl rfl)
abbrev cX6_readNext : ByteArray := prog_14_method_30_code
def yX6_readNext : MethodName := ⟨RX6, "readNext", "()V"⟩
def dkwX6_readNext_6 : List UInt8 := [167, 0, 11, 42, 182, 0, 156, 42, 182, 0, 207, 177]
abbrev dktX6_readNext_6 : List UInt8 := dkwX6_readNext_6 ++ []
def dkwX6_readNext_5 : List UInt8 := [153, 0, 10, 42, 182, 0, 201, 167, 0, 27, 42, 18, 197, 182, 0, 159, 153, 0, 10, 42, 182, 0, 204]
abbrev dktX6_readNext_5 : List UInt8 := dkwX6_readNext_5 ++ dktX6_readNext_6
def dkwX6_readNext_4 : List UInt8 := [46, 8, 160, 0, 8, 42, 6, 182, 0, 162, 42, 182, 0, 138, 154, 0, 4, 177, 42, 18, 195, 182, 0, 159]
abbrev dktX6_readNext_4 : List UInt8 := dkwX6_readNext_4 ++ dktX6_readNext_5
def dkwX6_readNext_3 : List UInt8 := [46, 8, 160, 0, 8, 42, 6, 182, 0, 162, 42, 18, 199, 182, 0, 152, 153, 0, 18, 42, 180, 0, 31, 8]
abbrev dktX6_readNext_3 : List UInt8 := dkwX6_readNext_3 ++ dktX6_readNext_4
def dkwX6_readNext_2 : List UInt8 := [16, 10, 160, 0, 8, 42, 6, 182, 0, 162, 42, 18, 197, 182, 0, 152, 153, 0, 18, 42, 180, 0, 31, 7]
abbrev dktX6_readNext_2 : List UInt8 := dkwX6_readNext_2 ++ dktX6_readNext_3
def dkwX6_readNext_1 : List UInt8 := [154, 0, 8, 42, 4, 182, 0, 162, 42, 18, 195, 182, 0, 152, 153, 0, 19, 42, 180, 0, 31, 6, 46]
abbrev dktX6_readNext_1 : List UInt8 := dkwX6_readNext_1 ++ dktX6_readNext_2
def dkwX6_readNext_0 : List UInt8 := [42, 18, 195, 182, 0, 152, 154, 0, 26, 42, 18, 197, 182, 0, 152, 154, 0, 17, 42, 18, 199, 182, 0, 152]
abbrev dktX6_readNext_0 : List UInt8 := dkwX6_readNext_0 ++ dktX6_readNext_1
theorem dksX6_readNext_0 : cX6_readNext.data.toList.drop 0 = dktX6_readNext_0 := by decide +kernel
theorem dksX6_readNext_1 : cX6_readNext.data.toList.drop 24 = dktX6_readNext_1 := dk_seg dksX6_readNext_0 24 rfl rfl
theorem dksX6_readNext_2 : cX6_readNext.data.toList.drop 47 = dktX6_readNext_2 := dk_seg dksX6_readNext_1 23 rfl rfl
theorem dksX6_readNext_3 : cX6_readNext.data.toList.drop 71 = dktX6_readNext_3 := dk_seg dksX6_readNext_2 24 rfl rfl
theorem dksX6_readNext_4 : cX6_readNext.data.toList.drop 95 = dktX6_readNext_4 := dk_seg dksX6_readNext_3 24 rfl rfl
theorem dksX6_readNext_5 : cX6_readNext.data.toList.drop 119 = dktX6_readNext_5 := dk_seg dksX6_readNext_4 24 rfl rfl
theorem dksX6_readNext_6 : cX6_readNext.data.toList.drop 142 = dktX6_readNext_6 := dk_seg dksX6_readNext_5 23 rfl rfl
theorem dX6_readNext_0 : decode cX6_readNext 0 = .ok (.aload_n 0, 1) := dk_42 (dk_at dksX6_readNext_0 0 rfl rfl)
theorem dX6_readNext_1 : decode cX6_readNext 1 = .ok (.ldc 195, 2) := dk_18 195 (dk_at dksX6_readNext_0 1 rfl rfl)
theorem dX6_readNext_3 : decode cX6_readNext 3 = .ok (.invokevirtual 152, 3) := dk_182 0 152 (dk_at dksX6_readNext_0 3 rfl rfl)
theorem dX6_readNext_6 : decode cX6_readNext 6 = .ok (.ifCond .ne 26, 3) := dk_154 0 26 (dk_at dksX6_readNext_0 6 rfl rfl)
theorem dX6_readNext_9 : decode cX6_readNext 9 = .ok (.aload_n 0, 1) := dk_42 (dk_at dksX6_readNext_0 9 rfl rfl)
theorem dX6_readNext_10 : decode cX6_readNext 10 = .ok (.ldc 197, 2) := dk_18 197 (dk_at dksX6_readNext_0 10 rfl rfl)
theorem dX6_readNext_12 : decode cX6_readNext 12 = .ok (.invokevirtual 152, 3) := dk_182 0 152 (dk_at dksX6_readNext_0 12 rfl rfl)
theorem dX6_readNext_15 : decode cX6_readNext 15 = .ok (.ifCond .ne 17, 3) := dk_154 0 17 (dk_at dksX6_readNext_0 15 rfl rfl)
theorem dX6_readNext_18 : decode cX6_readNext 18 = .ok (.aload_n 0, 1) := dk_42 (dk_at dksX6_readNext_0 18 rfl rfl)
theorem dX6_readNext_19 : decode cX6_readNext 19 = .ok (.ldc 199, 2) := dk_18 199 (dk_at dksX6_readNext_0 19 rfl rfl)
theorem dX6_readNext_21 : decode cX6_readNext 21 = .ok (.invokevirtual 152, 3) := dk_182 0 152 (dk_at dksX6_readNext_0 21 rfl rfl)
theorem dX6_readNext_24 : decode cX6_readNext 24 = .ok (.ifCond .ne 8, 3) := dk_154 0 8 (dk_at dksX6_readNext_1 0 rfl rfl)
theorem dX6_readNext_27 : decode cX6_readNext 27 = .ok (.aload_n 0, 1) := dk_42 (dk_at dksX6_readNext_1 3 rfl rfl)
theorem dX6_readNext_28 : decode cX6_readNext 28 = .ok (.iconst 1, 1) := dk_4 (dk_at dksX6_readNext_1 4 rfl rfl)
theorem dX6_readNext_29 : decode cX6_readNext 29 = .ok (.invokevirtual 162, 3) := dk_182 0 162 (dk_at dksX6_readNext_1 5 rfl rfl)
theorem dX6_readNext_32 : decode cX6_readNext 32 = .ok (.aload_n 0, 1) := dk_42 (dk_at dksX6_readNext_1 8 rfl rfl)
theorem dX6_readNext_33 : decode cX6_readNext 33 = .ok (.ldc 195, 2) := dk_18 195 (dk_at dksX6_readNext_1 9 rfl rfl)
theorem dX6_readNext_35 : decode cX6_readNext 35 = .ok (.invokevirtual 152, 3) := dk_182 0 152 (dk_at dksX6_readNext_1 11 rfl rfl)
theorem dX6_readNext_38 : decode cX6_readNext 38 = .ok (.ifCond .eq 19, 3) := dk_153 0 19 (dk_at dksX6_readNext_1 14 rfl rfl)
theorem dX6_readNext_41 : decode cX6_readNext 41 = .ok (.aload_n 0, 1) := dk_42 (dk_at dksX6_readNext_1 17 rfl rfl)
theorem dX6_readNext_42 : decode cX6_readNext 42 = .ok (.getfield 31, 3) := dk_180 0 31 (dk_at dksX6_readNext_1 18 rfl rfl)
theorem dX6_readNext_45 : decode cX6_readNext 45 = .ok (.iconst 3, 1) := dk_6 (dk_at dksX6_readNext_1 21 rfl rfl)
theorem dX6_readNext_46 : decode cX6_readNext 46 = .ok (.iaload, 1) := dk_46 (dk_at dksX6_readNext_1 22 rfl rfl)
theorem dX6_readNext_47 : decode cX6_readNext 47 = .ok (.bipush 10, 2) := dk_16 10 (dk_at dksX6_readNext_2 0 rfl rfl)
theorem dX6_readNext_49 : decode cX6_readNext 49 = .ok (.if_icmp .ne 8, 3) := dk_160 0 8 (dk_at dksX6_readNext_2 2 rfl rfl)
theorem dX6_readNext_52 : decode cX6_readNext 52 = .ok (.aload_n 0, 1) := dk_42 (dk_at dksX6_readNext_2 5 rfl rfl)
theorem dX6_readNext_53 : decode cX6_readNext 53 = .ok (.iconst 3, 1) := dk_6 (dk_at dksX6_readNext_2 6 rfl rfl)
theorem dX6_readNext_54 : decode cX6_readNext 54 = .ok (.invokevirtual 162, 3) := dk_182 0 162 (dk_at dksX6_readNext_2 7 rfl rfl)
theorem dX6_readNext_57 : decode cX6_readNext 57 = .ok (.aload_n 0, 1) := dk_42 (dk_at dksX6_readNext_2 10 rfl rfl)
theorem dX6_readNext_58 : decode cX6_readNext 58 = .ok (.ldc 197, 2) := dk_18 197 (dk_at dksX6_readNext_2 11 rfl rfl)
theorem dX6_readNext_60 : decode cX6_readNext 60 = .ok (.invokevirtual 152, 3) := dk_182 0 152 (dk_at dksX6_readNext_2 13 rfl rfl)
theorem dX6_readNext_63 : decode cX6_readNext 63 = .ok (.ifCond .eq 18, 3) := dk_153 0 18 (dk_at dksX6_readNext_2 16 rfl rfl)
theorem dX6_readNext_66 : decode cX6_readNext 66 = .ok (.aload_n 0, 1) := dk_42 (dk_at dksX6_readNext_2 19 rfl rfl)
theorem dX6_readNext_67 : decode cX6_readNext 67 = .ok (.getfield 31, 3) := dk_180 0 31 (dk_at dksX6_readNext_2 20 rfl rfl)
theorem dX6_readNext_70 : decode cX6_readNext 70 = .ok (.iconst 4, 1) := dk_7 (dk_at dksX6_readNext_2 23 rfl rfl)
theorem dX6_readNext_71 : decode cX6_readNext 71 = .ok (.iaload, 1) := dk_46 (dk_at dksX6_readNext_3 0 rfl rfl)
theorem dX6_readNext_72 : decode cX6_readNext 72 = .ok (.iconst 5, 1) := dk_8 (dk_at dksX6_readNext_3 1 rfl rfl)
theorem dX6_readNext_73 : decode cX6_readNext 73 = .ok (.if_icmp .ne 8, 3) := dk_160 0 8 (dk_at dksX6_readNext_3 2 rfl rfl)
theorem dX6_readNext_76 : decode cX6_readNext 76 = .ok (.aload_n 0, 1) := dk_42 (dk_at dksX6_readNext_3 5 rfl rfl)
theorem dX6_readNext_77 : decode cX6_readNext 77 = .ok (.iconst 3, 1) := dk_6 (dk_at dksX6_readNext_3 6 rfl rfl)
theorem dX6_readNext_78 : decode cX6_readNext 78 = .ok (.invokevirtual 162, 3) := dk_182 0 162 (dk_at dksX6_readNext_3 7 rfl rfl)
theorem dX6_readNext_81 : decode cX6_readNext 81 = .ok (.aload_n 0, 1) := dk_42 (dk_at dksX6_readNext_3 10 rfl rfl)
theorem dX6_readNext_82 : decode cX6_readNext 82 = .ok (.ldc 199, 2) := dk_18 199 (dk_at dksX6_readNext_3 11 rfl rfl)
theorem dX6_readNext_84 : decode cX6_readNext 84 = .ok (.invokevirtual 152, 3) := dk_182 0 152 (dk_at dksX6_readNext_3 13 rfl rfl)
theorem dX6_readNext_87 : decode cX6_readNext 87 = .ok (.ifCond .eq 18, 3) := dk_153 0 18 (dk_at dksX6_readNext_3 16 rfl rfl)
theorem dX6_readNext_90 : decode cX6_readNext 90 = .ok (.aload_n 0, 1) := dk_42 (dk_at dksX6_readNext_3 19 rfl rfl)
theorem dX6_readNext_91 : decode cX6_readNext 91 = .ok (.getfield 31, 3) := dk_180 0 31 (dk_at dksX6_readNext_3 20 rfl rfl)
theorem dX6_readNext_94 : decode cX6_readNext 94 = .ok (.iconst 5, 1) := dk_8 (dk_at dksX6_readNext_3 23 rfl rfl)
theorem dX6_readNext_95 : decode cX6_readNext 95 = .ok (.iaload, 1) := dk_46 (dk_at dksX6_readNext_4 0 rfl rfl)
theorem dX6_readNext_96 : decode cX6_readNext 96 = .ok (.iconst 5, 1) := dk_8 (dk_at dksX6_readNext_4 1 rfl rfl)
theorem dX6_readNext_97 : decode cX6_readNext 97 = .ok (.if_icmp .ne 8, 3) := dk_160 0 8 (dk_at dksX6_readNext_4 2 rfl rfl)
theorem dX6_readNext_100 : decode cX6_readNext 100 = .ok (.aload_n 0, 1) := dk_42 (dk_at dksX6_readNext_4 5 rfl rfl)
theorem dX6_readNext_101 : decode cX6_readNext 101 = .ok (.iconst 3, 1) := dk_6 (dk_at dksX6_readNext_4 6 rfl rfl)
theorem dX6_readNext_102 : decode cX6_readNext 102 = .ok (.invokevirtual 162, 3) := dk_182 0 162 (dk_at dksX6_readNext_4 7 rfl rfl)
theorem dX6_readNext_105 : decode cX6_readNext 105 = .ok (.aload_n 0, 1) := dk_42 (dk_at dksX6_readNext_4 10 rfl rfl)
theorem dX6_readNext_106 : decode cX6_readNext 106 = .ok (.invokevirtual 138, 3) := dk_182 0 138 (dk_at dksX6_readNext_4 11 rfl rfl)
theorem dX6_readNext_109 : decode cX6_readNext 109 = .ok (.ifCond .ne 4, 3) := dk_154 0 4 (dk_at dksX6_readNext_4 14 rfl rfl)
theorem dX6_readNext_112 : decode cX6_readNext 112 = .ok (.return_, 1) := dk_177 (dk_at dksX6_readNext_4 17 rfl rfl)
theorem dX6_readNext_113 : decode cX6_readNext 113 = .ok (.aload_n 0, 1) := dk_42 (dk_at dksX6_readNext_4 18 rfl rfl)
theorem dX6_readNext_114 : decode cX6_readNext 114 = .ok (.ldc 195, 2) := dk_18 195 (dk_at dksX6_readNext_4 19 rfl rfl)
theorem dX6_readNext_116 : decode cX6_readNext 116 = .ok (.invokevirtual 159, 3) := dk_182 0 159 (dk_at dksX6_readNext_4 21 rfl rfl)
theorem dX6_readNext_119 : decode cX6_readNext 119 = .ok (.ifCond .eq 10, 3) := dk_153 0 10 (dk_at dksX6_readNext_5 0 rfl rfl)
theorem dX6_readNext_122 : decode cX6_readNext 122 = .ok (.aload_n 0, 1) := dk_42 (dk_at dksX6_readNext_5 3 rfl rfl)
theorem dX6_readNext_123 : decode cX6_readNext 123 = .ok (.invokevirtual 201, 3) := dk_182 0 201 (dk_at dksX6_readNext_5 4 rfl rfl)
theorem dX6_readNext_126 : decode cX6_readNext 126 = .ok (.goto 27, 3) := dk_167 0 27 (dk_at dksX6_readNext_5 7 rfl rfl)
theorem dX6_readNext_129 : decode cX6_readNext 129 = .ok (.aload_n 0, 1) := dk_42 (dk_at dksX6_readNext_5 10 rfl rfl)
theorem dX6_readNext_130 : decode cX6_readNext 130 = .ok (.ldc 197, 2) := dk_18 197 (dk_at dksX6_readNext_5 11 rfl rfl)
theorem dX6_readNext_132 : decode cX6_readNext 132 = .ok (.invokevirtual 159, 3) := dk_182 0 159 (dk_at dksX6_readNext_5 13 rfl rfl)
theorem dX6_readNext_135 : decode cX6_readNext 135 = .ok (.ifCond .eq 10, 3) := dk_153 0 10 (dk_at dksX6_readNext_5 16 rfl rfl)
theorem dX6_readNext_138 : decode cX6_readNext 138 = .ok (.aload_n 0, 1) := dk_42 (dk_at dksX6_readNext_5 19 rfl rfl)
theorem dX6_readNext_139 : decode cX6_readNext 139 = .ok (.invokevirtual 204, 3) := dk_182 0 204 (dk_at dksX6_readNext_5 20 rfl rfl)
theorem dX6_readNext_142 : decode cX6_readNext 142 = .ok (.goto 11, 3) := dk_167 0 11 (dk_at dksX6_readNext_6 0 rfl rfl)
theorem dX6_readNext_145 : decode cX6_readNext 145 = .ok (.aload_n 0, 1) := dk_42 (dk_at dksX6_readNext_6 3 rfl rfl)
theorem dX6_readNext_146 : decode cX6_readNext 146 = .ok (.invokevirtual 156, 3) := dk_182 0 156 (dk_at dksX6_readNext_6 4 rfl rfl)
theorem dX6_readNext_149 : decode cX6_readNext 149 = .ok (.aload_n 0, 1) := dk_42 (dk_at dksX6_readNext_6 7 rfl rfl)
theorem dX6_readNext_150 : decode cX6_readNext 150 = .ok (.invokevirtual 207, 3) := dk_182 0 207 (dk_at dksX6_readNext_6 8 rfl rfl)
theorem dX6_readNext_153 : decode cX6_readNext 153 = .ok (.return_, 1) := dk_177 (dk_at dksX6_readNext_6 11 rfl rfl)
abbrev cX6_readReach : ByteArray := prog_14_method_27_code
def yX6_readReach : MethodName := ⟨RX6, "readReach", "()V"⟩
def dkwX6_readReach_3 : List UInt8 := [18, 190, 3, 16, 20, 182, 0, 177, 79, 42, 180, 0, 31, 6, 92, 46, 4, 96, 79, 177]
abbrev dktX6_readReach_3 : List UInt8 := dkwX6_readReach_3 ++ []
def dkwX6_readReach_2 : List UInt8 := [42, 180, 0, 31, 27, 4, 96, 42, 18, 189, 4, 8, 182, 0, 177, 79, 42, 180, 0, 31, 27, 5, 96, 42]
abbrev dktX6_readReach_2 : List UInt8 := dkwX6_readReach_2 ++ dktX6_readReach_3
def dkwX6_readReach_1 : List UInt8 := [61, 42, 180, 0, 31, 27, 3, 96, 28, 153, 0, 7, 2, 167, 0, 10, 42, 3, 16, 9, 182, 0, 170, 79]
abbrev dktX6_readReach_1 : List UInt8 := dkwX6_readReach_1 ++ dktX6_readReach_2
def dkwX6_readReach_0 : List UInt8 := [16, 8, 6, 42, 180, 0, 31, 6, 46, 104, 96, 60, 42, 18, 185, 182, 0, 166, 42, 18, 187, 182, 0, 159]
abbrev dktX6_readReach_0 : List UInt8 := dkwX6_readReach_0 ++ dktX6_readReach_1
theorem dksX6_readReach_0 : cX6_readReach.data.toList.drop 0 = dktX6_readReach_0 := by decide +kernel
theorem dksX6_readReach_1 : cX6_readReach.data.toList.drop 24 = dktX6_readReach_1 := dk_seg dksX6_readReach_0 24 rfl rfl
theorem dksX6_readReach_2 : cX6_readReach.data.toList.drop 48 = dktX6_readReach_2 := dk_seg dksX6_readReach_1 24 rfl rfl
theorem dksX6_readReach_3 : cX6_readReach.data.toList.drop 72 = dktX6_readReach_3 := dk_seg dksX6_readReach_2 24 rfl rfl
theorem dX6_readReach_0 : decode cX6_readReach 0 = .ok (.bipush 8, 2) := dk_16 8 (dk_at dksX6_readReach_0 0 rfl rfl)
theorem dX6_readReach_2 : decode cX6_readReach 2 = .ok (.iconst 3, 1) := dk_6 (dk_at dksX6_readReach_0 2 rfl rfl)
theorem dX6_readReach_3 : decode cX6_readReach 3 = .ok (.aload_n 0, 1) := dk_42 (dk_at dksX6_readReach_0 3 rfl rfl)
theorem dX6_readReach_4 : decode cX6_readReach 4 = .ok (.getfield 31, 3) := dk_180 0 31 (dk_at dksX6_readReach_0 4 rfl rfl)
theorem dX6_readReach_7 : decode cX6_readReach 7 = .ok (.iconst 3, 1) := dk_6 (dk_at dksX6_readReach_0 7 rfl rfl)
theorem dX6_readReach_8 : decode cX6_readReach 8 = .ok (.iaload, 1) := dk_46 (dk_at dksX6_readReach_0 8 rfl rfl)
theorem dX6_readReach_9 : decode cX6_readReach 9 = .ok (.imul, 1) := dk_104 (dk_at dksX6_readReach_0 9 rfl rfl)
theorem dX6_readReach_10 : decode cX6_readReach 10 = .ok (.iadd, 1) := dk_96 (dk_at dksX6_readReach_0 10 rfl rfl)
theorem dX6_readReach_11 : decode cX6_readReach 11 = .ok (.istore_n 1, 1) := dk_60 (dk_at dksX6_readReach_0 11 rfl rfl)
theorem dX6_readReach_12 : decode cX6_readReach 12 = .ok (.aload_n 0, 1) := dk_42 (dk_at dksX6_readReach_0 12 rfl rfl)
theorem dX6_readReach_13 : decode cX6_readReach 13 = .ok (.ldc 185, 2) := dk_18 185 (dk_at dksX6_readReach_0 13 rfl rfl)
theorem dX6_readReach_15 : decode cX6_readReach 15 = .ok (.invokevirtual 166, 3) := dk_182 0 166 (dk_at dksX6_readReach_0 15 rfl rfl)
theorem dX6_readReach_18 : decode cX6_readReach 18 = .ok (.aload_n 0, 1) := dk_42 (dk_at dksX6_readReach_0 18 rfl rfl)
theorem dX6_readReach_19 : decode cX6_readReach 19 = .ok (.ldc 187, 2) := dk_18 187 (dk_at dksX6_readReach_0 19 rfl rfl)
theorem dX6_readReach_21 : decode cX6_readReach 21 = .ok (.invokevirtual 159, 3) := dk_182 0 159 (dk_at dksX6_readReach_0 21 rfl rfl)
theorem dX6_readReach_24 : decode cX6_readReach 24 = .ok (.istore_n 2, 1) := dk_61 (dk_at dksX6_readReach_1 0 rfl rfl)
theorem dX6_readReach_25 : decode cX6_readReach 25 = .ok (.aload_n 0, 1) := dk_42 (dk_at dksX6_readReach_1 1 rfl rfl)
theorem dX6_readReach_26 : decode cX6_readReach 26 = .ok (.getfield 31, 3) := dk_180 0 31 (dk_at dksX6_readReach_1 2 rfl rfl)
theorem dX6_readReach_29 : decode cX6_readReach 29 = .ok (.iload_n 1, 1) := dk_27 (dk_at dksX6_readReach_1 5 rfl rfl)
theorem dX6_readReach_30 : decode cX6_readReach 30 = .ok (.iconst 0, 1) := dk_3 (dk_at dksX6_readReach_1 6 rfl rfl)
theorem dX6_readReach_31 : decode cX6_readReach 31 = .ok (.iadd, 1) := dk_96 (dk_at dksX6_readReach_1 7 rfl rfl)
theorem dX6_readReach_32 : decode cX6_readReach 32 = .ok (.iload_n 2, 1) := dk_28 (dk_at dksX6_readReach_1 8 rfl rfl)
theorem dX6_readReach_33 : decode cX6_readReach 33 = .ok (.ifCond .eq 7, 3) := dk_153 0 7 (dk_at dksX6_readReach_1 9 rfl rfl)
theorem dX6_readReach_36 : decode cX6_readReach 36 = .ok (.iconst (-1), 1) := dk_2 (dk_at dksX6_readReach_1 12 rfl rfl)
theorem dX6_readReach_37 : decode cX6_readReach 37 = .ok (.goto 10, 3) := dk_167 0 10 (dk_at dksX6_readReach_1 13 rfl rfl)
theorem dX6_readReach_40 : decode cX6_readReach 40 = .ok (.aload_n 0, 1) := dk_42 (dk_at dksX6_readReach_1 16 rfl rfl)
theorem dX6_readReach_41 : decode cX6_readReach 41 = .ok (.iconst 0, 1) := dk_3 (dk_at dksX6_readReach_1 17 rfl rfl)
theorem dX6_readReach_42 : decode cX6_readReach 42 = .ok (.bipush 9, 2) := dk_16 9 (dk_at dksX6_readReach_1 18 rfl rfl)
theorem dX6_readReach_44 : decode cX6_readReach 44 = .ok (.invokevirtual 170, 3) := dk_182 0 170 (dk_at dksX6_readReach_1 20 rfl rfl)
theorem dX6_readReach_47 : decode cX6_readReach 47 = .ok (.iastore, 1) := dk_79 (dk_at dksX6_readReach_1 23 rfl rfl)
theorem dX6_readReach_48 : decode cX6_readReach 48 = .ok (.aload_n 0, 1) := dk_42 (dk_at dksX6_readReach_2 0 rfl rfl)
theorem dX6_readReach_49 : decode cX6_readReach 49 = .ok (.getfield 31, 3) := dk_180 0 31 (dk_at dksX6_readReach_2 1 rfl rfl)
theorem dX6_readReach_52 : decode cX6_readReach 52 = .ok (.iload_n 1, 1) := dk_27 (dk_at dksX6_readReach_2 4 rfl rfl)
theorem dX6_readReach_53 : decode cX6_readReach 53 = .ok (.iconst 1, 1) := dk_4 (dk_at dksX6_readReach_2 5 rfl rfl)
theorem dX6_readReach_54 : decode cX6_readReach 54 = .ok (.iadd, 1) := dk_96 (dk_at dksX6_readReach_2 6 rfl rfl)
theorem dX6_readReach_55 : decode cX6_readReach 55 = .ok (.aload_n 0, 1) := dk_42 (dk_at dksX6_readReach_2 7 rfl rfl)
theorem dX6_readReach_56 : decode cX6_readReach 56 = .ok (.ldc 189, 2) := dk_18 189 (dk_at dksX6_readReach_2 8 rfl rfl)
theorem dX6_readReach_58 : decode cX6_readReach 58 = .ok (.iconst 1, 1) := dk_4 (dk_at dksX6_readReach_2 10 rfl rfl)
theorem dX6_readReach_59 : decode cX6_readReach 59 = .ok (.iconst 5, 1) := dk_8 (dk_at dksX6_readReach_2 11 rfl rfl)
theorem dX6_readReach_60 : decode cX6_readReach 60 = .ok (.invokevirtual 177, 3) := dk_182 0 177 (dk_at dksX6_readReach_2 12 rfl rfl)
theorem dX6_readReach_63 : decode cX6_readReach 63 = .ok (.iastore, 1) := dk_79 (dk_at dksX6_readReach_2 15 rfl rfl)
theorem dX6_readReach_64 : decode cX6_readReach 64 = .ok (.aload_n 0, 1) := dk_42 (dk_at dksX6_readReach_2 16 rfl rfl)
theorem dX6_readReach_65 : decode cX6_readReach 65 = .ok (.getfield 31, 3) := dk_180 0 31 (dk_at dksX6_readReach_2 17 rfl rfl)
theorem dX6_readReach_68 : decode cX6_readReach 68 = .ok (.iload_n 1, 1) := dk_27 (dk_at dksX6_readReach_2 20 rfl rfl)
theorem dX6_readReach_69 : decode cX6_readReach 69 = .ok (.iconst 2, 1) := dk_5 (dk_at dksX6_readReach_2 21 rfl rfl)
theorem dX6_readReach_70 : decode cX6_readReach 70 = .ok (.iadd, 1) := dk_96 (dk_at dksX6_readReach_2 22 rfl rfl)
theorem dX6_readReach_71 : decode cX6_readReach 71 = .ok (.aload_n 0, 1) := dk_42 (dk_at dksX6_readReach_2 23 rfl rfl)
theorem dX6_readReach_72 : decode cX6_readReach 72 = .ok (.ldc 190, 2) := dk_18 190 (dk_at dksX6_readReach_3 0 rfl rfl)
theorem dX6_readReach_74 : decode cX6_readReach 74 = .ok (.iconst 0, 1) := dk_3 (dk_at dksX6_readReach_3 2 rfl rfl)
theorem dX6_readReach_75 : decode cX6_readReach 75 = .ok (.bipush 20, 2) := dk_16 20 (dk_at dksX6_readReach_3 3 rfl rfl)
theorem dX6_readReach_77 : decode cX6_readReach 77 = .ok (.invokevirtual 177, 3) := dk_182 0 177 (dk_at dksX6_readReach_3 5 rfl rfl)
theorem dX6_readReach_80 : decode cX6_readReach 80 = .ok (.iastore, 1) := dk_79 (dk_at dksX6_readReach_3 8 rfl rfl)
theorem dX6_readReach_81 : decode cX6_readReach 81 = .ok (.aload_n 0, 1) := dk_42 (dk_at dksX6_readReach_3 9 rfl rfl)
theorem dX6_readReach_82 : decode cX6_readReach 82 = .ok (.getfield 31, 3) := dk_180 0 31 (dk_at dksX6_readReach_3 10 rfl rfl)
theorem dX6_readReach_85 : decode cX6_readReach 85 = .ok (.iconst 3, 1) := dk_6 (dk_at dksX6_readReach_3 13 rfl rfl)
theorem dX6_readReach_86 : decode cX6_readReach 86 = .ok (.dup2, 1) := dk_92 (dk_at dksX6_readReach_3 14 rfl rfl)
theorem dX6_readReach_87 : decode cX6_readReach 87 = .ok (.iaload, 1) := dk_46 (dk_at dksX6_readReach_3 15 rfl rfl)
theorem dX6_readReach_88 : decode cX6_readReach 88 = .ok (.iconst 1, 1) := dk_4 (dk_at dksX6_readReach_3 16 rfl rfl)
theorem dX6_readReach_89 : decode cX6_readReach 89 = .ok (.iadd, 1) := dk_96 (dk_at dksX6_readReach_3 17 rfl rfl)
theorem dX6_readReach_90 : decode cX6_readReach 90 = .ok (.iastore, 1) := dk_79 (dk_at dksX6_readReach_3 18 rfl rfl)
theorem dX6_readReach_91 : decode cX6_readReach 91 = .ok (.return_, 1) := dk_177 (dk_at dksX6_readReach_3 19 rfl rfl)
abbrev cX6_readJoin : ByteArray := prog_14_method_28_code
def yX6_readJoin : MethodName := ⟨RX6, "readJoin", "()V"⟩
def dkwX6_readJoin_4 : List UInt8 := [42, 180, 0, 31, 7, 92, 46, 4, 96, 79, 177]
abbrev dktX6_readJoin_4 : List UInt8 := dkwX6_readJoin_4 ++ []
def dkwX6_readJoin_3 : List UInt8 := [180, 0, 31, 27, 6, 96, 42, 18, 194, 3, 42, 180, 0, 31, 27, 5, 96, 46, 4, 100, 182, 0, 177, 79]
abbrev dktX6_readJoin_3 : List UInt8 := dkwX6_readJoin_3 ++ dktX6_readJoin_4
def dkwX6_readJoin_2 : List UInt8 := [4, 100, 182, 0, 177, 79, 42, 180, 0, 31, 27, 5, 96, 42, 18, 192, 4, 16, 9, 182, 0, 177, 79, 42]
abbrev dktX6_readJoin_2 : List UInt8 := dkwX6_readJoin_2 ++ dktX6_readJoin_3
def dkwX6_readJoin_1 : List UInt8 := [46, 4, 100, 182, 0, 170, 79, 42, 180, 0, 31, 27, 4, 96, 42, 18, 185, 3, 42, 180, 0, 31, 6, 46]
abbrev dktX6_readJoin_1 : List UInt8 := dkwX6_readJoin_1 ++ dktX6_readJoin_2
def dkwX6_readJoin_0 : List UInt8 := [16, 38, 7, 42, 180, 0, 31, 7, 46, 104, 96, 60, 42, 180, 0, 31, 27, 42, 3, 42, 180, 0, 31, 6]
abbrev dktX6_readJoin_0 : List UInt8 := dkwX6_readJoin_0 ++ dktX6_readJoin_1
theorem dksX6_readJoin_0 : cX6_readJoin.data.toList.drop 0 = dktX6_readJoin_0 := by decide +kernel
theorem dksX6_readJoin_1 : cX6_readJoin.data.toList.drop 24 = dktX6_readJoin_1 := dk_seg dksX6_readJoin_0 24 rfl rfl
theorem dksX6_readJoin_2 : cX6_readJoin.data.toList.drop 48 = dktX6_readJoin_2 := dk_seg dksX6_readJoin_1 24 rfl rfl
theorem dksX6_readJoin_3 : cX6_readJoin.data.toList.drop 72 = dktX6_readJoin_3 := dk_seg dksX6_readJoin_2 24 rfl rfl
theorem dksX6_readJoin_4 : cX6_readJoin.data.toList.drop 96 = dktX6_readJoin_4 := dk_seg dksX6_readJoin_3 24 rfl rfl
theorem dX6_readJoin_0 : decode cX6_readJoin 0 = .ok (.bipush 38, 2) := dk_16 38 (dk_at dksX6_readJoin_0 0 rfl rfl)
theorem dX6_readJoin_2 : decode cX6_readJoin 2 = .ok (.iconst 4, 1) := dk_7 (dk_at dksX6_readJoin_0 2 rfl rfl)
theorem dX6_readJoin_3 : decode cX6_readJoin 3 = .ok (.aload_n 0, 1) := dk_42 (dk_at dksX6_readJoin_0 3 rfl rfl)
theorem dX6_readJoin_4 : decode cX6_readJoin 4 = .ok (.getfield 31, 3) := dk_180 0 31 (dk_at dksX6_readJoin_0 4 rfl rfl)
theorem dX6_readJoin_7 : decode cX6_readJoin 7 = .ok (.iconst 4, 1) := dk_7 (dk_at dksX6_readJoin_0 7 rfl rfl)
theorem dX6_readJoin_8 : decode cX6_readJoin 8 = .ok (.iaload, 1) := dk_46 (dk_at dksX6_readJoin_0 8 rfl rfl)
theorem dX6_readJoin_9 : decode cX6_readJoin 9 = .ok (.imul, 1) := dk_104 (dk_at dksX6_readJoin_0 9 rfl rfl)
theorem dX6_readJoin_10 : decode cX6_readJoin 10 = .ok (.iadd, 1) := dk_96 (dk_at dksX6_readJoin_0 10 rfl rfl)
theorem dX6_readJoin_11 : decode cX6_readJoin 11 = .ok (.istore_n 1, 1) := dk_60 (dk_at dksX6_readJoin_0 11 rfl rfl)
theorem dX6_readJoin_12 : decode cX6_readJoin 12 = .ok (.aload_n 0, 1) := dk_42 (dk_at dksX6_readJoin_0 12 rfl rfl)
theorem dX6_readJoin_13 : decode cX6_readJoin 13 = .ok (.getfield 31, 3) := dk_180 0 31 (dk_at dksX6_readJoin_0 13 rfl rfl)
theorem dX6_readJoin_16 : decode cX6_readJoin 16 = .ok (.iload_n 1, 1) := dk_27 (dk_at dksX6_readJoin_0 16 rfl rfl)
theorem dX6_readJoin_17 : decode cX6_readJoin 17 = .ok (.aload_n 0, 1) := dk_42 (dk_at dksX6_readJoin_0 17 rfl rfl)
theorem dX6_readJoin_18 : decode cX6_readJoin 18 = .ok (.iconst 0, 1) := dk_3 (dk_at dksX6_readJoin_0 18 rfl rfl)
theorem dX6_readJoin_19 : decode cX6_readJoin 19 = .ok (.aload_n 0, 1) := dk_42 (dk_at dksX6_readJoin_0 19 rfl rfl)
theorem dX6_readJoin_20 : decode cX6_readJoin 20 = .ok (.getfield 31, 3) := dk_180 0 31 (dk_at dksX6_readJoin_0 20 rfl rfl)
theorem dX6_readJoin_23 : decode cX6_readJoin 23 = .ok (.iconst 3, 1) := dk_6 (dk_at dksX6_readJoin_0 23 rfl rfl)
theorem dX6_readJoin_24 : decode cX6_readJoin 24 = .ok (.iaload, 1) := dk_46 (dk_at dksX6_readJoin_1 0 rfl rfl)
theorem dX6_readJoin_25 : decode cX6_readJoin 25 = .ok (.iconst 1, 1) := dk_4 (dk_at dksX6_readJoin_1 1 rfl rfl)
theorem dX6_readJoin_26 : decode cX6_readJoin 26 = .ok (.isub, 1) := dk_100 (dk_at dksX6_readJoin_1 2 rfl rfl)
theorem dX6_readJoin_27 : decode cX6_readJoin 27 = .ok (.invokevirtual 170, 3) := dk_182 0 170 (dk_at dksX6_readJoin_1 3 rfl rfl)
theorem dX6_readJoin_30 : decode cX6_readJoin 30 = .ok (.iastore, 1) := dk_79 (dk_at dksX6_readJoin_1 6 rfl rfl)
theorem dX6_readJoin_31 : decode cX6_readJoin 31 = .ok (.aload_n 0, 1) := dk_42 (dk_at dksX6_readJoin_1 7 rfl rfl)
theorem dX6_readJoin_32 : decode cX6_readJoin 32 = .ok (.getfield 31, 3) := dk_180 0 31 (dk_at dksX6_readJoin_1 8 rfl rfl)
theorem dX6_readJoin_35 : decode cX6_readJoin 35 = .ok (.iload_n 1, 1) := dk_27 (dk_at dksX6_readJoin_1 11 rfl rfl)
theorem dX6_readJoin_36 : decode cX6_readJoin 36 = .ok (.iconst 1, 1) := dk_4 (dk_at dksX6_readJoin_1 12 rfl rfl)
theorem dX6_readJoin_37 : decode cX6_readJoin 37 = .ok (.iadd, 1) := dk_96 (dk_at dksX6_readJoin_1 13 rfl rfl)
theorem dX6_readJoin_38 : decode cX6_readJoin 38 = .ok (.aload_n 0, 1) := dk_42 (dk_at dksX6_readJoin_1 14 rfl rfl)
theorem dX6_readJoin_39 : decode cX6_readJoin 39 = .ok (.ldc 185, 2) := dk_18 185 (dk_at dksX6_readJoin_1 15 rfl rfl)
theorem dX6_readJoin_41 : decode cX6_readJoin 41 = .ok (.iconst 0, 1) := dk_3 (dk_at dksX6_readJoin_1 17 rfl rfl)
theorem dX6_readJoin_42 : decode cX6_readJoin 42 = .ok (.aload_n 0, 1) := dk_42 (dk_at dksX6_readJoin_1 18 rfl rfl)
theorem dX6_readJoin_43 : decode cX6_readJoin 43 = .ok (.getfield 31, 3) := dk_180 0 31 (dk_at dksX6_readJoin_1 19 rfl rfl)
theorem dX6_readJoin_46 : decode cX6_readJoin 46 = .ok (.iconst 3, 1) := dk_6 (dk_at dksX6_readJoin_1 22 rfl rfl)
theorem dX6_readJoin_47 : decode cX6_readJoin 47 = .ok (.iaload, 1) := dk_46 (dk_at dksX6_readJoin_1 23 rfl rfl)
theorem dX6_readJoin_48 : decode cX6_readJoin 48 = .ok (.iconst 1, 1) := dk_4 (dk_at dksX6_readJoin_2 0 rfl rfl)
theorem dX6_readJoin_49 : decode cX6_readJoin 49 = .ok (.isub, 1) := dk_100 (dk_at dksX6_readJoin_2 1 rfl rfl)
theorem dX6_readJoin_50 : decode cX6_readJoin 50 = .ok (.invokevirtual 177, 3) := dk_182 0 177 (dk_at dksX6_readJoin_2 2 rfl rfl)
theorem dX6_readJoin_53 : decode cX6_readJoin 53 = .ok (.iastore, 1) := dk_79 (dk_at dksX6_readJoin_2 5 rfl rfl)
theorem dX6_readJoin_54 : decode cX6_readJoin 54 = .ok (.aload_n 0, 1) := dk_42 (dk_at dksX6_readJoin_2 6 rfl rfl)
theorem dX6_readJoin_55 : decode cX6_readJoin 55 = .ok (.getfield 31, 3) := dk_180 0 31 (dk_at dksX6_readJoin_2 7 rfl rfl)
theorem dX6_readJoin_58 : decode cX6_readJoin 58 = .ok (.iload_n 1, 1) := dk_27 (dk_at dksX6_readJoin_2 10 rfl rfl)
theorem dX6_readJoin_59 : decode cX6_readJoin 59 = .ok (.iconst 2, 1) := dk_5 (dk_at dksX6_readJoin_2 11 rfl rfl)
theorem dX6_readJoin_60 : decode cX6_readJoin 60 = .ok (.iadd, 1) := dk_96 (dk_at dksX6_readJoin_2 12 rfl rfl)
theorem dX6_readJoin_61 : decode cX6_readJoin 61 = .ok (.aload_n 0, 1) := dk_42 (dk_at dksX6_readJoin_2 13 rfl rfl)
theorem dX6_readJoin_62 : decode cX6_readJoin 62 = .ok (.ldc 192, 2) := dk_18 192 (dk_at dksX6_readJoin_2 14 rfl rfl)
theorem dX6_readJoin_64 : decode cX6_readJoin 64 = .ok (.iconst 1, 1) := dk_4 (dk_at dksX6_readJoin_2 16 rfl rfl)
theorem dX6_readJoin_65 : decode cX6_readJoin 65 = .ok (.bipush 9, 2) := dk_16 9 (dk_at dksX6_readJoin_2 17 rfl rfl)
theorem dX6_readJoin_67 : decode cX6_readJoin 67 = .ok (.invokevirtual 177, 3) := dk_182 0 177 (dk_at dksX6_readJoin_2 19 rfl rfl)
theorem dX6_readJoin_70 : decode cX6_readJoin 70 = .ok (.iastore, 1) := dk_79 (dk_at dksX6_readJoin_2 22 rfl rfl)
theorem dX6_readJoin_71 : decode cX6_readJoin 71 = .ok (.aload_n 0, 1) := dk_42 (dk_at dksX6_readJoin_2 23 rfl rfl)
theorem dX6_readJoin_72 : decode cX6_readJoin 72 = .ok (.getfield 31, 3) := dk_180 0 31 (dk_at dksX6_readJoin_3 0 rfl rfl)
theorem dX6_readJoin_75 : decode cX6_readJoin 75 = .ok (.iload_n 1, 1) := dk_27 (dk_at dksX6_readJoin_3 3 rfl rfl)
theorem dX6_readJoin_76 : decode cX6_readJoin 76 = .ok (.iconst 3, 1) := dk_6 (dk_at dksX6_readJoin_3 4 rfl rfl)
theorem dX6_readJoin_77 : decode cX6_readJoin 77 = .ok (.iadd, 1) := dk_96 (dk_at dksX6_readJoin_3 5 rfl rfl)
theorem dX6_readJoin_78 : decode cX6_readJoin 78 = .ok (.aload_n 0, 1) := dk_42 (dk_at dksX6_readJoin_3 6 rfl rfl)
theorem dX6_readJoin_79 : decode cX6_readJoin 79 = .ok (.ldc 194, 2) := dk_18 194 (dk_at dksX6_readJoin_3 7 rfl rfl)
theorem dX6_readJoin_81 : decode cX6_readJoin 81 = .ok (.iconst 0, 1) := dk_3 (dk_at dksX6_readJoin_3 9 rfl rfl)
theorem dX6_readJoin_82 : decode cX6_readJoin 82 = .ok (.aload_n 0, 1) := dk_42 (dk_at dksX6_readJoin_3 10 rfl rfl)
theorem dX6_readJoin_83 : decode cX6_readJoin 83 = .ok (.getfield 31, 3) := dk_180 0 31 (dk_at dksX6_readJoin_3 11 rfl rfl)
theorem dX6_readJoin_86 : decode cX6_readJoin 86 = .ok (.iload_n 1, 1) := dk_27 (dk_at dksX6_readJoin_3 14 rfl rfl)
theorem dX6_readJoin_87 : decode cX6_readJoin 87 = .ok (.iconst 2, 1) := dk_5 (dk_at dksX6_readJoin_3 15 rfl rfl)
theorem dX6_readJoin_88 : decode cX6_readJoin 88 = .ok (.iadd, 1) := dk_96 (dk_at dksX6_readJoin_3 16 rfl rfl)
theorem dX6_readJoin_89 : decode cX6_readJoin 89 = .ok (.iaload, 1) := dk_46 (dk_at dksX6_readJoin_3 17 rfl rfl)
theorem dX6_readJoin_90 : decode cX6_readJoin 90 = .ok (.iconst 1, 1) := dk_4 (dk_at dksX6_readJoin_3 18 rfl rfl)
theorem dX6_readJoin_91 : decode cX6_readJoin 91 = .ok (.isub, 1) := dk_100 (dk_at dksX6_readJoin_3 19 rfl rfl)
theorem dX6_readJoin_92 : decode cX6_readJoin 92 = .ok (.invokevirtual 177, 3) := dk_182 0 177 (dk_at dksX6_readJoin_3 20 rfl rfl)
theorem dX6_readJoin_95 : decode cX6_readJoin 95 = .ok (.iastore, 1) := dk_79 (dk_at dksX6_readJoin_3 23 rfl rfl)
theorem dX6_readJoin_96 : decode cX6_readJoin 96 = .ok (.aload_n 0, 1) := dk_42 (dk_at dksX6_readJoin_4 0 rfl rfl)
theorem dX6_readJoin_97 : decode cX6_readJoin 97 = .ok (.getfield 31, 3) := dk_180 0 31 (dk_at dksX6_readJoin_4 1 rfl rfl)
theorem dX6_readJoin_100 : decode cX6_readJoin 100 = .ok (.iconst 4, 1) := dk_7 (dk_at dksX6_readJoin_4 4 rfl rfl)
theorem dX6_readJoin_101 : decode cX6_readJoin 101 = .ok (.dup2, 1) := dk_92 (dk_at dksX6_readJoin_4 5 rfl rfl)
theorem dX6_readJoin_102 : decode cX6_readJoin 102 = .ok (.iaload, 1) := dk_46 (dk_at dksX6_readJoin_4 6 rfl rfl)
theorem dX6_readJoin_103 : decode cX6_readJoin 103 = .ok (.iconst 1, 1) := dk_4 (dk_at dksX6_readJoin_4 7 rfl rfl)
theorem dX6_readJoin_104 : decode cX6_readJoin 104 = .ok (.iadd, 1) := dk_96 (dk_at dksX6_readJoin_4 8 rfl rfl)
theorem dX6_readJoin_105 : decode cX6_readJoin 105 = .ok (.iastore, 1) := dk_79 (dk_at dksX6_readJoin_4 9 rfl rfl)
theorem dX6_readJoin_106 : decode cX6_readJoin 106 = .ok (.return_, 1) := dk_177 (dk_at dksX6_readJoin_4 10 rfl rfl)
abbrev cX6_readRain : ByteArray := prog_14_method_29_code
def yX6_readRain : MethodName := ⟨RX6, "readRain", "()V"⟩
def dkwX6_readRain_2 : List UInt8 := [46, 4, 96, 79, 177]
abbrev dktX6_readRain_2 : List UInt8 := dkwX6_readRain_2 ++ []
def dkwX6_readRain_1 : List UInt8 := [79, 42, 180, 0, 31, 27, 4, 96, 42, 18, 194, 3, 16, 60, 182, 0, 177, 79, 42, 180, 0, 31, 8, 92]
abbrev dktX6_readRain_1 : List UInt8 := dkwX6_readRain_1 ++ dktX6_readRain_2
def dkwX6_readRain_0 : List UInt8 := [16, 58, 5, 42, 180, 0, 31, 8, 46, 104, 96, 60, 42, 180, 0, 31, 27, 42, 4, 16, 30, 182, 0, 170]
abbrev dktX6_readRain_0 : List UInt8 := dkwX6_readRain_0 ++ dktX6_readRain_1
theorem dksX6_readRain_0 : cX6_readRain.data.toList.drop 0 = dktX6_readRain_0 := by decide +kernel
theorem dksX6_readRain_1 : cX6_readRain.data.toList.drop 24 = dktX6_readRain_1 := dk_seg dksX6_readRain_0 24 rfl rfl
theorem dksX6_readRain_2 : cX6_readRain.data.toList.drop 48 = dktX6_readRain_2 := dk_seg dksX6_readRain_1 24 rfl rfl
theorem dX6_readRain_0 : decode cX6_readRain 0 = .ok (.bipush 58, 2) := dk_16 58 (dk_at dksX6_readRain_0 0 rfl rfl)
theorem dX6_readRain_2 : decode cX6_readRain 2 = .ok (.iconst 2, 1) := dk_5 (dk_at dksX6_readRain_0 2 rfl rfl)
theorem dX6_readRain_3 : decode cX6_readRain 3 = .ok (.aload_n 0, 1) := dk_42 (dk_at dksX6_readRain_0 3 rfl rfl)
theorem dX6_readRain_4 : decode cX6_readRain 4 = .ok (.getfield 31, 3) := dk_180 0 31 (dk_at dksX6_readRain_0 4 rfl rfl)
theorem dX6_readRain_7 : decode cX6_readRain 7 = .ok (.iconst 5, 1) := dk_8 (dk_at dksX6_readRain_0 7 rfl rfl)
theorem dX6_readRain_8 : decode cX6_readRain 8 = .ok (.iaload, 1) := dk_46 (dk_at dksX6_readRain_0 8 rfl rfl)
theorem dX6_readRain_9 : decode cX6_readRain 9 = .ok (.imul, 1) := dk_104 (dk_at dksX6_readRain_0 9 rfl rfl)
theorem dX6_readRain_10 : decode cX6_readRain 10 = .ok (.iadd, 1) := dk_96 (dk_at dksX6_readRain_0 10 rfl rfl)
theorem dX6_readRain_11 : decode cX6_readRain 11 = .ok (.istore_n 1, 1) := dk_60 (dk_at dksX6_readRain_0 11 rfl rfl)
theorem dX6_readRain_12 : decode cX6_readRain 12 = .ok (.aload_n 0, 1) := dk_42 (dk_at dksX6_readRain_0 12 rfl rfl)
theorem dX6_readRain_13 : decode cX6_readRain 13 = .ok (.getfield 31, 3) := dk_180 0 31 (dk_at dksX6_readRain_0 13 rfl rfl)
theorem dX6_readRain_16 : decode cX6_readRain 16 = .ok (.iload_n 1, 1) := dk_27 (dk_at dksX6_readRain_0 16 rfl rfl)
theorem dX6_readRain_17 : decode cX6_readRain 17 = .ok (.aload_n 0, 1) := dk_42 (dk_at dksX6_readRain_0 17 rfl rfl)
theorem dX6_readRain_18 : decode cX6_readRain 18 = .ok (.iconst 1, 1) := dk_4 (dk_at dksX6_readRain_0 18 rfl rfl)
theorem dX6_readRain_19 : decode cX6_readRain 19 = .ok (.bipush 30, 2) := dk_16 30 (dk_at dksX6_readRain_0 19 rfl rfl)
theorem dX6_readRain_21 : decode cX6_readRain 21 = .ok (.invokevirtual 170, 3) := dk_182 0 170 (dk_at dksX6_readRain_0 21 rfl rfl)
theorem dX6_readRain_24 : decode cX6_readRain 24 = .ok (.iastore, 1) := dk_79 (dk_at dksX6_readRain_1 0 rfl rfl)
theorem dX6_readRain_25 : decode cX6_readRain 25 = .ok (.aload_n 0, 1) := dk_42 (dk_at dksX6_readRain_1 1 rfl rfl)
theorem dX6_readRain_26 : decode cX6_readRain 26 = .ok (.getfield 31, 3) := dk_180 0 31 (dk_at dksX6_readRain_1 2 rfl rfl)
theorem dX6_readRain_29 : decode cX6_readRain 29 = .ok (.iload_n 1, 1) := dk_27 (dk_at dksX6_readRain_1 5 rfl rfl)
theorem dX6_readRain_30 : decode cX6_readRain 30 = .ok (.iconst 1, 1) := dk_4 (dk_at dksX6_readRain_1 6 rfl rfl)
theorem dX6_readRain_31 : decode cX6_readRain 31 = .ok (.iadd, 1) := dk_96 (dk_at dksX6_readRain_1 7 rfl rfl)
theorem dX6_readRain_32 : decode cX6_readRain 32 = .ok (.aload_n 0, 1) := dk_42 (dk_at dksX6_readRain_1 8 rfl rfl)
theorem dX6_readRain_33 : decode cX6_readRain 33 = .ok (.ldc 194, 2) := dk_18 194 (dk_at dksX6_readRain_1 9 rfl rfl)
theorem dX6_readRain_35 : decode cX6_readRain 35 = .ok (.iconst 0, 1) := dk_3 (dk_at dksX6_readRain_1 11 rfl rfl)
theorem dX6_readRain_36 : decode cX6_readRain 36 = .ok (.bipush 60, 2) := dk_16 60 (dk_at dksX6_readRain_1 12 rfl rfl)
theorem dX6_readRain_38 : decode cX6_readRain 38 = .ok (.invokevirtual 177, 3) := dk_182 0 177 (dk_at dksX6_readRain_1 14 rfl rfl)
theorem dX6_readRain_41 : decode cX6_readRain 41 = .ok (.iastore, 1) := dk_79 (dk_at dksX6_readRain_1 17 rfl rfl)
theorem dX6_readRain_42 : decode cX6_readRain 42 = .ok (.aload_n 0, 1) := dk_42 (dk_at dksX6_readRain_1 18 rfl rfl)
theorem dX6_readRain_43 : decode cX6_readRain 43 = .ok (.getfield 31, 3) := dk_180 0 31 (dk_at dksX6_readRain_1 19 rfl rfl)
theorem dX6_readRain_46 : decode cX6_readRain 46 = .ok (.iconst 5, 1) := dk_8 (dk_at dksX6_readRain_1 22 rfl rfl)
theorem dX6_readRain_47 : decode cX6_readRain 47 = .ok (.dup2, 1) := dk_92 (dk_at dksX6_readRain_1 23 rfl rfl)
theorem dX6_readRain_48 : decode cX6_readRain 48 = .ok (.iaload, 1) := dk_46 (dk_at dksX6_readRain_2 0 rfl rfl)
theorem dX6_readRain_49 : decode cX6_readRain 49 = .ok (.iconst 1, 1) := dk_4 (dk_at dksX6_readRain_2 1 rfl rfl)
theorem dX6_readRain_50 : decode cX6_readRain 50 = .ok (.iadd, 1) := dk_96 (dk_at dksX6_readRain_2 2 rfl rfl)
theorem dX6_readRain_51 : decode cX6_readRain 51 = .ok (.iastore, 1) := dk_79 (dk_at dksX6_readRain_2 3 rfl rfl)
theorem dX6_readRain_52 : decode cX6_readRain 52 = .ok (.return_, 1) := dk_177 (dk_at dksX6_readRain_2 4 rfl rfl)
abbrev cX6_reach : ByteArray := prog_14_method_33_code
def yX6_reach : MethodName := ⟨RX6, "reach", "(II)I"⟩
def dkwX6_reach_1 : List UInt8 := [182, 0, 223, 167, 0, 5, 16, 254, 172]
abbrev dktX6_reach_1 : List UInt8 := dkwX6_reach_1 ++ []
def dkwX6_reach_0 : List UInt8 := [42, 27, 133, 182, 0, 219, 153, 0, 24, 28, 133, 9, 20, 0, 90, 184, 0, 92, 153, 0, 12, 42, 27, 28]
abbrev dktX6_reach_0 : List UInt8 := dkwX6_reach_0 ++ dktX6_reach_1
theorem dksX6_reach_0 : cX6_reach.data.toList.drop 0 = dktX6_reach_0 := by decide +kernel
theorem dksX6_reach_1 : cX6_reach.data.toList.drop 24 = dktX6_reach_1 := dk_seg dksX6_reach_0 24 rfl rfl
theorem dX6_reach_0 : decode cX6_reach 0 = .ok (.aload_n 0, 1) := dk_42 (dk_at dksX6_reach_0 0 rfl rfl)
theorem dX6_reach_1 : decode cX6_reach 1 = .ok (.iload_n 1, 1) := dk_27 (dk_at dksX6_reach_0 1 rfl rfl)
theorem dX6_reach_2 : decode cX6_reach 2 = .ok (.i2l, 1) := dk_133 (dk_at dksX6_reach_0 2 rfl rfl)
theorem dX6_reach_3 : decode cX6_reach 3 = .ok (.invokevirtual 219, 3) := dk_182 0 219 (dk_at dksX6_reach_0 3 rfl rfl)
theorem dX6_reach_6 : decode cX6_reach 6 = .ok (.ifCond .eq 24, 3) := dk_153 0 24 (dk_at dksX6_reach_0 6 rfl rfl)
theorem dX6_reach_9 : decode cX6_reach 9 = .ok (.iload_n 2, 1) := dk_28 (dk_at dksX6_reach_0 9 rfl rfl)
theorem dX6_reach_10 : decode cX6_reach 10 = .ok (.i2l, 1) := dk_133 (dk_at dksX6_reach_0 10 rfl rfl)
theorem dX6_reach_11 : decode cX6_reach 11 = .ok (.lconst 0, 1) := dk_9 (dk_at dksX6_reach_0 11 rfl rfl)
theorem dX6_reach_12 : decode cX6_reach 12 = .ok (.ldc2_w 90, 3) := dk_20 0 90 (dk_at dksX6_reach_0 12 rfl rfl)
theorem dX6_reach_15 : decode cX6_reach 15 = .ok (.invokestatic 92, 3) := dk_184 0 92 (dk_at dksX6_reach_0 15 rfl rfl)
theorem dX6_reach_18 : decode cX6_reach 18 = .ok (.ifCond .eq 12, 3) := dk_153 0 12 (dk_at dksX6_reach_0 18 rfl rfl)
theorem dX6_reach_21 : decode cX6_reach 21 = .ok (.aload_n 0, 1) := dk_42 (dk_at dksX6_reach_0 21 rfl rfl)
theorem dX6_reach_22 : decode cX6_reach 22 = .ok (.iload_n 1, 1) := dk_27 (dk_at dksX6_reach_0 22 rfl rfl)
theorem dX6_reach_23 : decode cX6_reach 23 = .ok (.iload_n 2, 1) := dk_28 (dk_at dksX6_reach_0 23 rfl rfl)
theorem dX6_reach_24 : decode cX6_reach 24 = .ok (.invokevirtual 223, 3) := dk_182 0 223 (dk_at dksX6_reach_1 0 rfl rfl)
theorem dX6_reach_27 : decode cX6_reach 27 = .ok (.goto 5, 3) := dk_167 0 5 (dk_at dksX6_reach_1 3 rfl rfl)
theorem dX6_reach_30 : decode cX6_reach 30 = .ok (.bipush (-2), 2) := dk_16 254 (dk_at dksX6_reach_1 6 rfl rfl)
theorem dX6_reach_32 : decode cX6_reach 32 = .ok (.ireturn, 1) := dk_172 (dk_at dksX6_reach_1 8 rfl rfl)
abbrev cX6_isReach : ByteArray := prog_14_method_9_code
def yX6_isReach : MethodName := ⟨RX6, "isReach", "(J)Z"⟩
def dkwX6_isReach_0 : List UInt8 := [31, 9, 42, 180, 0, 9, 6, 46, 4, 100, 133, 184, 0, 92, 172]
abbrev dktX6_isReach_0 : List UInt8 := dkwX6_isReach_0 ++ []
theorem dksX6_isReach_0 : cX6_isReach.data.toList.drop 0 = dktX6_isReach_0 := by decide +kernel
theorem dX6_isReach_0 : decode cX6_isReach 0 = .ok (.lload_n 1, 1) := dk_31 (dk_at dksX6_isReach_0 0 rfl rfl)
theorem dX6_isReach_1 : decode cX6_isReach 1 = .ok (.lconst 0, 1) := dk_9 (dk_at dksX6_isReach_0 1 rfl rfl)
theorem dX6_isReach_2 : decode cX6_isReach 2 = .ok (.aload_n 0, 1) := dk_42 (dk_at dksX6_isReach_0 2 rfl rfl)
theorem dX6_isReach_3 : decode cX6_isReach 3 = .ok (.getfield 9, 3) := dk_180 0 9 (dk_at dksX6_isReach_0 3 rfl rfl)
theorem dX6_isReach_6 : decode cX6_isReach 6 = .ok (.iconst 3, 1) := dk_6 (dk_at dksX6_isReach_0 6 rfl rfl)
theorem dX6_isReach_7 : decode cX6_isReach 7 = .ok (.iaload, 1) := dk_46 (dk_at dksX6_isReach_0 7 rfl rfl)
theorem dX6_isReach_8 : decode cX6_isReach 8 = .ok (.iconst 1, 1) := dk_4 (dk_at dksX6_isReach_0 8 rfl rfl)
theorem dX6_isReach_9 : decode cX6_isReach 9 = .ok (.isub, 1) := dk_100 (dk_at dksX6_isReach_0 9 rfl rfl)
theorem dX6_isReach_10 : decode cX6_isReach 10 = .ok (.i2l, 1) := dk_133 (dk_at dksX6_isReach_0 10 rfl rfl)
theorem dX6_isReach_11 : decode cX6_isReach 11 = .ok (.invokestatic 92, 3) := dk_184 0 92 (dk_at dksX6_isReach_0 11 rfl rfl)
theorem dX6_isReach_14 : decode cX6_isReach 14 = .ok (.ireturn, 1) := dk_172 (dk_at dksX6_isReach_0 14 rfl rfl)
abbrev cX6_of : ByteArray := prog_14_method_12_code
def yX6_of : MethodName := ⟨RX6, "of", "(II)I"⟩
def dkwX6_of_0 : List UInt8 := [42, 180, 0, 9, 16, 8, 6, 27, 104, 96, 28, 96, 46, 172]
abbrev dktX6_of_0 : List UInt8 := dkwX6_of_0 ++ []
theorem dksX6_of_0 : cX6_of.data.toList.drop 0 = dktX6_of_0 := by decide +kernel
theorem dX6_of_0 : decode cX6_of 0 = .ok (.aload_n 0, 1) := dk_42 (dk_at dksX6_of_0 0 rfl rfl)
theorem dX6_of_1 : decode cX6_of 1 = .ok (.getfield 9, 3) := dk_180 0 9 (dk_at dksX6_of_0 1 rfl rfl)
theorem dX6_of_4 : decode cX6_of 4 = .ok (.bipush 8, 2) := dk_16 8 (dk_at dksX6_of_0 4 rfl rfl)
theorem dX6_of_6 : decode cX6_of 6 = .ok (.iconst 3, 1) := dk_6 (dk_at dksX6_of_0 6 rfl rfl)
theorem dX6_of_7 : decode cX6_of 7 = .ok (.iload_n 1, 1) := dk_27 (dk_at dksX6_of_0 7 rfl rfl)
theorem dX6_of_8 : decode cX6_of 8 = .ok (.imul, 1) := dk_104 (dk_at dksX6_of_0 8 rfl rfl)
theorem dX6_of_9 : decode cX6_of 9 = .ok (.iadd, 1) := dk_96 (dk_at dksX6_of_0 9 rfl rfl)
theorem dX6_of_10 : decode cX6_of 10 = .ok (.iload_n 2, 1) := dk_28 (dk_at dksX6_of_0 10 rfl rfl)
theorem dX6_of_11 : decode cX6_of 11 = .ok (.iadd, 1) := dk_96 (dk_at dksX6_of_0 11 rfl rfl)
theorem dX6_of_12 : decode cX6_of 12 = .ok (.iaload, 1) := dk_46 (dk_at dksX6_of_0 12 rfl rfl)
theorem dX6_of_13 : decode cX6_of 13 = .ok (.ireturn, 1) := dk_172 (dk_at dksX6_of_0 13 rfl rfl)
abbrev cX6_rain : ByteArray := prog_14_method_34_code
def yX6_rain : MethodName := ⟨RX6, "rain", "(II)I"⟩
def dkwX6_rain_2 : List UInt8 := [172]
abbrev dktX6_rain_2 : List UInt8 := dkwX6_rain_2 ++ []
def dkwX6_rain_1 : List UInt8 := [184, 0, 92, 153, 0, 19, 42, 180, 0, 9, 16, 58, 5, 27, 104, 96, 28, 96, 46, 167, 0, 5, 16, 254]
abbrev dktX6_rain_1 : List UInt8 := dkwX6_rain_1 ++ dktX6_rain_2
def dkwX6_rain_0 : List UInt8 := [27, 133, 9, 42, 180, 0, 9, 8, 46, 4, 100, 133, 184, 0, 92, 153, 0, 29, 28, 133, 9, 10]
abbrev dktX6_rain_0 : List UInt8 := dkwX6_rain_0 ++ dktX6_rain_1
theorem dksX6_rain_0 : cX6_rain.data.toList.drop 0 = dktX6_rain_0 := by decide +kernel
theorem dksX6_rain_1 : cX6_rain.data.toList.drop 22 = dktX6_rain_1 := dk_seg dksX6_rain_0 22 rfl rfl
theorem dksX6_rain_2 : cX6_rain.data.toList.drop 46 = dktX6_rain_2 := dk_seg dksX6_rain_1 24 rfl rfl
theorem dX6_rain_0 : decode cX6_rain 0 = .ok (.iload_n 1, 1) := dk_27 (dk_at dksX6_rain_0 0 rfl rfl)
theorem dX6_rain_1 : decode cX6_rain 1 = .ok (.i2l, 1) := dk_133 (dk_at dksX6_rain_0 1 rfl rfl)
theorem dX6_rain_2 : decode cX6_rain 2 = .ok (.lconst 0, 1) := dk_9 (dk_at dksX6_rain_0 2 rfl rfl)
theorem dX6_rain_3 : decode cX6_rain 3 = .ok (.aload_n 0, 1) := dk_42 (dk_at dksX6_rain_0 3 rfl rfl)
theorem dX6_rain_4 : decode cX6_rain 4 = .ok (.getfield 9, 3) := dk_180 0 9 (dk_at dksX6_rain_0 4 rfl rfl)
theorem dX6_rain_7 : decode cX6_rain 7 = .ok (.iconst 5, 1) := dk_8 (dk_at dksX6_rain_0 7 rfl rfl)
theorem dX6_rain_8 : decode cX6_rain 8 = .ok (.iaload, 1) := dk_46 (dk_at dksX6_rain_0 8 rfl rfl)
theorem dX6_rain_9 : decode cX6_rain 9 = .ok (.iconst 1, 1) := dk_4 (dk_at dksX6_rain_0 9 rfl rfl)
theorem dX6_rain_10 : decode cX6_rain 10 = .ok (.isub, 1) := dk_100 (dk_at dksX6_rain_0 10 rfl rfl)
theorem dX6_rain_11 : decode cX6_rain 11 = .ok (.i2l, 1) := dk_133 (dk_at dksX6_rain_0 11 rfl rfl)
theorem dX6_rain_12 : decode cX6_rain 12 = .ok (.invokestatic 92, 3) := dk_184 0 92 (dk_at dksX6_rain_0 12 rfl rfl)
theorem dX6_rain_15 : decode cX6_rain 15 = .ok (.ifCond .eq 29, 3) := dk_153 0 29 (dk_at dksX6_rain_0 15 rfl rfl)
theorem dX6_rain_18 : decode cX6_rain 18 = .ok (.iload_n 2, 1) := dk_28 (dk_at dksX6_rain_0 18 rfl rfl)
theorem dX6_rain_19 : decode cX6_rain 19 = .ok (.i2l, 1) := dk_133 (dk_at dksX6_rain_0 19 rfl rfl)
theorem dX6_rain_20 : decode cX6_rain 20 = .ok (.lconst 0, 1) := dk_9 (dk_at dksX6_rain_0 20 rfl rfl)
theorem dX6_rain_21 : decode cX6_rain 21 = .ok (.lconst 1, 1) := dk_10 (dk_at dksX6_rain_0 21 rfl rfl)
theorem dX6_rain_22 : decode cX6_rain 22 = .ok (.invokestatic 92, 3) := dk_184 0 92 (dk_at dksX6_rain_1 0 rfl rfl)
theorem dX6_rain_25 : decode cX6_rain 25 = .ok (.ifCond .eq 19, 3) := dk_153 0 19 (dk_at dksX6_rain_1 3 rfl rfl)
theorem dX6_rain_28 : decode cX6_rain 28 = .ok (.aload_n 0, 1) := dk_42 (dk_at dksX6_rain_1 6 rfl rfl)
theorem dX6_rain_29 : decode cX6_rain 29 = .ok (.getfield 9, 3) := dk_180 0 9 (dk_at dksX6_rain_1 7 rfl rfl)
theorem dX6_rain_32 : decode cX6_rain 32 = .ok (.bipush 58, 2) := dk_16 58 (dk_at dksX6_rain_1 10 rfl rfl)
theorem dX6_rain_34 : decode cX6_rain 34 = .ok (.iconst 2, 1) := dk_5 (dk_at dksX6_rain_1 12 rfl rfl)
theorem dX6_rain_35 : decode cX6_rain 35 = .ok (.iload_n 1, 1) := dk_27 (dk_at dksX6_rain_1 13 rfl rfl)
theorem dX6_rain_36 : decode cX6_rain 36 = .ok (.imul, 1) := dk_104 (dk_at dksX6_rain_1 14 rfl rfl)
theorem dX6_rain_37 : decode cX6_rain 37 = .ok (.iadd, 1) := dk_96 (dk_at dksX6_rain_1 15 rfl rfl)
theorem dX6_rain_38 : decode cX6_rain 38 = .ok (.iload_n 2, 1) := dk_28 (dk_at dksX6_rain_1 16 rfl rfl)
theorem dX6_rain_39 : decode cX6_rain 39 = .ok (.iadd, 1) := dk_96 (dk_at dksX6_rain_1 17 rfl rfl)
theorem dX6_rain_40 : decode cX6_rain 40 = .ok (.iaload, 1) := dk_46 (dk_at dksX6_rain_1 18 rfl rfl)
theorem dX6_rain_41 : decode cX6_rain 41 = .ok (.goto 5, 3) := dk_167 0 5 (dk_at dksX6_rain_1 19 rfl rfl)
theorem dX6_rain_44 : decode cX6_rain 44 = .ok (.bipush (-2), 2) := dk_16 254 (dk_at dksX6_rain_1 22 rfl rfl)
theorem dX6_rain_46 : decode cX6_rain 46 = .ok (.ireturn, 1) := dk_172 (dk_at dksX6_rain_2 0 rfl rfl)
abbrev cX6_join : ByteArray := prog_14_method_35_code
def yX6_join : MethodName := ⟨RX6, "join", "(II)I"⟩
def dkwX6_join_1 : List UInt8 := [182, 0, 232, 167, 0, 5, 16, 254, 172]
abbrev dktX6_join_1 : List UInt8 := dkwX6_join_1 ++ []
def dkwX6_join_0 : List UInt8 := [42, 27, 182, 0, 226, 153, 0, 24, 28, 133, 9, 20, 0, 230, 184, 0, 92, 153, 0, 12, 42, 27, 28]
abbrev dktX6_join_0 : List UInt8 := dkwX6_join_0 ++ dktX6_join_1
theorem dksX6_join_0 : cX6_join.data.toList.drop 0 = dktX6_join_0 := by decide +kernel
theorem dksX6_join_1 : cX6_join.data.toList.drop 23 = dktX6_join_1 := dk_seg dksX6_join_0 23 rfl rfl
theorem dX6_join_0 : decode cX6_join 0 = .ok (.aload_n 0, 1) := dk_42 (dk_at dksX6_join_0 0 rfl rfl)
theorem dX6_join_1 : decode cX6_join 1 = .ok (.iload_n 1, 1) := dk_27 (dk_at dksX6_join_0 1 rfl rfl)
theorem dX6_join_2 : decode cX6_join 2 = .ok (.invokevirtual 226, 3) := dk_182 0 226 (dk_at dksX6_join_0 2 rfl rfl)
theorem dX6_join_5 : decode cX6_join 5 = .ok (.ifCond .eq 24, 3) := dk_153 0 24 (dk_at dksX6_join_0 5 rfl rfl)
theorem dX6_join_8 : decode cX6_join 8 = .ok (.iload_n 2, 1) := dk_28 (dk_at dksX6_join_0 8 rfl rfl)
theorem dX6_join_9 : decode cX6_join 9 = .ok (.i2l, 1) := dk_133 (dk_at dksX6_join_0 9 rfl rfl)
theorem dX6_join_10 : decode cX6_join 10 = .ok (.lconst 0, 1) := dk_9 (dk_at dksX6_join_0 10 rfl rfl)
theorem dX6_join_11 : decode cX6_join 11 = .ok (.ldc2_w 230, 3) := dk_20 0 230 (dk_at dksX6_join_0 11 rfl rfl)
theorem dX6_join_14 : decode cX6_join 14 = .ok (.invokestatic 92, 3) := dk_184 0 92 (dk_at dksX6_join_0 14 rfl rfl)
theorem dX6_join_17 : decode cX6_join 17 = .ok (.ifCond .eq 12, 3) := dk_153 0 12 (dk_at dksX6_join_0 17 rfl rfl)
theorem dX6_join_20 : decode cX6_join 20 = .ok (.aload_n 0, 1) := dk_42 (dk_at dksX6_join_0 20 rfl rfl)
theorem dX6_join_21 : decode cX6_join 21 = .ok (.iload_n 1, 1) := dk_27 (dk_at dksX6_join_0 21 rfl rfl)
theorem dX6_join_22 : decode cX6_join 22 = .ok (.iload_n 2, 1) := dk_28 (dk_at dksX6_join_0 22 rfl rfl)
theorem dX6_join_23 : decode cX6_join 23 = .ok (.invokevirtual 232, 3) := dk_182 0 232 (dk_at dksX6_join_1 0 rfl rfl)
theorem dX6_join_26 : decode cX6_join 26 = .ok (.goto 5, 3) := dk_167 0 5 (dk_at dksX6_join_1 3 rfl rfl)
theorem dX6_join_29 : decode cX6_join 29 = .ok (.bipush (-2), 2) := dk_16 254 (dk_at dksX6_join_1 6 rfl rfl)
theorem dX6_join_31 : decode cX6_join 31 = .ok (.ireturn, 1) := dk_172 (dk_at dksX6_join_1 8 rfl rfl)
abbrev cX6_isJoin : ByteArray := prog_14_method_10_code
def yX6_isJoin : MethodName := ⟨RX6, "isJoin", "(I)Z"⟩
def dkwX6_isJoin_0 : List UInt8 := [27, 133, 9, 42, 180, 0, 9, 7, 46, 4, 100, 133, 184, 0, 92, 172]
abbrev dktX6_isJoin_0 : List UInt8 := dkwX6_isJoin_0 ++ []
theorem dksX6_isJoin_0 : cX6_isJoin.data.toList.drop 0 = dktX6_isJoin_0 := by decide +kernel
theorem dX6_isJoin_0 : decode cX6_isJoin 0 = .ok (.iload_n 1, 1) := dk_27 (dk_at dksX6_isJoin_0 0 rfl rfl)
theorem dX6_isJoin_1 : decode cX6_isJoin 1 = .ok (.i2l, 1) := dk_133 (dk_at dksX6_isJoin_0 1 rfl rfl)
theorem dX6_isJoin_2 : decode cX6_isJoin 2 = .ok (.lconst 0, 1) := dk_9 (dk_at dksX6_isJoin_0 2 rfl rfl)
theorem dX6_isJoin_3 : decode cX6_isJoin 3 = .ok (.aload_n 0, 1) := dk_42 (dk_at dksX6_isJoin_0 3 rfl rfl)
theorem dX6_isJoin_4 : decode cX6_isJoin 4 = .ok (.getfield 9, 3) := dk_180 0 9 (dk_at dksX6_isJoin_0 4 rfl rfl)
theorem dX6_isJoin_7 : decode cX6_isJoin 7 = .ok (.iconst 4, 1) := dk_7 (dk_at dksX6_isJoin_0 7 rfl rfl)
theorem dX6_isJoin_8 : decode cX6_isJoin 8 = .ok (.iaload, 1) := dk_46 (dk_at dksX6_isJoin_0 8 rfl rfl)
theorem dX6_isJoin_9 : decode cX6_isJoin 9 = .ok (.iconst 1, 1) := dk_4 (dk_at dksX6_isJoin_0 9 rfl rfl)
theorem dX6_isJoin_10 : decode cX6_isJoin 10 = .ok (.isub, 1) := dk_100 (dk_at dksX6_isJoin_0 10 rfl rfl)
theorem dX6_isJoin_11 : decode cX6_isJoin 11 = .ok (.i2l, 1) := dk_133 (dk_at dksX6_isJoin_0 11 rfl rfl)
theorem dX6_isJoin_12 : decode cX6_isJoin 12 = .ok (.invokestatic 92, 3) := dk_184 0 92 (dk_at dksX6_isJoin_0 12 rfl rfl)
theorem dX6_isJoin_15 : decode cX6_isJoin 15 = .ok (.ireturn, 1) := dk_172 (dk_at dksX6_isJoin_0 15 rfl rfl)
abbrev cX6_ofJoin : ByteArray := prog_14_method_13_code
def yX6_ofJoin : MethodName := ⟨RX6, "ofJoin", "(II)I"⟩
def dkwX6_ofJoin_0 : List UInt8 := [42, 180, 0, 9, 16, 38, 7, 27, 104, 96, 28, 96, 46, 172]
abbrev dktX6_ofJoin_0 : List UInt8 := dkwX6_ofJoin_0 ++ []
theorem dksX6_ofJoin_0 : cX6_ofJoin.data.toList.drop 0 = dktX6_ofJoin_0 := by decide +kernel
theorem dX6_ofJoin_0 : decode cX6_ofJoin 0 = .ok (.aload_n 0, 1) := dk_42 (dk_at dksX6_ofJoin_0 0 rfl rfl)
theorem dX6_ofJoin_1 : decode cX6_ofJoin 1 = .ok (.getfield 9, 3) := dk_180 0 9 (dk_at dksX6_ofJoin_0 1 rfl rfl)
theorem dX6_ofJoin_4 : decode cX6_ofJoin 4 = .ok (.bipush 38, 2) := dk_16 38 (dk_at dksX6_ofJoin_0 4 rfl rfl)
theorem dX6_ofJoin_6 : decode cX6_ofJoin 6 = .ok (.iconst 4, 1) := dk_7 (dk_at dksX6_ofJoin_0 6 rfl rfl)
theorem dX6_ofJoin_7 : decode cX6_ofJoin 7 = .ok (.iload_n 1, 1) := dk_27 (dk_at dksX6_ofJoin_0 7 rfl rfl)
theorem dX6_ofJoin_8 : decode cX6_ofJoin 8 = .ok (.imul, 1) := dk_104 (dk_at dksX6_ofJoin_0 8 rfl rfl)
theorem dX6_ofJoin_9 : decode cX6_ofJoin 9 = .ok (.iadd, 1) := dk_96 (dk_at dksX6_ofJoin_0 9 rfl rfl)
theorem dX6_ofJoin_10 : decode cX6_ofJoin 10 = .ok (.iload_n 2, 1) := dk_28 (dk_at dksX6_ofJoin_0 10 rfl rfl)
theorem dX6_ofJoin_11 : decode cX6_ofJoin 11 = .ok (.iadd, 1) := dk_96 (dk_at dksX6_ofJoin_0 11 rfl rfl)
theorem dX6_ofJoin_12 : decode cX6_ofJoin 12 = .ok (.iaload, 1) := dk_46 (dk_at dksX6_ofJoin_0 12 rfl rfl)
theorem dX6_ofJoin_13 : decode cX6_ofJoin 13 = .ok (.ireturn, 1) := dk_172 (dk_at dksX6_ofJoin_0 13 rfl rfl)
abbrev cX6_level : ByteArray := prog_14_method_40_code
def yX6_level : MethodName := ⟨RX6, "level", "(I)I"⟩
def dkwX6_level_1 : List UInt8 := [16, 254, 172]
abbrev dktX6_level_1 : List UInt8 := dkwX6_level_1 ++ []
def dkwX6_level_0 : List UInt8 := [42, 182, 0, 253, 153, 0, 20, 27, 133, 184, 1, 0, 153, 0, 12, 42, 180, 0, 37, 27, 46, 167, 0, 5]
abbrev dktX6_level_0 : List UInt8 := dkwX6_level_0 ++ dktX6_level_1
theorem dksX6_level_0 : cX6_level.data.toList.drop 0 = dktX6_level_0 := by decide +kernel
theorem dksX6_level_1 : cX6_level.data.toList.drop 24 = dktX6_level_1 := dk_seg dksX6_level_0 24 rfl rfl
theorem dX6_level_0 : decode cX6_level 0 = .ok (.aload_n 0, 1) := dk_42 (dk_at dksX6_level_0 0 rfl rfl)
theorem dX6_level_1 : decode cX6_level 1 = .ok (.invokevirtual 253, 3) := dk_182 0 253 (dk_at dksX6_level_0 1 rfl rfl)
theorem dX6_level_4 : decode cX6_level 4 = .ok (.ifCond .eq 20, 3) := dk_153 0 20 (dk_at dksX6_level_0 4 rfl rfl)
theorem dX6_level_7 : decode cX6_level 7 = .ok (.iload_n 1, 1) := dk_27 (dk_at dksX6_level_0 7 rfl rfl)
theorem dX6_level_8 : decode cX6_level 8 = .ok (.i2l, 1) := dk_133 (dk_at dksX6_level_0 8 rfl rfl)
theorem dX6_level_9 : decode cX6_level 9 = .ok (.invokestatic 256, 3) := dk_184 1 0 (dk_at dksX6_level_0 9 rfl rfl)
theorem dX6_level_12 : decode cX6_level 12 = .ok (.ifCond .eq 12, 3) := dk_153 0 12 (dk_at dksX6_level_0 12 rfl rfl)
theorem dX6_level_15 : decode cX6_level 15 = .ok (.aload_n 0, 1) := dk_42 (dk_at dksX6_level_0 15 rfl rfl)
theorem dX6_level_16 : decode cX6_level 16 = .ok (.getfield 37, 3) := dk_180 0 37 (dk_at dksX6_level_0 16 rfl rfl)
theorem dX6_level_19 : decode cX6_level 19 = .ok (.iload_n 1, 1) := dk_27 (dk_at dksX6_level_0 19 rfl rfl)
theorem dX6_level_20 : decode cX6_level 20 = .ok (.iaload, 1) := dk_46 (dk_at dksX6_level_0 20 rfl rfl)
theorem dX6_level_21 : decode cX6_level 21 = .ok (.goto 5, 3) := dk_167 0 5 (dk_at dksX6_level_0 21 rfl rfl)
theorem dX6_level_24 : decode cX6_level 24 = .ok (.bipush (-2), 2) := dk_16 254 (dk_at dksX6_level_1 0 rfl rfl)
theorem dX6_level_26 : decode cX6_level 26 = .ok (.ireturn, 1) := dk_172 (dk_at dksX6_level_1 2 rfl rfl)
abbrev cX6_asksRivers : ByteArray := prog_14_method_38_code
def yX6_asksRivers : MethodName := ⟨RX6, "asksRivers", "()Z"⟩
def dkwX6_asksRivers_0 : List UInt8 := [42, 182, 0, 247, 42, 182, 0, 250, 172]
abbrev dktX6_asksRivers_0 : List UInt8 := dkwX6_asksRivers_0 ++ []
theorem dksX6_asksRivers_0 : cX6_asksRivers.data.toList.drop 0 = dktX6_asksRivers_0 := by decide +kernel
theorem dX6_asksRivers_0 : decode cX6_asksRivers 0 = .ok (.aload_n 0, 1) := dk_42 (dk_at dksX6_asksRivers_0 0 rfl rfl)
theorem dX6_asksRivers_1 : decode cX6_asksRivers 1 = .ok (.invokevirtual 247, 3) := dk_182 0 247 (dk_at dksX6_asksRivers_0 1 rfl rfl)
theorem dX6_asksRivers_4 : decode cX6_asksRivers 4 = .ok (.aload_n 0, 1) := dk_42 (dk_at dksX6_asksRivers_0 4 rfl rfl)
theorem dX6_asksRivers_5 : decode cX6_asksRivers 5 = .ok (.invokevirtual 250, 3) := dk_182 0 250 (dk_at dksX6_asksRivers_0 5 rfl rfl)
theorem dX6_asksRivers_8 : decode cX6_asksRivers 8 = .ok (.ireturn, 1) := dk_172 (dk_at dksX6_asksRivers_0 8 rfl rfl)
abbrev cX6_asItIs : ByteArray := prog_14_method_37_code
def yX6_asItIs : MethodName := ⟨RX6, "asItIs", "()V"⟩
def dkwX6_asItIs_9 : List UInt8 := [181, 0, 238, 132, 1, 1, 167, 255, 165, 42, 182, 0, 244, 177]
abbrev dktX6_asItIs_9 : List UInt8 := dkwX6_asItIs_9 ++ []
def dkwX6_asItIs_8 : List UInt8 := [108, 120, 128, 181, 0, 238, 167, 0, 19, 42, 89, 180, 0, 238, 4, 28, 5, 108, 120, 2, 130, 126]
abbrev dktX6_asItIs_8 : List UInt8 := dkwX6_asItIs_8 ++ dktX6_asItIs_9
def dkwX6_asItIs_7 : List UInt8 := [28, 16, 100, 112, 96, 79, 167, 0, 43, 28, 5, 112, 4, 160, 0, 20, 42, 89, 180, 0, 238, 4, 28, 5]
abbrev dktX6_asItIs_7 : List UInt8 := dkwX6_asItIs_7 ++ dktX6_asItIs_8
def dkwX6_asItIs_6 : List UInt8 := [16, 68, 27, 96, 46, 61, 28, 16, 100, 161, 0, 24, 42, 180, 0, 34, 28, 16, 100, 108, 4, 100, 92, 46]
abbrev dktX6_asItIs_6 : List UInt8 := dkwX6_asItIs_6 ++ dktX6_asItIs_7
def dkwX6_asItIs_5 : List UInt8 := [132, 1, 1, 167, 255, 219, 3, 60, 27, 42, 180, 0, 9, 16, 6, 46, 162, 0, 86, 42, 180, 0, 9]
abbrev dktX6_asItIs_5 : List UInt8 := dkwX6_asItIs_5 ++ dktX6_asItIs_6
def dkwX6_asItIs_4 : List UInt8 := [180, 0, 43, 27, 42, 27, 5, 182, 0, 232, 79, 42, 180, 0, 46, 27, 42, 27, 6, 182, 0, 232, 79]
abbrev dktX6_asItIs_4 : List UInt8 := dkwX6_asItIs_4 ++ dktX6_asItIs_5
def dkwX6_asItIs_3 : List UInt8 := [46, 96, 79, 132, 1, 1, 167, 255, 211, 3, 60, 27, 42, 180, 0, 9, 7, 46, 162, 0, 33, 42]
abbrev dktX6_asItIs_3 : List UInt8 := dkwX6_asItIs_3 ++ dktX6_asItIs_4
def dkwX6_asItIs_2 : List UInt8 := [180, 0, 9, 16, 58, 5, 27, 104, 96, 4, 96, 46, 92, 46, 42, 180, 0, 9, 16, 58, 5, 27, 104, 96]
abbrev dktX6_asItIs_2 : List UInt8 := dkwX6_asItIs_2 ++ dktX6_asItIs_3
def dkwX6_asItIs_1 : List UInt8 := [79, 132, 1, 1, 167, 255, 240, 3, 60, 27, 42, 180, 0, 9, 8, 46, 162, 0, 41, 42, 180, 0, 34, 42]
abbrev dktX6_asItIs_1 : List UInt8 := dkwX6_asItIs_1 ++ dktX6_asItIs_2
def dkwX6_asItIs_0 : List UInt8 := [42, 3, 181, 0, 238, 42, 3, 181, 0, 241, 3, 60, 27, 16, 60, 163, 0, 16, 42, 180, 0, 34, 27, 3]
abbrev dktX6_asItIs_0 : List UInt8 := dkwX6_asItIs_0 ++ dktX6_asItIs_1
theorem dksX6_asItIs_0 : cX6_asItIs.data.toList.drop 0 = dktX6_asItIs_0 := by decide +kernel
theorem dksX6_asItIs_1 : cX6_asItIs.data.toList.drop 24 = dktX6_asItIs_1 := dk_seg dksX6_asItIs_0 24 rfl rfl
theorem dksX6_asItIs_2 : cX6_asItIs.data.toList.drop 48 = dktX6_asItIs_2 := dk_seg dksX6_asItIs_1 24 rfl rfl
theorem dksX6_asItIs_3 : cX6_asItIs.data.toList.drop 72 = dktX6_asItIs_3 := dk_seg dksX6_asItIs_2 24 rfl rfl
theorem dksX6_asItIs_4 : cX6_asItIs.data.toList.drop 94 = dktX6_asItIs_4 := dk_seg dksX6_asItIs_3 22 rfl rfl
theorem dksX6_asItIs_5 : cX6_asItIs.data.toList.drop 117 = dktX6_asItIs_5 := dk_seg dksX6_asItIs_4 23 rfl rfl
theorem dksX6_asItIs_6 : cX6_asItIs.data.toList.drop 140 = dktX6_asItIs_6 := dk_seg dksX6_asItIs_5 23 rfl rfl
theorem dksX6_asItIs_7 : cX6_asItIs.data.toList.drop 164 = dktX6_asItIs_7 := dk_seg dksX6_asItIs_6 24 rfl rfl
theorem dksX6_asItIs_8 : cX6_asItIs.data.toList.drop 188 = dktX6_asItIs_8 := dk_seg dksX6_asItIs_7 24 rfl rfl
theorem dksX6_asItIs_9 : cX6_asItIs.data.toList.drop 210 = dktX6_asItIs_9 := dk_seg dksX6_asItIs_8 22 rfl rfl
theorem dX6_asItIs_0 : decode cX6_asItIs 0 = .ok (.aload_n 0, 1) := dk_42 (dk_at dksX6_asItIs_0 0 rfl rfl)
theorem dX6_asItIs_1 : decode cX6_asItIs 1 = .ok (.iconst 0, 1) := dk_3 (dk_at dksX6_asItIs_0 1 rfl rfl)
theorem dX6_asItIs_2 : decode cX6_asItIs 2 = .ok (.putfield 238, 3) := dk_181 0 238 (dk_at dksX6_asItIs_0 2 rfl rfl)
theorem dX6_asItIs_5 : decode cX6_asItIs 5 = .ok (.aload_n 0, 1) := dk_42 (dk_at dksX6_asItIs_0 5 rfl rfl)
theorem dX6_asItIs_6 : decode cX6_asItIs 6 = .ok (.iconst 0, 1) := dk_3 (dk_at dksX6_asItIs_0 6 rfl rfl)
theorem dX6_asItIs_7 : decode cX6_asItIs 7 = .ok (.putfield 241, 3) := dk_181 0 241 (dk_at dksX6_asItIs_0 7 rfl rfl)
theorem dX6_asItIs_10 : decode cX6_asItIs 10 = .ok (.iconst 0, 1) := dk_3 (dk_at dksX6_asItIs_0 10 rfl rfl)
theorem dX6_asItIs_11 : decode cX6_asItIs 11 = .ok (.istore_n 1, 1) := dk_60 (dk_at dksX6_asItIs_0 11 rfl rfl)
theorem dX6_asItIs_12 : decode cX6_asItIs 12 = .ok (.iload_n 1, 1) := dk_27 (dk_at dksX6_asItIs_0 12 rfl rfl)
theorem dX6_asItIs_13 : decode cX6_asItIs 13 = .ok (.bipush 60, 2) := dk_16 60 (dk_at dksX6_asItIs_0 13 rfl rfl)
theorem dX6_asItIs_15 : decode cX6_asItIs 15 = .ok (.if_icmp .gt 16, 3) := dk_163 0 16 (dk_at dksX6_asItIs_0 15 rfl rfl)
theorem dX6_asItIs_18 : decode cX6_asItIs 18 = .ok (.aload_n 0, 1) := dk_42 (dk_at dksX6_asItIs_0 18 rfl rfl)
theorem dX6_asItIs_19 : decode cX6_asItIs 19 = .ok (.getfield 34, 3) := dk_180 0 34 (dk_at dksX6_asItIs_0 19 rfl rfl)
theorem dX6_asItIs_22 : decode cX6_asItIs 22 = .ok (.iload_n 1, 1) := dk_27 (dk_at dksX6_asItIs_0 22 rfl rfl)
theorem dX6_asItIs_23 : decode cX6_asItIs 23 = .ok (.iconst 0, 1) := dk_3 (dk_at dksX6_asItIs_0 23 rfl rfl)
theorem dX6_asItIs_24 : decode cX6_asItIs 24 = .ok (.iastore, 1) := dk_79 (dk_at dksX6_asItIs_1 0 rfl rfl)
theorem dX6_asItIs_25 : decode cX6_asItIs 25 = .ok (.iinc 1 1, 3) := dk_132 1 1 (dk_at dksX6_asItIs_1 1 rfl rfl)
theorem dX6_asItIs_28 : decode cX6_asItIs 28 = .ok (.goto (-16), 3) := dk_167 255 240 (dk_at dksX6_asItIs_1 4 rfl rfl)
theorem dX6_asItIs_31 : decode cX6_asItIs 31 = .ok (.iconst 0, 1) := dk_3 (dk_at dksX6_asItIs_1 7 rfl rfl)
theorem dX6_asItIs_32 : decode cX6_asItIs 32 = .ok (.istore_n 1, 1) := dk_60 (dk_at dksX6_asItIs_1 8 rfl rfl)
theorem dX6_asItIs_33 : decode cX6_asItIs 33 = .ok (.iload_n 1, 1) := dk_27 (dk_at dksX6_asItIs_1 9 rfl rfl)
theorem dX6_asItIs_34 : decode cX6_asItIs 34 = .ok (.aload_n 0, 1) := dk_42 (dk_at dksX6_asItIs_1 10 rfl rfl)
theorem dX6_asItIs_35 : decode cX6_asItIs 35 = .ok (.getfield 9, 3) := dk_180 0 9 (dk_at dksX6_asItIs_1 11 rfl rfl)
theorem dX6_asItIs_38 : decode cX6_asItIs 38 = .ok (.iconst 5, 1) := dk_8 (dk_at dksX6_asItIs_1 14 rfl rfl)
theorem dX6_asItIs_39 : decode cX6_asItIs 39 = .ok (.iaload, 1) := dk_46 (dk_at dksX6_asItIs_1 15 rfl rfl)
theorem dX6_asItIs_40 : decode cX6_asItIs 40 = .ok (.if_icmp .ge 41, 3) := dk_162 0 41 (dk_at dksX6_asItIs_1 16 rfl rfl)
theorem dX6_asItIs_43 : decode cX6_asItIs 43 = .ok (.aload_n 0, 1) := dk_42 (dk_at dksX6_asItIs_1 19 rfl rfl)
theorem dX6_asItIs_44 : decode cX6_asItIs 44 = .ok (.getfield 34, 3) := dk_180 0 34 (dk_at dksX6_asItIs_1 20 rfl rfl)
theorem dX6_asItIs_47 : decode cX6_asItIs 47 = .ok (.aload_n 0, 1) := dk_42 (dk_at dksX6_asItIs_1 23 rfl rfl)
theorem dX6_asItIs_48 : decode cX6_asItIs 48 = .ok (.getfield 9, 3) := dk_180 0 9 (dk_at dksX6_asItIs_2 0 rfl rfl)
theorem dX6_asItIs_51 : decode cX6_asItIs 51 = .ok (.bipush 58, 2) := dk_16 58 (dk_at dksX6_asItIs_2 3 rfl rfl)
theorem dX6_asItIs_53 : decode cX6_asItIs 53 = .ok (.iconst 2, 1) := dk_5 (dk_at dksX6_asItIs_2 5 rfl rfl)
theorem dX6_asItIs_54 : decode cX6_asItIs 54 = .ok (.iload_n 1, 1) := dk_27 (dk_at dksX6_asItIs_2 6 rfl rfl)
theorem dX6_asItIs_55 : decode cX6_asItIs 55 = .ok (.imul, 1) := dk_104 (dk_at dksX6_asItIs_2 7 rfl rfl)
theorem dX6_asItIs_56 : decode cX6_asItIs 56 = .ok (.iadd, 1) := dk_96 (dk_at dksX6_asItIs_2 8 rfl rfl)
theorem dX6_asItIs_57 : decode cX6_asItIs 57 = .ok (.iconst 1, 1) := dk_4 (dk_at dksX6_asItIs_2 9 rfl rfl)
theorem dX6_asItIs_58 : decode cX6_asItIs 58 = .ok (.iadd, 1) := dk_96 (dk_at dksX6_asItIs_2 10 rfl rfl)
theorem dX6_asItIs_59 : decode cX6_asItIs 59 = .ok (.iaload, 1) := dk_46 (dk_at dksX6_asItIs_2 11 rfl rfl)
theorem dX6_asItIs_60 : decode cX6_asItIs 60 = .ok (.dup2, 1) := dk_92 (dk_at dksX6_asItIs_2 12 rfl rfl)
theorem dX6_asItIs_61 : decode cX6_asItIs 61 = .ok (.iaload, 1) := dk_46 (dk_at dksX6_asItIs_2 13 rfl rfl)
theorem dX6_asItIs_62 : decode cX6_asItIs 62 = .ok (.aload_n 0, 1) := dk_42 (dk_at dksX6_asItIs_2 14 rfl rfl)
theorem dX6_asItIs_63 : decode cX6_asItIs 63 = .ok (.getfield 9, 3) := dk_180 0 9 (dk_at dksX6_asItIs_2 15 rfl rfl)
theorem dX6_asItIs_66 : decode cX6_asItIs 66 = .ok (.bipush 58, 2) := dk_16 58 (dk_at dksX6_asItIs_2 18 rfl rfl)
theorem dX6_asItIs_68 : decode cX6_asItIs 68 = .ok (.iconst 2, 1) := dk_5 (dk_at dksX6_asItIs_2 20 rfl rfl)
theorem dX6_asItIs_69 : decode cX6_asItIs 69 = .ok (.iload_n 1, 1) := dk_27 (dk_at dksX6_asItIs_2 21 rfl rfl)
theorem dX6_asItIs_70 : decode cX6_asItIs 70 = .ok (.imul, 1) := dk_104 (dk_at dksX6_asItIs_2 22 rfl rfl)
theorem dX6_asItIs_71 : decode cX6_asItIs 71 = .ok (.iadd, 1) := dk_96 (dk_at dksX6_asItIs_2 23 rfl rfl)
theorem dX6_asItIs_72 : decode cX6_asItIs 72 = .ok (.iaload, 1) := dk_46 (dk_at dksX6_asItIs_3 0 rfl rfl)
theorem dX6_asItIs_73 : decode cX6_asItIs 73 = .ok (.iadd, 1) := dk_96 (dk_at dksX6_asItIs_3 1 rfl rfl)
theorem dX6_asItIs_74 : decode cX6_asItIs 74 = .ok (.iastore, 1) := dk_79 (dk_at dksX6_asItIs_3 2 rfl rfl)
theorem dX6_asItIs_75 : decode cX6_asItIs 75 = .ok (.iinc 1 1, 3) := dk_132 1 1 (dk_at dksX6_asItIs_3 3 rfl rfl)
theorem dX6_asItIs_78 : decode cX6_asItIs 78 = .ok (.goto (-45), 3) := dk_167 255 211 (dk_at dksX6_asItIs_3 6 rfl rfl)
theorem dX6_asItIs_81 : decode cX6_asItIs 81 = .ok (.iconst 0, 1) := dk_3 (dk_at dksX6_asItIs_3 9 rfl rfl)
theorem dX6_asItIs_82 : decode cX6_asItIs 82 = .ok (.istore_n 1, 1) := dk_60 (dk_at dksX6_asItIs_3 10 rfl rfl)
theorem dX6_asItIs_83 : decode cX6_asItIs 83 = .ok (.iload_n 1, 1) := dk_27 (dk_at dksX6_asItIs_3 11 rfl rfl)
theorem dX6_asItIs_84 : decode cX6_asItIs 84 = .ok (.aload_n 0, 1) := dk_42 (dk_at dksX6_asItIs_3 12 rfl rfl)
theorem dX6_asItIs_85 : decode cX6_asItIs 85 = .ok (.getfield 9, 3) := dk_180 0 9 (dk_at dksX6_asItIs_3 13 rfl rfl)
theorem dX6_asItIs_88 : decode cX6_asItIs 88 = .ok (.iconst 4, 1) := dk_7 (dk_at dksX6_asItIs_3 16 rfl rfl)
theorem dX6_asItIs_89 : decode cX6_asItIs 89 = .ok (.iaload, 1) := dk_46 (dk_at dksX6_asItIs_3 17 rfl rfl)
theorem dX6_asItIs_90 : decode cX6_asItIs 90 = .ok (.if_icmp .ge 33, 3) := dk_162 0 33 (dk_at dksX6_asItIs_3 18 rfl rfl)
theorem dX6_asItIs_93 : decode cX6_asItIs 93 = .ok (.aload_n 0, 1) := dk_42 (dk_at dksX6_asItIs_3 21 rfl rfl)
theorem dX6_asItIs_94 : decode cX6_asItIs 94 = .ok (.getfield 43, 3) := dk_180 0 43 (dk_at dksX6_asItIs_4 0 rfl rfl)
theorem dX6_asItIs_97 : decode cX6_asItIs 97 = .ok (.iload_n 1, 1) := dk_27 (dk_at dksX6_asItIs_4 3 rfl rfl)
theorem dX6_asItIs_98 : decode cX6_asItIs 98 = .ok (.aload_n 0, 1) := dk_42 (dk_at dksX6_asItIs_4 4 rfl rfl)
theorem dX6_asItIs_99 : decode cX6_asItIs 99 = .ok (.iload_n 1, 1) := dk_27 (dk_at dksX6_asItIs_4 5 rfl rfl)
theorem dX6_asItIs_100 : decode cX6_asItIs 100 = .ok (.iconst 2, 1) := dk_5 (dk_at dksX6_asItIs_4 6 rfl rfl)
theorem dX6_asItIs_101 : decode cX6_asItIs 101 = .ok (.invokevirtual 232, 3) := dk_182 0 232 (dk_at dksX6_asItIs_4 7 rfl rfl)
theorem dX6_asItIs_104 : decode cX6_asItIs 104 = .ok (.iastore, 1) := dk_79 (dk_at dksX6_asItIs_4 10 rfl rfl)
theorem dX6_asItIs_105 : decode cX6_asItIs 105 = .ok (.aload_n 0, 1) := dk_42 (dk_at dksX6_asItIs_4 11 rfl rfl)
theorem dX6_asItIs_106 : decode cX6_asItIs 106 = .ok (.getfield 46, 3) := dk_180 0 46 (dk_at dksX6_asItIs_4 12 rfl rfl)
theorem dX6_asItIs_109 : decode cX6_asItIs 109 = .ok (.iload_n 1, 1) := dk_27 (dk_at dksX6_asItIs_4 15 rfl rfl)
theorem dX6_asItIs_110 : decode cX6_asItIs 110 = .ok (.aload_n 0, 1) := dk_42 (dk_at dksX6_asItIs_4 16 rfl rfl)
theorem dX6_asItIs_111 : decode cX6_asItIs 111 = .ok (.iload_n 1, 1) := dk_27 (dk_at dksX6_asItIs_4 17 rfl rfl)
theorem dX6_asItIs_112 : decode cX6_asItIs 112 = .ok (.iconst 3, 1) := dk_6 (dk_at dksX6_asItIs_4 18 rfl rfl)
theorem dX6_asItIs_113 : decode cX6_asItIs 113 = .ok (.invokevirtual 232, 3) := dk_182 0 232 (dk_at dksX6_asItIs_4 19 rfl rfl)
theorem dX6_asItIs_116 : decode cX6_asItIs 116 = .ok (.iastore, 1) := dk_79 (dk_at dksX6_asItIs_4 22 rfl rfl)
theorem dX6_asItIs_117 : decode cX6_asItIs 117 = .ok (.iinc 1 1, 3) := dk_132 1 1 (dk_at dksX6_asItIs_5 0 rfl rfl)
theorem dX6_asItIs_120 : decode cX6_asItIs 120 = .ok (.goto (-37), 3) := dk_167 255 219 (dk_at dksX6_asItIs_5 3 rfl rfl)
theorem dX6_asItIs_123 : decode cX6_asItIs 123 = .ok (.iconst 0, 1) := dk_3 (dk_at dksX6_asItIs_5 6 rfl rfl)
theorem dX6_asItIs_124 : decode cX6_asItIs 124 = .ok (.istore_n 1, 1) := dk_60 (dk_at dksX6_asItIs_5 7 rfl rfl)
theorem dX6_asItIs_125 : decode cX6_asItIs 125 = .ok (.iload_n 1, 1) := dk_27 (dk_at dksX6_asItIs_5 8 rfl rfl)
theorem dX6_asItIs_126 : decode cX6_asItIs 126 = .ok (.aload_n 0, 1) := dk_42 (dk_at dksX6_asItIs_5 9 rfl rfl)
theorem dX6_asItIs_127 : decode cX6_asItIs 127 = .ok (.getfield 9, 3) := dk_180 0 9 (dk_at dksX6_asItIs_5 10 rfl rfl)
theorem dX6_asItIs_130 : decode cX6_asItIs 130 = .ok (.bipush 6, 2) := dk_16 6 (dk_at dksX6_asItIs_5 13 rfl rfl)
theorem dX6_asItIs_132 : decode cX6_asItIs 132 = .ok (.iaload, 1) := dk_46 (dk_at dksX6_asItIs_5 15 rfl rfl)
theorem dX6_asItIs_133 : decode cX6_asItIs 133 = .ok (.if_icmp .ge 86, 3) := dk_162 0 86 (dk_at dksX6_asItIs_5 16 rfl rfl)
theorem dX6_asItIs_136 : decode cX6_asItIs 136 = .ok (.aload_n 0, 1) := dk_42 (dk_at dksX6_asItIs_5 19 rfl rfl)
theorem dX6_asItIs_137 : decode cX6_asItIs 137 = .ok (.getfield 9, 3) := dk_180 0 9 (dk_at dksX6_asItIs_5 20 rfl rfl)
theorem dX6_asItIs_140 : decode cX6_asItIs 140 = .ok (.bipush 68, 2) := dk_16 68 (dk_at dksX6_asItIs_6 0 rfl rfl)
theorem dX6_asItIs_142 : decode cX6_asItIs 142 = .ok (.iload_n 1, 1) := dk_27 (dk_at dksX6_asItIs_6 2 rfl rfl)
theorem dX6_asItIs_143 : decode cX6_asItIs 143 = .ok (.iadd, 1) := dk_96 (dk_at dksX6_asItIs_6 3 rfl rfl)
theorem dX6_asItIs_144 : decode cX6_asItIs 144 = .ok (.iaload, 1) := dk_46 (dk_at dksX6_asItIs_6 4 rfl rfl)
theorem dX6_asItIs_145 : decode cX6_asItIs 145 = .ok (.istore_n 2, 1) := dk_61 (dk_at dksX6_asItIs_6 5 rfl rfl)
theorem dX6_asItIs_146 : decode cX6_asItIs 146 = .ok (.iload_n 2, 1) := dk_28 (dk_at dksX6_asItIs_6 6 rfl rfl)
theorem dX6_asItIs_147 : decode cX6_asItIs 147 = .ok (.bipush 100, 2) := dk_16 100 (dk_at dksX6_asItIs_6 7 rfl rfl)
theorem dX6_asItIs_149 : decode cX6_asItIs 149 = .ok (.if_icmp .lt 24, 3) := dk_161 0 24 (dk_at dksX6_asItIs_6 9 rfl rfl)
theorem dX6_asItIs_152 : decode cX6_asItIs 152 = .ok (.aload_n 0, 1) := dk_42 (dk_at dksX6_asItIs_6 12 rfl rfl)
theorem dX6_asItIs_153 : decode cX6_asItIs 153 = .ok (.getfield 34, 3) := dk_180 0 34 (dk_at dksX6_asItIs_6 13 rfl rfl)
theorem dX6_asItIs_156 : decode cX6_asItIs 156 = .ok (.iload_n 2, 1) := dk_28 (dk_at dksX6_asItIs_6 16 rfl rfl)
theorem dX6_asItIs_157 : decode cX6_asItIs 157 = .ok (.bipush 100, 2) := dk_16 100 (dk_at dksX6_asItIs_6 17 rfl rfl)
theorem dX6_asItIs_159 : decode cX6_asItIs 159 = .ok (.idiv, 1) := dk_108 (dk_at dksX6_asItIs_6 19 rfl rfl)
theorem dX6_asItIs_160 : decode cX6_asItIs 160 = .ok (.iconst 1, 1) := dk_4 (dk_at dksX6_asItIs_6 20 rfl rfl)
theorem dX6_asItIs_161 : decode cX6_asItIs 161 = .ok (.isub, 1) := dk_100 (dk_at dksX6_asItIs_6 21 rfl rfl)
theorem dX6_asItIs_162 : decode cX6_asItIs 162 = .ok (.dup2, 1) := dk_92 (dk_at dksX6_asItIs_6 22 rfl rfl)
theorem dX6_asItIs_163 : decode cX6_asItIs 163 = .ok (.iaload, 1) := dk_46 (dk_at dksX6_asItIs_6 23 rfl rfl)
theorem dX6_asItIs_164 : decode cX6_asItIs 164 = .ok (.iload_n 2, 1) := dk_28 (dk_at dksX6_asItIs_7 0 rfl rfl)
theorem dX6_asItIs_165 : decode cX6_asItIs 165 = .ok (.bipush 100, 2) := dk_16 100 (dk_at dksX6_asItIs_7 1 rfl rfl)
theorem dX6_asItIs_167 : decode cX6_asItIs 167 = .ok (.irem, 1) := dk_112 (dk_at dksX6_asItIs_7 3 rfl rfl)
theorem dX6_asItIs_168 : decode cX6_asItIs 168 = .ok (.iadd, 1) := dk_96 (dk_at dksX6_asItIs_7 4 rfl rfl)
theorem dX6_asItIs_169 : decode cX6_asItIs 169 = .ok (.iastore, 1) := dk_79 (dk_at dksX6_asItIs_7 5 rfl rfl)
theorem dX6_asItIs_170 : decode cX6_asItIs 170 = .ok (.goto 43, 3) := dk_167 0 43 (dk_at dksX6_asItIs_7 6 rfl rfl)
theorem dX6_asItIs_173 : decode cX6_asItIs 173 = .ok (.iload_n 2, 1) := dk_28 (dk_at dksX6_asItIs_7 9 rfl rfl)
theorem dX6_asItIs_174 : decode cX6_asItIs 174 = .ok (.iconst 2, 1) := dk_5 (dk_at dksX6_asItIs_7 10 rfl rfl)
theorem dX6_asItIs_175 : decode cX6_asItIs 175 = .ok (.irem, 1) := dk_112 (dk_at dksX6_asItIs_7 11 rfl rfl)
theorem dX6_asItIs_176 : decode cX6_asItIs 176 = .ok (.iconst 1, 1) := dk_4 (dk_at dksX6_asItIs_7 12 rfl rfl)
theorem dX6_asItIs_177 : decode cX6_asItIs 177 = .ok (.if_icmp .ne 20, 3) := dk_160 0 20 (dk_at dksX6_asItIs_7 13 rfl rfl)
theorem dX6_asItIs_180 : decode cX6_asItIs 180 = .ok (.aload_n 0, 1) := dk_42 (dk_at dksX6_asItIs_7 16 rfl rfl)
theorem dX6_asItIs_181 : decode cX6_asItIs 181 = .ok (.dup, 1) := dk_89 (dk_at dksX6_asItIs_7 17 rfl rfl)
theorem dX6_asItIs_182 : decode cX6_asItIs 182 = .ok (.getfield 238, 3) := dk_180 0 238 (dk_at dksX6_asItIs_7 18 rfl rfl)
theorem dX6_asItIs_185 : decode cX6_asItIs 185 = .ok (.iconst 1, 1) := dk_4 (dk_at dksX6_asItIs_7 21 rfl rfl)
theorem dX6_asItIs_186 : decode cX6_asItIs 186 = .ok (.iload_n 2, 1) := dk_28 (dk_at dksX6_asItIs_7 22 rfl rfl)
theorem dX6_asItIs_187 : decode cX6_asItIs 187 = .ok (.iconst 2, 1) := dk_5 (dk_at dksX6_asItIs_7 23 rfl rfl)
theorem dX6_asItIs_188 : decode cX6_asItIs 188 = .ok (.idiv, 1) := dk_108 (dk_at dksX6_asItIs_8 0 rfl rfl)
theorem dX6_asItIs_189 : decode cX6_asItIs 189 = .ok (.ishl, 1) := dk_120 (dk_at dksX6_asItIs_8 1 rfl rfl)
theorem dX6_asItIs_190 : decode cX6_asItIs 190 = .ok (.ior, 1) := dk_128 (dk_at dksX6_asItIs_8 2 rfl rfl)
theorem dX6_asItIs_191 : decode cX6_asItIs 191 = .ok (.putfield 238, 3) := dk_181 0 238 (dk_at dksX6_asItIs_8 3 rfl rfl)
theorem dX6_asItIs_194 : decode cX6_asItIs 194 = .ok (.goto 19, 3) := dk_167 0 19 (dk_at dksX6_asItIs_8 6 rfl rfl)
theorem dX6_asItIs_197 : decode cX6_asItIs 197 = .ok (.aload_n 0, 1) := dk_42 (dk_at dksX6_asItIs_8 9 rfl rfl)
theorem dX6_asItIs_198 : decode cX6_asItIs 198 = .ok (.dup, 1) := dk_89 (dk_at dksX6_asItIs_8 10 rfl rfl)
theorem dX6_asItIs_199 : decode cX6_asItIs 199 = .ok (.getfield 238, 3) := dk_180 0 238 (dk_at dksX6_asItIs_8 11 rfl rfl)
theorem dX6_asItIs_202 : decode cX6_asItIs 202 = .ok (.iconst 1, 1) := dk_4 (dk_at dksX6_asItIs_8 14 rfl rfl)
theorem dX6_asItIs_203 : decode cX6_asItIs 203 = .ok (.iload_n 2, 1) := dk_28 (dk_at dksX6_asItIs_8 15 rfl rfl)
theorem dX6_asItIs_204 : decode cX6_asItIs 204 = .ok (.iconst 2, 1) := dk_5 (dk_at dksX6_asItIs_8 16 rfl rfl)
theorem dX6_asItIs_205 : decode cX6_asItIs 205 = .ok (.idiv, 1) := dk_108 (dk_at dksX6_asItIs_8 17 rfl rfl)
theorem dX6_asItIs_206 : decode cX6_asItIs 206 = .ok (.ishl, 1) := dk_120 (dk_at dksX6_asItIs_8 18 rfl rfl)
theorem dX6_asItIs_207 : decode cX6_asItIs 207 = .ok (.iconst (-1), 1) := dk_2 (dk_at dksX6_asItIs_8 19 rfl rfl)
theorem dX6_asItIs_208 : decode cX6_asItIs 208 = .ok (.ixor, 1) := dk_130 (dk_at dksX6_asItIs_8 20 rfl rfl)
theorem dX6_asItIs_209 : decode cX6_asItIs 209 = .ok (.iand, 1) := dk_126 (dk_at dksX6_asItIs_8 21 rfl rfl)
theorem dX6_asItIs_210 : decode cX6_asItIs 210 = .ok (.putfield 238, 3) := dk_181 0 238 (dk_at dksX6_asItIs_9 0 rfl rfl)
theorem dX6_asItIs_213 : decode cX6_asItIs 213 = .ok (.iinc 1 1, 3) := dk_132 1 1 (dk_at dksX6_asItIs_9 3 rfl rfl)
theorem dX6_asItIs_216 : decode cX6_asItIs 216 = .ok (.goto (-91), 3) := dk_167 255 165 (dk_at dksX6_asItIs_9 6 rfl rfl)
theorem dX6_asItIs_219 : decode cX6_asItIs 219 = .ok (.aload_n 0, 1) := dk_42 (dk_at dksX6_asItIs_9 9 rfl rfl)
theorem dX6_asItIs_220 : decode cX6_asItIs 220 = .ok (.invokevirtual 244, 3) := dk_182 0 244 (dk_at dksX6_asItIs_9 10 rfl rfl)
theorem dX6_asItIs_223 : decode cX6_asItIs 223 = .ok (.return_, 1) := dk_177 (dk_at dksX6_asItIs_9 13 rfl rfl)
abbrev cX6_layLevels : ByteArray := prog_14_method_36_code
def yX6_layLevels : MethodName := ⟨RX6, "layLevels", "()V"⟩
def dkwX6_layLevels_4 : List UInt8 := [3, 128, 79, 132, 2, 1, 167, 255, 212, 132, 1, 1, 167, 255, 151, 177]
abbrev dktX6_layLevels_4 : List UInt8 := dkwX6_layLevels_4 ++ []
def dkwX6_layLevels_3 : List UInt8 := [27, 92, 46, 42, 180, 0, 37, 27, 46, 42, 28, 5, 182, 0, 223, 162, 0, 9, 4, 28, 120, 167, 0, 4]
abbrev dktX6_layLevels_3 : List UInt8 := dkwX6_layLevels_3 ++ dktX6_layLevels_4
def dkwX6_layLevels_2 : List UInt8 := [79, 42, 180, 0, 40, 27, 3, 79, 3, 61, 28, 42, 180, 0, 9, 6, 46, 162, 0, 40, 42, 180, 0, 40]
abbrev dktX6_layLevels_2 : List UInt8 := dkwX6_layLevels_2 ++ dktX6_layLevels_3
def dkwX6_layLevels_1 : List UInt8 := [167, 0, 17, 3, 42, 180, 0, 37, 27, 4, 100, 46, 4, 100, 184, 0, 235, 42, 180, 0, 34, 27, 46, 96]
abbrev dktX6_layLevels_1 : List UInt8 := dkwX6_layLevels_1 ++ dktX6_layLevels_2
def dkwX6_layLevels_0 : List UInt8 := [3, 60, 27, 16, 60, 163, 0, 105, 42, 180, 0, 37, 27, 27, 154, 0, 12, 42, 180, 0, 9, 3, 46]
abbrev dktX6_layLevels_0 : List UInt8 := dkwX6_layLevels_0 ++ dktX6_layLevels_1
theorem dksX6_layLevels_0 : cX6_layLevels.data.toList.drop 0 = dktX6_layLevels_0 := by decide +kernel
theorem dksX6_layLevels_1 : cX6_layLevels.data.toList.drop 23 = dktX6_layLevels_1 := dk_seg dksX6_layLevels_0 23 rfl rfl
theorem dksX6_layLevels_2 : cX6_layLevels.data.toList.drop 47 = dktX6_layLevels_2 := dk_seg dksX6_layLevels_1 24 rfl rfl
theorem dksX6_layLevels_3 : cX6_layLevels.data.toList.drop 71 = dktX6_layLevels_3 := dk_seg dksX6_layLevels_2 24 rfl rfl
theorem dksX6_layLevels_4 : cX6_layLevels.data.toList.drop 95 = dktX6_layLevels_4 := dk_seg dksX6_layLevels_3 24 rfl rfl
theorem dX6_layLevels_0 : decode cX6_layLevels 0 = .ok (.iconst 0, 1) := dk_3 (dk_at dksX6_layLevels_0 0 rfl rfl)
theorem dX6_layLevels_1 : decode cX6_layLevels 1 = .ok (.istore_n 1, 1) := dk_60 (dk_at dksX6_layLevels_0 1 rfl rfl)
theorem dX6_layLevels_2 : decode cX6_layLevels 2 = .ok (.iload_n 1, 1) := dk_27 (dk_at dksX6_layLevels_0 2 rfl rfl)
theorem dX6_layLevels_3 : decode cX6_layLevels 3 = .ok (.bipush 60, 2) := dk_16 60 (dk_at dksX6_layLevels_0 3 rfl rfl)
theorem dX6_layLevels_5 : decode cX6_layLevels 5 = .ok (.if_icmp .gt 105, 3) := dk_163 0 105 (dk_at dksX6_layLevels_0 5 rfl rfl)
theorem dX6_layLevels_8 : decode cX6_layLevels 8 = .ok (.aload_n 0, 1) := dk_42 (dk_at dksX6_layLevels_0 8 rfl rfl)
theorem dX6_layLevels_9 : decode cX6_layLevels 9 = .ok (.getfield 37, 3) := dk_180 0 37 (dk_at dksX6_layLevels_0 9 rfl rfl)
theorem dX6_layLevels_12 : decode cX6_layLevels 12 = .ok (.iload_n 1, 1) := dk_27 (dk_at dksX6_layLevels_0 12 rfl rfl)
theorem dX6_layLevels_13 : decode cX6_layLevels 13 = .ok (.iload_n 1, 1) := dk_27 (dk_at dksX6_layLevels_0 13 rfl rfl)
theorem dX6_layLevels_14 : decode cX6_layLevels 14 = .ok (.ifCond .ne 12, 3) := dk_154 0 12 (dk_at dksX6_layLevels_0 14 rfl rfl)
theorem dX6_layLevels_17 : decode cX6_layLevels 17 = .ok (.aload_n 0, 1) := dk_42 (dk_at dksX6_layLevels_0 17 rfl rfl)
theorem dX6_layLevels_18 : decode cX6_layLevels 18 = .ok (.getfield 9, 3) := dk_180 0 9 (dk_at dksX6_layLevels_0 18 rfl rfl)
theorem dX6_layLevels_21 : decode cX6_layLevels 21 = .ok (.iconst 0, 1) := dk_3 (dk_at dksX6_layLevels_0 21 rfl rfl)
theorem dX6_layLevels_22 : decode cX6_layLevels 22 = .ok (.iaload, 1) := dk_46 (dk_at dksX6_layLevels_0 22 rfl rfl)
theorem dX6_layLevels_23 : decode cX6_layLevels 23 = .ok (.goto 17, 3) := dk_167 0 17 (dk_at dksX6_layLevels_1 0 rfl rfl)
theorem dX6_layLevels_26 : decode cX6_layLevels 26 = .ok (.iconst 0, 1) := dk_3 (dk_at dksX6_layLevels_1 3 rfl rfl)
theorem dX6_layLevels_27 : decode cX6_layLevels 27 = .ok (.aload_n 0, 1) := dk_42 (dk_at dksX6_layLevels_1 4 rfl rfl)
theorem dX6_layLevels_28 : decode cX6_layLevels 28 = .ok (.getfield 37, 3) := dk_180 0 37 (dk_at dksX6_layLevels_1 5 rfl rfl)
theorem dX6_layLevels_31 : decode cX6_layLevels 31 = .ok (.iload_n 1, 1) := dk_27 (dk_at dksX6_layLevels_1 8 rfl rfl)
theorem dX6_layLevels_32 : decode cX6_layLevels 32 = .ok (.iconst 1, 1) := dk_4 (dk_at dksX6_layLevels_1 9 rfl rfl)
theorem dX6_layLevels_33 : decode cX6_layLevels 33 = .ok (.isub, 1) := dk_100 (dk_at dksX6_layLevels_1 10 rfl rfl)
theorem dX6_layLevels_34 : decode cX6_layLevels 34 = .ok (.iaload, 1) := dk_46 (dk_at dksX6_layLevels_1 11 rfl rfl)
theorem dX6_layLevels_35 : decode cX6_layLevels 35 = .ok (.iconst 1, 1) := dk_4 (dk_at dksX6_layLevels_1 12 rfl rfl)
theorem dX6_layLevels_36 : decode cX6_layLevels 36 = .ok (.isub, 1) := dk_100 (dk_at dksX6_layLevels_1 13 rfl rfl)
theorem dX6_layLevels_37 : decode cX6_layLevels 37 = .ok (.invokestatic 235, 3) := dk_184 0 235 (dk_at dksX6_layLevels_1 14 rfl rfl)
theorem dX6_layLevels_40 : decode cX6_layLevels 40 = .ok (.aload_n 0, 1) := dk_42 (dk_at dksX6_layLevels_1 17 rfl rfl)
theorem dX6_layLevels_41 : decode cX6_layLevels 41 = .ok (.getfield 34, 3) := dk_180 0 34 (dk_at dksX6_layLevels_1 18 rfl rfl)
theorem dX6_layLevels_44 : decode cX6_layLevels 44 = .ok (.iload_n 1, 1) := dk_27 (dk_at dksX6_layLevels_1 21 rfl rfl)
theorem dX6_layLevels_45 : decode cX6_layLevels 45 = .ok (.iaload, 1) := dk_46 (dk_at dksX6_layLevels_1 22 rfl rfl)
theorem dX6_layLevels_46 : decode cX6_layLevels 46 = .ok (.iadd, 1) := dk_96 (dk_at dksX6_layLevels_1 23 rfl rfl)
theorem dX6_layLevels_47 : decode cX6_layLevels 47 = .ok (.iastore, 1) := dk_79 (dk_at dksX6_layLevels_2 0 rfl rfl)
theorem dX6_layLevels_48 : decode cX6_layLevels 48 = .ok (.aload_n 0, 1) := dk_42 (dk_at dksX6_layLevels_2 1 rfl rfl)
theorem dX6_layLevels_49 : decode cX6_layLevels 49 = .ok (.getfield 40, 3) := dk_180 0 40 (dk_at dksX6_layLevels_2 2 rfl rfl)
theorem dX6_layLevels_52 : decode cX6_layLevels 52 = .ok (.iload_n 1, 1) := dk_27 (dk_at dksX6_layLevels_2 5 rfl rfl)
theorem dX6_layLevels_53 : decode cX6_layLevels 53 = .ok (.iconst 0, 1) := dk_3 (dk_at dksX6_layLevels_2 6 rfl rfl)
theorem dX6_layLevels_54 : decode cX6_layLevels 54 = .ok (.iastore, 1) := dk_79 (dk_at dksX6_layLevels_2 7 rfl rfl)
theorem dX6_layLevels_55 : decode cX6_layLevels 55 = .ok (.iconst 0, 1) := dk_3 (dk_at dksX6_layLevels_2 8 rfl rfl)
theorem dX6_layLevels_56 : decode cX6_layLevels 56 = .ok (.istore_n 2, 1) := dk_61 (dk_at dksX6_layLevels_2 9 rfl rfl)
theorem dX6_layLevels_57 : decode cX6_layLevels 57 = .ok (.iload_n 2, 1) := dk_28 (dk_at dksX6_layLevels_2 10 rfl rfl)
theorem dX6_layLevels_58 : decode cX6_layLevels 58 = .ok (.aload_n 0, 1) := dk_42 (dk_at dksX6_layLevels_2 11 rfl rfl)
theorem dX6_layLevels_59 : decode cX6_layLevels 59 = .ok (.getfield 9, 3) := dk_180 0 9 (dk_at dksX6_layLevels_2 12 rfl rfl)
theorem dX6_layLevels_62 : decode cX6_layLevels 62 = .ok (.iconst 3, 1) := dk_6 (dk_at dksX6_layLevels_2 15 rfl rfl)
theorem dX6_layLevels_63 : decode cX6_layLevels 63 = .ok (.iaload, 1) := dk_46 (dk_at dksX6_layLevels_2 16 rfl rfl)
theorem dX6_layLevels_64 : decode cX6_layLevels 64 = .ok (.if_icmp .ge 40, 3) := dk_162 0 40 (dk_at dksX6_layLevels_2 17 rfl rfl)
theorem dX6_layLevels_67 : decode cX6_layLevels 67 = .ok (.aload_n 0, 1) := dk_42 (dk_at dksX6_layLevels_2 20 rfl rfl)
theorem dX6_layLevels_68 : decode cX6_layLevels 68 = .ok (.getfield 40, 3) := dk_180 0 40 (dk_at dksX6_layLevels_2 21 rfl rfl)
theorem dX6_layLevels_71 : decode cX6_layLevels 71 = .ok (.iload_n 1, 1) := dk_27 (dk_at dksX6_layLevels_3 0 rfl rfl)
theorem dX6_layLevels_72 : decode cX6_layLevels 72 = .ok (.dup2, 1) := dk_92 (dk_at dksX6_layLevels_3 1 rfl rfl)
theorem dX6_layLevels_73 : decode cX6_layLevels 73 = .ok (.iaload, 1) := dk_46 (dk_at dksX6_layLevels_3 2 rfl rfl)
theorem dX6_layLevels_74 : decode cX6_layLevels 74 = .ok (.aload_n 0, 1) := dk_42 (dk_at dksX6_layLevels_3 3 rfl rfl)
theorem dX6_layLevels_75 : decode cX6_layLevels 75 = .ok (.getfield 37, 3) := dk_180 0 37 (dk_at dksX6_layLevels_3 4 rfl rfl)
theorem dX6_layLevels_78 : decode cX6_layLevels 78 = .ok (.iload_n 1, 1) := dk_27 (dk_at dksX6_layLevels_3 7 rfl rfl)
theorem dX6_layLevels_79 : decode cX6_layLevels 79 = .ok (.iaload, 1) := dk_46 (dk_at dksX6_layLevels_3 8 rfl rfl)
theorem dX6_layLevels_80 : decode cX6_layLevels 80 = .ok (.aload_n 0, 1) := dk_42 (dk_at dksX6_layLevels_3 9 rfl rfl)
theorem dX6_layLevels_81 : decode cX6_layLevels 81 = .ok (.iload_n 2, 1) := dk_28 (dk_at dksX6_layLevels_3 10 rfl rfl)
theorem dX6_layLevels_82 : decode cX6_layLevels 82 = .ok (.iconst 2, 1) := dk_5 (dk_at dksX6_layLevels_3 11 rfl rfl)
theorem dX6_layLevels_83 : decode cX6_layLevels 83 = .ok (.invokevirtual 223, 3) := dk_182 0 223 (dk_at dksX6_layLevels_3 12 rfl rfl)
theorem dX6_layLevels_86 : decode cX6_layLevels 86 = .ok (.if_icmp .ge 9, 3) := dk_162 0 9 (dk_at dksX6_layLevels_3 15 rfl rfl)
theorem dX6_layLevels_89 : decode cX6_layLevels 89 = .ok (.iconst 1, 1) := dk_4 (dk_at dksX6_layLevels_3 18 rfl rfl)
theorem dX6_layLevels_90 : decode cX6_layLevels 90 = .ok (.iload_n 2, 1) := dk_28 (dk_at dksX6_layLevels_3 19 rfl rfl)
theorem dX6_layLevels_91 : decode cX6_layLevels 91 = .ok (.ishl, 1) := dk_120 (dk_at dksX6_layLevels_3 20 rfl rfl)
theorem dX6_layLevels_92 : decode cX6_layLevels 92 = .ok (.goto 4, 3) := dk_167 0 4 (dk_at dksX6_layLevels_3 21 rfl rfl)
theorem dX6_layLevels_95 : decode cX6_layLevels 95 = .ok (.iconst 0, 1) := dk_3 (dk_at dksX6_layLevels_4 0 rfl rfl)
theorem dX6_layLevels_96 : decode cX6_layLevels 96 = .ok (.ior, 1) := dk_128 (dk_at dksX6_layLevels_4 1 rfl rfl)
theorem dX6_layLevels_97 : decode cX6_layLevels 97 = .ok (.iastore, 1) := dk_79 (dk_at dksX6_layLevels_4 2 rfl rfl)
theorem dX6_layLevels_98 : decode cX6_layLevels 98 = .ok (.iinc 2 1, 3) := dk_132 2 1 (dk_at dksX6_layLevels_4 3 rfl rfl)
theorem dX6_layLevels_101 : decode cX6_layLevels 101 = .ok (.goto (-44), 3) := dk_167 255 212 (dk_at dksX6_layLevels_4 6 rfl rfl)
theorem dX6_layLevels_104 : decode cX6_layLevels 104 = .ok (.iinc 1 1, 3) := dk_132 1 1 (dk_at dksX6_layLevels_4 9 rfl rfl)
theorem dX6_layLevels_107 : decode cX6_layLevels 107 = .ok (.goto (-105), 3) := dk_167 255 151 (dk_at dksX6_layLevels_4 12 rfl rfl)
theorem dX6_layLevels_110 : decode cX6_layLevels 110 = .ok (.return_, 1) := dk_177 (dk_at dksX6_layLevels_4 15 rfl rfl)
abbrev cX6_isRivers : ByteArray := prog_14_method_8_code
def yX6_isRivers : MethodName := ⟨RX6, "isRivers", "()Z"⟩
def dkwX6_isRivers_0 : List UInt8 := [42, 180, 0, 9, 16, 7, 46, 158, 0, 7, 4, 167, 0, 4, 3, 172]
abbrev dktX6_isRivers_0 : List UInt8 := dkwX6_isRivers_0 ++ []
theorem dksX6_isRivers_0 : cX6_isRivers.data.toList.drop 0 = dktX6_isRivers_0 := by decide +kernel
theorem dX6_isRivers_0 : decode cX6_isRivers 0 = .ok (.aload_n 0, 1) := dk_42 (dk_at dksX6_isRivers_0 0 rfl rfl)
theorem dX6_isRivers_1 : decode cX6_isRivers 1 = .ok (.getfield 9, 3) := dk_180 0 9 (dk_at dksX6_isRivers_0 1 rfl rfl)
theorem dX6_isRivers_4 : decode cX6_isRivers 4 = .ok (.bipush 7, 2) := dk_16 7 (dk_at dksX6_isRivers_0 4 rfl rfl)
theorem dX6_isRivers_6 : decode cX6_isRivers 6 = .ok (.iaload, 1) := dk_46 (dk_at dksX6_isRivers_0 6 rfl rfl)
theorem dX6_isRivers_7 : decode cX6_isRivers 7 = .ok (.ifCond .le 7, 3) := dk_158 0 7 (dk_at dksX6_isRivers_0 7 rfl rfl)
theorem dX6_isRivers_10 : decode cX6_isRivers 10 = .ok (.iconst 1, 1) := dk_4 (dk_at dksX6_isRivers_0 10 rfl rfl)
theorem dX6_isRivers_11 : decode cX6_isRivers 11 = .ok (.goto 4, 3) := dk_167 0 4 (dk_at dksX6_isRivers_0 11 rfl rfl)
theorem dX6_isRivers_14 : decode cX6_isRivers 14 = .ok (.iconst 0, 1) := dk_3 (dk_at dksX6_isRivers_0 14 rfl rfl)
theorem dX6_isRivers_15 : decode cX6_isRivers 15 = .ok (.ireturn, 1) := dk_172 (dk_at dksX6_isRivers_0 15 rfl rfl)
abbrev cX6_isStep : ByteArray := prog_14_method_11_code
def yX6_isStep : MethodName := ⟨RX6, "isStep", "(J)Z"⟩
def dkwX6_isStep_0 : List UInt8 := [30, 9, 20, 0, 96, 184, 0, 92, 172]
abbrev dktX6_isStep_0 : List UInt8 := dkwX6_isStep_0 ++ []
theorem dksX6_isStep_0 : cX6_isStep.data.toList.drop 0 = dktX6_isStep_0 := by decide +kernel
theorem dX6_isStep_0 : decode cX6_isStep 0 = .ok (.lload_n 0, 1) := dk_30 (dk_at dksX6_isStep_0 0 rfl rfl)
theorem dX6_isStep_1 : decode cX6_isStep 1 = .ok (.lconst 0, 1) := dk_9 (dk_at dksX6_isStep_0 1 rfl rfl)
theorem dX6_isStep_2 : decode cX6_isStep 2 = .ok (.ldc2_w 96, 3) := dk_20 0 96 (dk_at dksX6_isStep_0 2 rfl rfl)
theorem dX6_isStep_5 : decode cX6_isStep 5 = .ok (.invokestatic 92, 3) := dk_184 0 92 (dk_at dksX6_isStep_0 5 rfl rfl)
theorem dX6_isStep_8 : decode cX6_isStep 8 = .ok (.ireturn, 1) := dk_172 (dk_at dksX6_isStep_0 8 rfl rfl)
abbrev cX6_stands : ByteArray := prog_14_method_41_code
def yX6_stands : MethodName := ⟨RX6, "stands", "(I)I"⟩
def dkwX6_stands_1 : List UInt8 := [16, 254, 172]
abbrev dktX6_stands_1 : List UInt8 := dkwX6_stands_1 ++ []
def dkwX6_stands_0 : List UInt8 := [42, 182, 0, 253, 153, 0, 20, 27, 133, 184, 1, 0, 153, 0, 12, 42, 180, 0, 40, 27, 46, 167, 0, 5]
abbrev dktX6_stands_0 : List UInt8 := dkwX6_stands_0 ++ dktX6_stands_1
theorem dksX6_stands_0 : cX6_stands.data.toList.drop 0 = dktX6_stands_0 := by decide +kernel
theorem dksX6_stands_1 : cX6_stands.data.toList.drop 24 = dktX6_stands_1 := dk_seg dksX6_stands_0 24 rfl rfl
theorem dX6_stands_0 : decode cX6_stands 0 = .ok (.aload_n 0, 1) := dk_42 (dk_at dksX6_stands_0 0 rfl rfl)
theorem dX6_stands_1 : decode cX6_stands 1 = .ok (.invokevirtual 253, 3) := dk_182 0 253 (dk_at dksX6_stands_0 1 rfl rfl)
theorem dX6_stands_4 : decode cX6_stands 4 = .ok (.ifCond .eq 20, 3) := dk_153 0 20 (dk_at dksX6_stands_0 4 rfl rfl)
theorem dX6_stands_7 : decode cX6_stands 7 = .ok (.iload_n 1, 1) := dk_27 (dk_at dksX6_stands_0 7 rfl rfl)
theorem dX6_stands_8 : decode cX6_stands 8 = .ok (.i2l, 1) := dk_133 (dk_at dksX6_stands_0 8 rfl rfl)
theorem dX6_stands_9 : decode cX6_stands 9 = .ok (.invokestatic 256, 3) := dk_184 1 0 (dk_at dksX6_stands_0 9 rfl rfl)
theorem dX6_stands_12 : decode cX6_stands 12 = .ok (.ifCond .eq 12, 3) := dk_153 0 12 (dk_at dksX6_stands_0 12 rfl rfl)
theorem dX6_stands_15 : decode cX6_stands 15 = .ok (.aload_n 0, 1) := dk_42 (dk_at dksX6_stands_0 15 rfl rfl)
theorem dX6_stands_16 : decode cX6_stands 16 = .ok (.getfield 40, 3) := dk_180 0 40 (dk_at dksX6_stands_0 16 rfl rfl)
theorem dX6_stands_19 : decode cX6_stands 19 = .ok (.iload_n 1, 1) := dk_27 (dk_at dksX6_stands_0 19 rfl rfl)
theorem dX6_stands_20 : decode cX6_stands 20 = .ok (.iaload, 1) := dk_46 (dk_at dksX6_stands_0 20 rfl rfl)
theorem dX6_stands_21 : decode cX6_stands 21 = .ok (.goto 5, 3) := dk_167 0 5 (dk_at dksX6_stands_0 21 rfl rfl)
theorem dX6_stands_24 : decode cX6_stands 24 = .ok (.bipush (-2), 2) := dk_16 254 (dk_at dksX6_stands_1 0 rfl rfl)
theorem dX6_stands_26 : decode cX6_stands 26 = .ok (.ireturn, 1) := dk_172 (dk_at dksX6_stands_1 2 rfl rfl)
abbrev cX6_dry : ByteArray := prog_14_method_42_code
def yX6_dry : MethodName := ⟨RX6, "dry", "(I)I"⟩
def dkwX6_dry_1 : List UInt8 := [46, 27, 184, 1, 6, 4, 160, 0, 5, 28, 172, 132, 2, 1, 167, 255, 231, 2, 172]
abbrev dktX6_dry_1 : List UInt8 := dkwX6_dry_1 ++ []
def dkwX6_dry_0 : List UInt8 := [42, 27, 182, 1, 3, 154, 0, 6, 16, 254, 172, 3, 61, 28, 16, 60, 163, 0, 25, 42, 180, 0, 40, 28]
abbrev dktX6_dry_0 : List UInt8 := dkwX6_dry_0 ++ dktX6_dry_1
theorem dksX6_dry_0 : cX6_dry.data.toList.drop 0 = dktX6_dry_0 := by decide +kernel
theorem dksX6_dry_1 : cX6_dry.data.toList.drop 24 = dktX6_dry_1 := dk_seg dksX6_dry_0 24 rfl rfl
theorem dX6_dry_0 : decode cX6_dry 0 = .ok (.aload_n 0, 1) := dk_42 (dk_at dksX6_dry_0 0 rfl rfl)
theorem dX6_dry_1 : decode cX6_dry 1 = .ok (.iload_n 1, 1) := dk_27 (dk_at dksX6_dry_0 1 rfl rfl)
theorem dX6_dry_2 : decode cX6_dry 2 = .ok (.invokevirtual 259, 3) := dk_182 1 3 (dk_at dksX6_dry_0 2 rfl rfl)
theorem dX6_dry_5 : decode cX6_dry 5 = .ok (.ifCond .ne 6, 3) := dk_154 0 6 (dk_at dksX6_dry_0 5 rfl rfl)
theorem dX6_dry_8 : decode cX6_dry 8 = .ok (.bipush (-2), 2) := dk_16 254 (dk_at dksX6_dry_0 8 rfl rfl)
theorem dX6_dry_10 : decode cX6_dry 10 = .ok (.ireturn, 1) := dk_172 (dk_at dksX6_dry_0 10 rfl rfl)
theorem dX6_dry_11 : decode cX6_dry 11 = .ok (.iconst 0, 1) := dk_3 (dk_at dksX6_dry_0 11 rfl rfl)
theorem dX6_dry_12 : decode cX6_dry 12 = .ok (.istore_n 2, 1) := dk_61 (dk_at dksX6_dry_0 12 rfl rfl)
theorem dX6_dry_13 : decode cX6_dry 13 = .ok (.iload_n 2, 1) := dk_28 (dk_at dksX6_dry_0 13 rfl rfl)
theorem dX6_dry_14 : decode cX6_dry 14 = .ok (.bipush 60, 2) := dk_16 60 (dk_at dksX6_dry_0 14 rfl rfl)
theorem dX6_dry_16 : decode cX6_dry 16 = .ok (.if_icmp .gt 25, 3) := dk_163 0 25 (dk_at dksX6_dry_0 16 rfl rfl)
theorem dX6_dry_19 : decode cX6_dry 19 = .ok (.aload_n 0, 1) := dk_42 (dk_at dksX6_dry_0 19 rfl rfl)
theorem dX6_dry_20 : decode cX6_dry 20 = .ok (.getfield 40, 3) := dk_180 0 40 (dk_at dksX6_dry_0 20 rfl rfl)
theorem dX6_dry_23 : decode cX6_dry 23 = .ok (.iload_n 2, 1) := dk_28 (dk_at dksX6_dry_0 23 rfl rfl)
theorem dX6_dry_24 : decode cX6_dry 24 = .ok (.iaload, 1) := dk_46 (dk_at dksX6_dry_1 0 rfl rfl)
theorem dX6_dry_25 : decode cX6_dry 25 = .ok (.iload_n 1, 1) := dk_27 (dk_at dksX6_dry_1 1 rfl rfl)
theorem dX6_dry_26 : decode cX6_dry 26 = .ok (.invokestatic 262, 3) := dk_184 1 6 (dk_at dksX6_dry_1 2 rfl rfl)
theorem dX6_dry_29 : decode cX6_dry 29 = .ok (.iconst 1, 1) := dk_4 (dk_at dksX6_dry_1 5 rfl rfl)
theorem dX6_dry_30 : decode cX6_dry 30 = .ok (.if_icmp .ne 5, 3) := dk_160 0 5 (dk_at dksX6_dry_1 6 rfl rfl)
theorem dX6_dry_33 : decode cX6_dry 33 = .ok (.iload_n 2, 1) := dk_28 (dk_at dksX6_dry_1 9 rfl rfl)
theorem dX6_dry_34 : decode cX6_dry 34 = .ok (.ireturn, 1) := dk_172 (dk_at dksX6_dry_1 10 rfl rfl)
theorem dX6_dry_35 : decode cX6_dry 35 = .ok (.iinc 2 1, 3) := dk_132 2 1 (dk_at dksX6_dry_1 11 rfl rfl)
theorem dX6_dry_38 : decode cX6_dry 38 = .ok (.goto (-25), 3) := dk_167 255 231 (dk_at dksX6_dry_1 14 rfl rfl)
theorem dX6_dry_41 : decode cX6_dry 41 = .ok (.iconst (-1), 1) := dk_2 (dk_at dksX6_dry_1 17 rfl rfl)
theorem dX6_dry_42 : decode cX6_dry 42 = .ok (.ireturn, 1) := dk_172 (dk_at dksX6_dry_1 18 rfl rfl)
abbrev cX6_asksReach : ByteArray := prog_14_method_39_code
def yX6_asksReach : MethodName := ⟨RX6, "asksReach", "(I)Z"⟩
def dkwX6_asksReach_0 : List UInt8 := [42, 182, 0, 247, 42, 27, 133, 182, 0, 219, 172]
abbrev dktX6_asksReach_0 : List UInt8 := dkwX6_asksReach_0 ++ []
theorem dksX6_asksReach_0 : cX6_asksReach.data.toList.drop 0 = dktX6_asksReach_0 := by decide +kernel
theorem dX6_asksReach_0 : decode cX6_asksReach 0 = .ok (.aload_n 0, 1) := dk_42 (dk_at dksX6_asksReach_0 0 rfl rfl)
theorem dX6_asksReach_1 : decode cX6_asksReach 1 = .ok (.invokevirtual 247, 3) := dk_182 0 247 (dk_at dksX6_asksReach_0 1 rfl rfl)
theorem dX6_asksReach_4 : decode cX6_asksReach 4 = .ok (.aload_n 0, 1) := dk_42 (dk_at dksX6_asksReach_0 4 rfl rfl)
theorem dX6_asksReach_5 : decode cX6_asksReach 5 = .ok (.iload_n 1, 1) := dk_27 (dk_at dksX6_asksReach_0 5 rfl rfl)
theorem dX6_asksReach_6 : decode cX6_asksReach 6 = .ok (.i2l, 1) := dk_133 (dk_at dksX6_asksReach_0 6 rfl rfl)
theorem dX6_asksReach_7 : decode cX6_asksReach 7 = .ok (.invokevirtual 219, 3) := dk_182 0 219 (dk_at dksX6_asksReach_0 7 rfl rfl)
theorem dX6_asksReach_10 : decode cX6_asksReach 10 = .ok (.ireturn, 1) := dk_172 (dk_at dksX6_asksReach_0 10 rfl rfl)
abbrev cX6_bit : ByteArray := prog_14_method_5_code
def yX6_bit : MethodName := ⟨RX6, "bit", "(II)I"⟩
def dkwX6_bit_0 : List UInt8 := [26, 27, 122, 4, 126, 172]
abbrev dktX6_bit_0 : List UInt8 := dkwX6_bit_0 ++ []
theorem dksX6_bit_0 : cX6_bit.data.toList.drop 0 = dktX6_bit_0 := by decide +kernel
theorem dX6_bit_0 : decode cX6_bit 0 = .ok (.iload_n 0, 1) := dk_26 (dk_at dksX6_bit_0 0 rfl rfl)
theorem dX6_bit_1 : decode cX6_bit 1 = .ok (.iload_n 1, 1) := dk_27 (dk_at dksX6_bit_0 1 rfl rfl)
theorem dX6_bit_2 : decode cX6_bit 2 = .ok (.ishr, 1) := dk_122 (dk_at dksX6_bit_0 2 rfl rfl)
theorem dX6_bit_3 : decode cX6_bit 3 = .ok (.iconst 1, 1) := dk_4 (dk_at dksX6_bit_0 3 rfl rfl)
theorem dX6_bit_4 : decode cX6_bit 4 = .ok (.iand, 1) := dk_126 (dk_at dksX6_bit_0 4 rfl rfl)
theorem dX6_bit_5 : decode cX6_bit 5 = .ok (.ireturn, 1) := dk_172 (dk_at dksX6_bit_0 5 rfl rfl)
abbrev cX6_drought : ByteArray := prog_14_method_43_code
def yX6_drought : MethodName := ⟨RX6, "drought", "(I)I"⟩
def dkwX6_drought_2 : List UInt8 := [3, 62, 28, 29, 184, 0, 235, 61, 132, 4, 1, 167, 255, 217, 28, 172]
abbrev dktX6_drought_2 : List UInt8 := dkwX6_drought_2 ++ []
def dkwX6_drought_1 : List UInt8 := [163, 0, 38, 42, 180, 0, 40, 21, 4, 46, 27, 184, 1, 6, 4, 160, 0, 9, 29, 4, 96, 167, 0, 4]
abbrev dktX6_drought_1 : List UInt8 := dkwX6_drought_1 ++ dktX6_drought_2
def dkwX6_drought_0 : List UInt8 := [42, 27, 182, 1, 3, 154, 0, 6, 16, 254, 172, 3, 61, 3, 62, 3, 54, 4, 21, 4, 16, 60]
abbrev dktX6_drought_0 : List UInt8 := dkwX6_drought_0 ++ dktX6_drought_1
theorem dksX6_drought_0 : cX6_drought.data.toList.drop 0 = dktX6_drought_0 := by decide +kernel
theorem dksX6_drought_1 : cX6_drought.data.toList.drop 22 = dktX6_drought_1 := dk_seg dksX6_drought_0 22 rfl rfl
theorem dksX6_drought_2 : cX6_drought.data.toList.drop 46 = dktX6_drought_2 := dk_seg dksX6_drought_1 24 rfl rfl
theorem dX6_drought_0 : decode cX6_drought 0 = .ok (.aload_n 0, 1) := dk_42 (dk_at dksX6_drought_0 0 rfl rfl)
theorem dX6_drought_1 : decode cX6_drought 1 = .ok (.iload_n 1, 1) := dk_27 (dk_at dksX6_drought_0 1 rfl rfl)
theorem dX6_drought_2 : decode cX6_drought 2 = .ok (.invokevirtual 259, 3) := dk_182 1 3 (dk_at dksX6_drought_0 2 rfl rfl)
theorem dX6_drought_5 : decode cX6_drought 5 = .ok (.ifCond .ne 6, 3) := dk_154 0 6 (dk_at dksX6_drought_0 5 rfl rfl)
theorem dX6_drought_8 : decode cX6_drought 8 = .ok (.bipush (-2), 2) := dk_16 254 (dk_at dksX6_drought_0 8 rfl rfl)
theorem dX6_drought_10 : decode cX6_drought 10 = .ok (.ireturn, 1) := dk_172 (dk_at dksX6_drought_0 10 rfl rfl)
theorem dX6_drought_11 : decode cX6_drought 11 = .ok (.iconst 0, 1) := dk_3 (dk_at dksX6_drought_0 11 rfl rfl)
theorem dX6_drought_12 : decode cX6_drought 12 = .ok (.istore_n 2, 1) := dk_61 (dk_at dksX6_drought_0 12 rfl rfl)
theorem dX6_drought_13 : decode cX6_drought 13 = .ok (.iconst 0, 1) := dk_3 (dk_at dksX6_drought_0 13 rfl rfl)
theorem dX6_drought_14 : decode cX6_drought 14 = .ok (.istore_n 3, 1) := dk_62 (dk_at dksX6_drought_0 14 rfl rfl)
theorem dX6_drought_15 : decode cX6_drought 15 = .ok (.iconst 0, 1) := dk_3 (dk_at dksX6_drought_0 15 rfl rfl)
theorem dX6_drought_16 : decode cX6_drought 16 = .ok (.istore 4, 2) := dk_54 4 (dk_at dksX6_drought_0 16 rfl rfl)
theorem dX6_drought_18 : decode cX6_drought 18 = .ok (.iload 4, 2) := dk_21 4 (dk_at dksX6_drought_0 18 rfl rfl)
theorem dX6_drought_20 : decode cX6_drought 20 = .ok (.bipush 60, 2) := dk_16 60 (dk_at dksX6_drought_0 20 rfl rfl)
theorem dX6_drought_22 : decode cX6_drought 22 = .ok (.if_icmp .gt 38, 3) := dk_163 0 38 (dk_at dksX6_drought_1 0 rfl rfl)
theorem dX6_drought_25 : decode cX6_drought 25 = .ok (.aload_n 0, 1) := dk_42 (dk_at dksX6_drought_1 3 rfl rfl)
theorem dX6_drought_26 : decode cX6_drought 26 = .ok (.getfield 40, 3) := dk_180 0 40 (dk_at dksX6_drought_1 4 rfl rfl)
theorem dX6_drought_29 : decode cX6_drought 29 = .ok (.iload 4, 2) := dk_21 4 (dk_at dksX6_drought_1 7 rfl rfl)
theorem dX6_drought_31 : decode cX6_drought 31 = .ok (.iaload, 1) := dk_46 (dk_at dksX6_drought_1 9 rfl rfl)
theorem dX6_drought_32 : decode cX6_drought 32 = .ok (.iload_n 1, 1) := dk_27 (dk_at dksX6_drought_1 10 rfl rfl)
theorem dX6_drought_33 : decode cX6_drought 33 = .ok (.invokestatic 262, 3) := dk_184 1 6 (dk_at dksX6_drought_1 11 rfl rfl)
theorem dX6_drought_36 : decode cX6_drought 36 = .ok (.iconst 1, 1) := dk_4 (dk_at dksX6_drought_1 14 rfl rfl)
theorem dX6_drought_37 : decode cX6_drought 37 = .ok (.if_icmp .ne 9, 3) := dk_160 0 9 (dk_at dksX6_drought_1 15 rfl rfl)
theorem dX6_drought_40 : decode cX6_drought 40 = .ok (.iload_n 3, 1) := dk_29 (dk_at dksX6_drought_1 18 rfl rfl)
theorem dX6_drought_41 : decode cX6_drought 41 = .ok (.iconst 1, 1) := dk_4 (dk_at dksX6_drought_1 19 rfl rfl)
theorem dX6_drought_42 : decode cX6_drought 42 = .ok (.iadd, 1) := dk_96 (dk_at dksX6_drought_1 20 rfl rfl)
theorem dX6_drought_43 : decode cX6_drought 43 = .ok (.goto 4, 3) := dk_167 0 4 (dk_at dksX6_drought_1 21 rfl rfl)
theorem dX6_drought_46 : decode cX6_drought 46 = .ok (.iconst 0, 1) := dk_3 (dk_at dksX6_drought_2 0 rfl rfl)
theorem dX6_drought_47 : decode cX6_drought 47 = .ok (.istore_n 3, 1) := dk_62 (dk_at dksX6_drought_2 1 rfl rfl)
theorem dX6_drought_48 : decode cX6_drought 48 = .ok (.iload_n 2, 1) := dk_28 (dk_at dksX6_drought_2 2 rfl rfl)
theorem dX6_drought_49 : decode cX6_drought 49 = .ok (.iload_n 3, 1) := dk_29 (dk_at dksX6_drought_2 3 rfl rfl)
theorem dX6_drought_50 : decode cX6_drought 50 = .ok (.invokestatic 235, 3) := dk_184 0 235 (dk_at dksX6_drought_2 4 rfl rfl)
theorem dX6_drought_53 : decode cX6_drought 53 = .ok (.istore_n 2, 1) := dk_61 (dk_at dksX6_drought_2 7 rfl rfl)
theorem dX6_drought_54 : decode cX6_drought 54 = .ok (.iinc 4 1, 3) := dk_132 4 1 (dk_at dksX6_drought_2 8 rfl rfl)
theorem dX6_drought_57 : decode cX6_drought 57 = .ok (.goto (-39), 3) := dk_167 255 217 (dk_at dksX6_drought_2 11 rfl rfl)
theorem dX6_drought_60 : decode cX6_drought 60 = .ok (.iload_n 2, 1) := dk_28 (dk_at dksX6_drought_2 14 rfl rfl)
theorem dX6_drought_61 : decode cX6_drought 61 = .ok (.ireturn, 1) := dk_172 (dk_at dksX6_drought_2 15 rfl rfl)
abbrev cX6_flows : ByteArray := prog_14_method_44_code
def yX6_flows : MethodName := ⟨RX6, "flows", "(I)I"⟩
def dkwX6_flows_1 : List UInt8 := [100, 42, 180, 0, 40, 27, 46, 2, 130, 126, 167, 0, 5, 16, 254, 172]
abbrev dktX6_flows_1 : List UInt8 := dkwX6_flows_1 ++ []
def dkwX6_flows_0 : List UInt8 := [42, 182, 0, 253, 153, 0, 33, 27, 133, 184, 1, 0, 153, 0, 25, 4, 42, 180, 0, 9, 6, 46, 120, 4]
abbrev dktX6_flows_0 : List UInt8 := dkwX6_flows_0 ++ dktX6_flows_1
theorem dksX6_flows_0 : cX6_flows.data.toList.drop 0 = dktX6_flows_0 := by decide +kernel
theorem dksX6_flows_1 : cX6_flows.data.toList.drop 24 = dktX6_flows_1 := dk_seg dksX6_flows_0 24 rfl rfl
theorem dX6_flows_0 : decode cX6_flows 0 = .ok (.aload_n 0, 1) := dk_42 (dk_at dksX6_flows_0 0 rfl rfl)
theorem dX6_flows_1 : decode cX6_flows 1 = .ok (.invokevirtual 253, 3) := dk_182 0 253 (dk_at dksX6_flows_0 1 rfl rfl)
theorem dX6_flows_4 : decode cX6_flows 4 = .ok (.ifCond .eq 33, 3) := dk_153 0 33 (dk_at dksX6_flows_0 4 rfl rfl)
theorem dX6_flows_7 : decode cX6_flows 7 = .ok (.iload_n 1, 1) := dk_27 (dk_at dksX6_flows_0 7 rfl rfl)
theorem dX6_flows_8 : decode cX6_flows 8 = .ok (.i2l, 1) := dk_133 (dk_at dksX6_flows_0 8 rfl rfl)
theorem dX6_flows_9 : decode cX6_flows 9 = .ok (.invokestatic 256, 3) := dk_184 1 0 (dk_at dksX6_flows_0 9 rfl rfl)
theorem dX6_flows_12 : decode cX6_flows 12 = .ok (.ifCond .eq 25, 3) := dk_153 0 25 (dk_at dksX6_flows_0 12 rfl rfl)
theorem dX6_flows_15 : decode cX6_flows 15 = .ok (.iconst 1, 1) := dk_4 (dk_at dksX6_flows_0 15 rfl rfl)
theorem dX6_flows_16 : decode cX6_flows 16 = .ok (.aload_n 0, 1) := dk_42 (dk_at dksX6_flows_0 16 rfl rfl)
theorem dX6_flows_17 : decode cX6_flows 17 = .ok (.getfield 9, 3) := dk_180 0 9 (dk_at dksX6_flows_0 17 rfl rfl)
theorem dX6_flows_20 : decode cX6_flows 20 = .ok (.iconst 3, 1) := dk_6 (dk_at dksX6_flows_0 20 rfl rfl)
theorem dX6_flows_21 : decode cX6_flows 21 = .ok (.iaload, 1) := dk_46 (dk_at dksX6_flows_0 21 rfl rfl)
theorem dX6_flows_22 : decode cX6_flows 22 = .ok (.ishl, 1) := dk_120 (dk_at dksX6_flows_0 22 rfl rfl)
theorem dX6_flows_23 : decode cX6_flows 23 = .ok (.iconst 1, 1) := dk_4 (dk_at dksX6_flows_0 23 rfl rfl)
theorem dX6_flows_24 : decode cX6_flows 24 = .ok (.isub, 1) := dk_100 (dk_at dksX6_flows_1 0 rfl rfl)
theorem dX6_flows_25 : decode cX6_flows 25 = .ok (.aload_n 0, 1) := dk_42 (dk_at dksX6_flows_1 1 rfl rfl)
theorem dX6_flows_26 : decode cX6_flows 26 = .ok (.getfield 40, 3) := dk_180 0 40 (dk_at dksX6_flows_1 2 rfl rfl)
theorem dX6_flows_29 : decode cX6_flows 29 = .ok (.iload_n 1, 1) := dk_27 (dk_at dksX6_flows_1 5 rfl rfl)
theorem dX6_flows_30 : decode cX6_flows 30 = .ok (.iaload, 1) := dk_46 (dk_at dksX6_flows_1 6 rfl rfl)
theorem dX6_flows_31 : decode cX6_flows 31 = .ok (.iconst (-1), 1) := dk_2 (dk_at dksX6_flows_1 7 rfl rfl)
theorem dX6_flows_32 : decode cX6_flows 32 = .ok (.ixor, 1) := dk_130 (dk_at dksX6_flows_1 8 rfl rfl)
theorem dX6_flows_33 : decode cX6_flows 33 = .ok (.iand, 1) := dk_126 (dk_at dksX6_flows_1 9 rfl rfl)
theorem dX6_flows_34 : decode cX6_flows 34 = .ok (.goto 5, 3) := dk_167 0 5 (dk_at dksX6_flows_1 10 rfl rfl)
theorem dX6_flows_37 : decode cX6_flows 37 = .ok (.bipush (-2), 2) := dk_16 254 (dk_at dksX6_flows_1 13 rfl rfl)
theorem dX6_flows_39 : decode cX6_flows 39 = .ok (.ireturn, 1) := dk_172 (dk_at dksX6_flows_1 15 rfl rfl)
abbrev cX6_idle : ByteArray := prog_14_method_45_code
def yX6_idle : MethodName := ⟨RX6, "idle", "(I)I"⟩
def dkwX6_idle_1 : List UInt8 := [180, 0, 40, 29, 46, 27, 184, 1, 6, 96, 61, 132, 3, 1, 167, 255, 234, 28, 172]
abbrev dktX6_idle_1 : List UInt8 := dkwX6_idle_1 ++ []
def dkwX6_idle_0 : List UInt8 := [42, 27, 182, 1, 3, 154, 0, 6, 16, 254, 172, 3, 61, 3, 62, 29, 16, 60, 163, 0, 22, 28, 42]
abbrev dktX6_idle_0 : List UInt8 := dkwX6_idle_0 ++ dktX6_idle_1
theorem dksX6_idle_0 : cX6_idle.data.toList.drop 0 = dktX6_idle_0 := by decide +kernel
theorem dksX6_idle_1 : cX6_idle.data.toList.drop 23 = dktX6_idle_1 := dk_seg dksX6_idle_0 23 rfl rfl
theorem dX6_idle_0 : decode cX6_idle 0 = .ok (.aload_n 0, 1) := dk_42 (dk_at dksX6_idle_0 0 rfl rfl)
theorem dX6_idle_1 : decode cX6_idle 1 = .ok (.iload_n 1, 1) := dk_27 (dk_at dksX6_idle_0 1 rfl rfl)
theorem dX6_idle_2 : decode cX6_idle 2 = .ok (.invokevirtual 259, 3) := dk_182 1 3 (dk_at dksX6_idle_0 2 rfl rfl)
theorem dX6_idle_5 : decode cX6_idle 5 = .ok (.ifCond .ne 6, 3) := dk_154 0 6 (dk_at dksX6_idle_0 5 rfl rfl)
theorem dX6_idle_8 : decode cX6_idle 8 = .ok (.bipush (-2), 2) := dk_16 254 (dk_at dksX6_idle_0 8 rfl rfl)
theorem dX6_idle_10 : decode cX6_idle 10 = .ok (.ireturn, 1) := dk_172 (dk_at dksX6_idle_0 10 rfl rfl)
theorem dX6_idle_11 : decode cX6_idle 11 = .ok (.iconst 0, 1) := dk_3 (dk_at dksX6_idle_0 11 rfl rfl)
theorem dX6_idle_12 : decode cX6_idle 12 = .ok (.istore_n 2, 1) := dk_61 (dk_at dksX6_idle_0 12 rfl rfl)
theorem dX6_idle_13 : decode cX6_idle 13 = .ok (.iconst 0, 1) := dk_3 (dk_at dksX6_idle_0 13 rfl rfl)
theorem dX6_idle_14 : decode cX6_idle 14 = .ok (.istore_n 3, 1) := dk_62 (dk_at dksX6_idle_0 14 rfl rfl)
theorem dX6_idle_15 : decode cX6_idle 15 = .ok (.iload_n 3, 1) := dk_29 (dk_at dksX6_idle_0 15 rfl rfl)
theorem dX6_idle_16 : decode cX6_idle 16 = .ok (.bipush 60, 2) := dk_16 60 (dk_at dksX6_idle_0 16 rfl rfl)
theorem dX6_idle_18 : decode cX6_idle 18 = .ok (.if_icmp .gt 22, 3) := dk_163 0 22 (dk_at dksX6_idle_0 18 rfl rfl)
theorem dX6_idle_21 : decode cX6_idle 21 = .ok (.iload_n 2, 1) := dk_28 (dk_at dksX6_idle_0 21 rfl rfl)
theorem dX6_idle_22 : decode cX6_idle 22 = .ok (.aload_n 0, 1) := dk_42 (dk_at dksX6_idle_0 22 rfl rfl)
theorem dX6_idle_23 : decode cX6_idle 23 = .ok (.getfield 40, 3) := dk_180 0 40 (dk_at dksX6_idle_1 0 rfl rfl)
theorem dX6_idle_26 : decode cX6_idle 26 = .ok (.iload_n 3, 1) := dk_29 (dk_at dksX6_idle_1 3 rfl rfl)
theorem dX6_idle_27 : decode cX6_idle 27 = .ok (.iaload, 1) := dk_46 (dk_at dksX6_idle_1 4 rfl rfl)
theorem dX6_idle_28 : decode cX6_idle 28 = .ok (.iload_n 1, 1) := dk_27 (dk_at dksX6_idle_1 5 rfl rfl)
theorem dX6_idle_29 : decode cX6_idle 29 = .ok (.invokestatic 262, 3) := dk_184 1 6 (dk_at dksX6_idle_1 6 rfl rfl)
theorem dX6_idle_32 : decode cX6_idle 32 = .ok (.iadd, 1) := dk_96 (dk_at dksX6_idle_1 9 rfl rfl)
theorem dX6_idle_33 : decode cX6_idle 33 = .ok (.istore_n 2, 1) := dk_61 (dk_at dksX6_idle_1 10 rfl rfl)
theorem dX6_idle_34 : decode cX6_idle 34 = .ok (.iinc 3 1, 3) := dk_132 3 1 (dk_at dksX6_idle_1 11 rfl rfl)
theorem dX6_idle_37 : decode cX6_idle 37 = .ok (.goto (-22), 3) := dk_167 255 234 (dk_at dksX6_idle_1 14 rfl rfl)
theorem dX6_idle_40 : decode cX6_idle 40 = .ok (.iload_n 2, 1) := dk_28 (dk_at dksX6_idle_1 17 rfl rfl)
theorem dX6_idle_41 : decode cX6_idle 41 = .ok (.ireturn, 1) := dk_172 (dk_at dksX6_idle_1 18 rfl rfl)
abbrev cX6_rained : ByteArray := prog_14_method_46_code
def yX6_rained : MethodName := ⟨RX6, "rained", "(I)I"⟩
def dkwX6_rained_1 : List UInt8 := [163, 0, 18, 28, 42, 180, 0, 34, 29, 46, 96, 61, 132, 3, 1, 167, 255, 239, 28, 172]
abbrev dktX6_rained_1 : List UInt8 := dkwX6_rained_1 ++ []
def dkwX6_rained_0 : List UInt8 := [42, 182, 0, 253, 153, 0, 11, 27, 133, 184, 1, 0, 154, 0, 6, 16, 254, 172, 3, 61, 3, 62, 29, 27]
abbrev dktX6_rained_0 : List UInt8 := dkwX6_rained_0 ++ dktX6_rained_1
theorem dksX6_rained_0 : cX6_rained.data.toList.drop 0 = dktX6_rained_0 := by decide +kernel
theorem dksX6_rained_1 : cX6_rained.data.toList.drop 24 = dktX6_rained_1 := dk_seg dksX6_rained_0 24 rfl rfl
theorem dX6_rained_0 : decode cX6_rained 0 = .ok (.aload_n 0, 1) := dk_42 (dk_at dksX6_rained_0 0 rfl rfl)
theorem dX6_rained_1 : decode cX6_rained 1 = .ok (.invokevirtual 253, 3) := dk_182 0 253 (dk_at dksX6_rained_0 1 rfl rfl)
theorem dX6_rained_4 : decode cX6_rained 4 = .ok (.ifCond .eq 11, 3) := dk_153 0 11 (dk_at dksX6_rained_0 4 rfl rfl)
theorem dX6_rained_7 : decode cX6_rained 7 = .ok (.iload_n 1, 1) := dk_27 (dk_at dksX6_rained_0 7 rfl rfl)
theorem dX6_rained_8 : decode cX6_rained 8 = .ok (.i2l, 1) := dk_133 (dk_at dksX6_rained_0 8 rfl rfl)
theorem dX6_rained_9 : decode cX6_rained 9 = .ok (.invokestatic 256, 3) := dk_184 1 0 (dk_at dksX6_rained_0 9 rfl rfl)
theorem dX6_rained_12 : decode cX6_rained 12 = .ok (.ifCond .ne 6, 3) := dk_154 0 6 (dk_at dksX6_rained_0 12 rfl rfl)
theorem dX6_rained_15 : decode cX6_rained 15 = .ok (.bipush (-2), 2) := dk_16 254 (dk_at dksX6_rained_0 15 rfl rfl)
theorem dX6_rained_17 : decode cX6_rained 17 = .ok (.ireturn, 1) := dk_172 (dk_at dksX6_rained_0 17 rfl rfl)
theorem dX6_rained_18 : decode cX6_rained 18 = .ok (.iconst 0, 1) := dk_3 (dk_at dksX6_rained_0 18 rfl rfl)
theorem dX6_rained_19 : decode cX6_rained 19 = .ok (.istore_n 2, 1) := dk_61 (dk_at dksX6_rained_0 19 rfl rfl)
theorem dX6_rained_20 : decode cX6_rained 20 = .ok (.iconst 0, 1) := dk_3 (dk_at dksX6_rained_0 20 rfl rfl)
theorem dX6_rained_21 : decode cX6_rained 21 = .ok (.istore_n 3, 1) := dk_62 (dk_at dksX6_rained_0 21 rfl rfl)
theorem dX6_rained_22 : decode cX6_rained 22 = .ok (.iload_n 3, 1) := dk_29 (dk_at dksX6_rained_0 22 rfl rfl)
theorem dX6_rained_23 : decode cX6_rained 23 = .ok (.iload_n 1, 1) := dk_27 (dk_at dksX6_rained_0 23 rfl rfl)
theorem dX6_rained_24 : decode cX6_rained 24 = .ok (.if_icmp .gt 18, 3) := dk_163 0 18 (dk_at dksX6_rained_1 0 rfl rfl)
theorem dX6_rained_27 : decode cX6_rained 27 = .ok (.iload_n 2, 1) := dk_28 (dk_at dksX6_rained_1 3 rfl rfl)
theorem dX6_rained_28 : decode cX6_rained 28 = .ok (.aload_n 0, 1) := dk_42 (dk_at dksX6_rained_1 4 rfl rfl)
theorem dX6_rained_29 : decode cX6_rained 29 = .ok (.getfield 34, 3) := dk_180 0 34 (dk_at dksX6_rained_1 5 rfl rfl)
theorem dX6_rained_32 : decode cX6_rained 32 = .ok (.iload_n 3, 1) := dk_29 (dk_at dksX6_rained_1 8 rfl rfl)
theorem dX6_rained_33 : decode cX6_rained 33 = .ok (.iaload, 1) := dk_46 (dk_at dksX6_rained_1 9 rfl rfl)
theorem dX6_rained_34 : decode cX6_rained 34 = .ok (.iadd, 1) := dk_96 (dk_at dksX6_rained_1 10 rfl rfl)
theorem dX6_rained_35 : decode cX6_rained 35 = .ok (.istore_n 2, 1) := dk_61 (dk_at dksX6_rained_1 11 rfl rfl)
theorem dX6_rained_36 : decode cX6_rained 36 = .ok (.iinc 3 1, 3) := dk_132 3 1 (dk_at dksX6_rained_1 12 rfl rfl)
theorem dX6_rained_39 : decode cX6_rained 39 = .ok (.goto (-17), 3) := dk_167 255 239 (dk_at dksX6_rained_1 15 rfl rfl)
theorem dX6_rained_42 : decode cX6_rained 42 = .ok (.iload_n 2, 1) := dk_28 (dk_at dksX6_rained_1 18 rfl rfl)
theorem dX6_rained_43 : decode cX6_rained 43 = .ok (.ireturn, 1) := dk_172 (dk_at dksX6_rained_1 19 rfl rfl)
abbrev cX6_lowest : ByteArray := prog_14_method_48_code
def yX6_lowest : MethodName := ⟨RX6, "lowest", "()I"⟩
def dkwX6_lowest_0 : List UInt8 := [42, 182, 0, 253, 153, 0, 10, 42, 182, 1, 9, 167, 0, 5, 16, 254, 172]
abbrev dktX6_lowest_0 : List UInt8 := dkwX6_lowest_0 ++ []
theorem dksX6_lowest_0 : cX6_lowest.data.toList.drop 0 = dktX6_lowest_0 := by decide +kernel
theorem dX6_lowest_0 : decode cX6_lowest 0 = .ok (.aload_n 0, 1) := dk_42 (dk_at dksX6_lowest_0 0 rfl rfl)
theorem dX6_lowest_1 : decode cX6_lowest 1 = .ok (.invokevirtual 253, 3) := dk_182 0 253 (dk_at dksX6_lowest_0 1 rfl rfl)
theorem dX6_lowest_4 : decode cX6_lowest 4 = .ok (.ifCond .eq 10, 3) := dk_153 0 10 (dk_at dksX6_lowest_0 4 rfl rfl)
theorem dX6_lowest_7 : decode cX6_lowest 7 = .ok (.aload_n 0, 1) := dk_42 (dk_at dksX6_lowest_0 7 rfl rfl)
theorem dX6_lowest_8 : decode cX6_lowest 8 = .ok (.invokevirtual 265, 3) := dk_182 1 9 (dk_at dksX6_lowest_0 8 rfl rfl)
theorem dX6_lowest_11 : decode cX6_lowest 11 = .ok (.goto 5, 3) := dk_167 0 5 (dk_at dksX6_lowest_0 11 rfl rfl)
theorem dX6_lowest_14 : decode cX6_lowest 14 = .ok (.bipush (-2), 2) := dk_16 254 (dk_at dksX6_lowest_0 14 rfl rfl)
theorem dX6_lowest_16 : decode cX6_lowest 16 = .ok (.ireturn, 1) := dk_172 (dk_at dksX6_lowest_0 16 rfl rfl)
abbrev cX6_lowestOf : ByteArray := prog_14_method_47_code
def yX6_lowestOf : MethodName := ⟨RX6, "lowestOf", "()I"⟩
def dkwX6_lowestOf_1 : List UInt8 := [162, 0, 7, 28, 167, 0, 4, 27, 60, 132, 2, 1, 167, 255, 226, 27, 172]
abbrev dktX6_lowestOf_1 : List UInt8 := dkwX6_lowestOf_1 ++ []
def dkwX6_lowestOf_0 : List UInt8 := [3, 60, 4, 61, 28, 16, 60, 163, 0, 30, 42, 180, 0, 37, 28, 46, 42, 180, 0, 37, 27, 46]
abbrev dktX6_lowestOf_0 : List UInt8 := dkwX6_lowestOf_0 ++ dktX6_lowestOf_1
theorem dksX6_lowestOf_0 : cX6_lowestOf.data.toList.drop 0 = dktX6_lowestOf_0 := by decide +kernel
theorem dksX6_lowestOf_1 : cX6_lowestOf.data.toList.drop 22 = dktX6_lowestOf_1 := dk_seg dksX6_lowestOf_0 22 rfl rfl
theorem dX6_lowestOf_0 : decode cX6_lowestOf 0 = .ok (.iconst 0, 1) := dk_3 (dk_at dksX6_lowestOf_0 0 rfl rfl)
theorem dX6_lowestOf_1 : decode cX6_lowestOf 1 = .ok (.istore_n 1, 1) := dk_60 (dk_at dksX6_lowestOf_0 1 rfl rfl)
theorem dX6_lowestOf_2 : decode cX6_lowestOf 2 = .ok (.iconst 1, 1) := dk_4 (dk_at dksX6_lowestOf_0 2 rfl rfl)
theorem dX6_lowestOf_3 : decode cX6_lowestOf 3 = .ok (.istore_n 2, 1) := dk_61 (dk_at dksX6_lowestOf_0 3 rfl rfl)
theorem dX6_lowestOf_4 : decode cX6_lowestOf 4 = .ok (.iload_n 2, 1) := dk_28 (dk_at dksX6_lowestOf_0 4 rfl rfl)
theorem dX6_lowestOf_5 : decode cX6_lowestOf 5 = .ok (.bipush 60, 2) := dk_16 60 (dk_at dksX6_lowestOf_0 5 rfl rfl)
theorem dX6_lowestOf_7 : decode cX6_lowestOf 7 = .ok (.if_icmp .gt 30, 3) := dk_163 0 30 (dk_at dksX6_lowestOf_0 7 rfl rfl)
theorem dX6_lowestOf_10 : decode cX6_lowestOf 10 = .ok (.aload_n 0, 1) := dk_42 (dk_at dksX6_lowestOf_0 10 rfl rfl)
theorem dX6_lowestOf_11 : decode cX6_lowestOf 11 = .ok (.getfield 37, 3) := dk_180 0 37 (dk_at dksX6_lowestOf_0 11 rfl rfl)
theorem dX6_lowestOf_14 : decode cX6_lowestOf 14 = .ok (.iload_n 2, 1) := dk_28 (dk_at dksX6_lowestOf_0 14 rfl rfl)
theorem dX6_lowestOf_15 : decode cX6_lowestOf 15 = .ok (.iaload, 1) := dk_46 (dk_at dksX6_lowestOf_0 15 rfl rfl)
theorem dX6_lowestOf_16 : decode cX6_lowestOf 16 = .ok (.aload_n 0, 1) := dk_42 (dk_at dksX6_lowestOf_0 16 rfl rfl)
theorem dX6_lowestOf_17 : decode cX6_lowestOf 17 = .ok (.getfield 37, 3) := dk_180 0 37 (dk_at dksX6_lowestOf_0 17 rfl rfl)
theorem dX6_lowestOf_20 : decode cX6_lowestOf 20 = .ok (.iload_n 1, 1) := dk_27 (dk_at dksX6_lowestOf_0 20 rfl rfl)
theorem dX6_lowestOf_21 : decode cX6_lowestOf 21 = .ok (.iaload, 1) := dk_46 (dk_at dksX6_lowestOf_0 21 rfl rfl)
theorem dX6_lowestOf_22 : decode cX6_lowestOf 22 = .ok (.if_icmp .ge 7, 3) := dk_162 0 7 (dk_at dksX6_lowestOf_1 0 rfl rfl)
theorem dX6_lowestOf_25 : decode cX6_lowestOf 25 = .ok (.iload_n 2, 1) := dk_28 (dk_at dksX6_lowestOf_1 3 rfl rfl)
theorem dX6_lowestOf_26 : decode cX6_lowestOf 26 = .ok (.goto 4, 3) := dk_167 0 4 (dk_at dksX6_lowestOf_1 4 rfl rfl)
theorem dX6_lowestOf_29 : decode cX6_lowestOf 29 = .ok (.iload_n 1, 1) := dk_27 (dk_at dksX6_lowestOf_1 7 rfl rfl)
theorem dX6_lowestOf_30 : decode cX6_lowestOf 30 = .ok (.istore_n 1, 1) := dk_60 (dk_at dksX6_lowestOf_1 8 rfl rfl)
theorem dX6_lowestOf_31 : decode cX6_lowestOf 31 = .ok (.iinc 2 1, 3) := dk_132 2 1 (dk_at dksX6_lowestOf_1 9 rfl rfl)
theorem dX6_lowestOf_34 : decode cX6_lowestOf 34 = .ok (.goto (-30), 3) := dk_167 255 226 (dk_at dksX6_lowestOf_1 12 rfl rfl)
theorem dX6_lowestOf_37 : decode cX6_lowestOf 37 = .ok (.iload_n 1, 1) := dk_27 (dk_at dksX6_lowestOf_1 15 rfl rfl)
theorem dX6_lowestOf_38 : decode cX6_lowestOf 38 = .ok (.ireturn, 1) := dk_172 (dk_at dksX6_lowestOf_1 16 rfl rfl)
abbrev cX6_deeper : ByteArray := prog_14_method_49_code
def yX6_deeper : MethodName := ⟨RX6, "deeper", "()I"⟩
def dkwX6_deeper_1 : List UInt8 := [16, 254, 172]
abbrev dktX6_deeper_1 : List UInt8 := dkwX6_deeper_1 ++ []
def dkwX6_deeper_0 : List UInt8 := [42, 182, 0, 253, 153, 0, 20, 16, 20, 42, 180, 0, 37, 42, 182, 1, 9, 46, 184, 0, 129, 167, 0, 5]
abbrev dktX6_deeper_0 : List UInt8 := dkwX6_deeper_0 ++ dktX6_deeper_1
theorem dksX6_deeper_0 : cX6_deeper.data.toList.drop 0 = dktX6_deeper_0 := by decide +kernel
theorem dksX6_deeper_1 : cX6_deeper.data.toList.drop 24 = dktX6_deeper_1 := dk_seg dksX6_deeper_0 24 rfl rfl
theorem dX6_deeper_0 : decode cX6_deeper 0 = .ok (.aload_n 0, 1) := dk_42 (dk_at dksX6_deeper_0 0 rfl rfl)
theorem dX6_deeper_1 : decode cX6_deeper 1 = .ok (.invokevirtual 253, 3) := dk_182 0 253 (dk_at dksX6_deeper_0 1 rfl rfl)
theorem dX6_deeper_4 : decode cX6_deeper 4 = .ok (.ifCond .eq 20, 3) := dk_153 0 20 (dk_at dksX6_deeper_0 4 rfl rfl)
theorem dX6_deeper_7 : decode cX6_deeper 7 = .ok (.bipush 20, 2) := dk_16 20 (dk_at dksX6_deeper_0 7 rfl rfl)
theorem dX6_deeper_9 : decode cX6_deeper 9 = .ok (.aload_n 0, 1) := dk_42 (dk_at dksX6_deeper_0 9 rfl rfl)
theorem dX6_deeper_10 : decode cX6_deeper 10 = .ok (.getfield 37, 3) := dk_180 0 37 (dk_at dksX6_deeper_0 10 rfl rfl)
theorem dX6_deeper_13 : decode cX6_deeper 13 = .ok (.aload_n 0, 1) := dk_42 (dk_at dksX6_deeper_0 13 rfl rfl)
theorem dX6_deeper_14 : decode cX6_deeper 14 = .ok (.invokevirtual 265, 3) := dk_182 1 9 (dk_at dksX6_deeper_0 14 rfl rfl)
theorem dX6_deeper_17 : decode cX6_deeper 17 = .ok (.iaload, 1) := dk_46 (dk_at dksX6_deeper_0 17 rfl rfl)
theorem dX6_deeper_18 : decode cX6_deeper 18 = .ok (.invokestatic 129, 3) := dk_184 0 129 (dk_at dksX6_deeper_0 18 rfl rfl)
theorem dX6_deeper_21 : decode cX6_deeper 21 = .ok (.goto 5, 3) := dk_167 0 5 (dk_at dksX6_deeper_0 21 rfl rfl)
theorem dX6_deeper_24 : decode cX6_deeper 24 = .ok (.bipush (-2), 2) := dk_16 254 (dk_at dksX6_deeper_1 0 rfl rfl)
theorem dX6_deeper_26 : decode cX6_deeper 26 = .ok (.ireturn, 1) := dk_172 (dk_at dksX6_deeper_1 2 rfl rfl)
abbrev cX6_mouths : ByteArray := prog_14_method_50_code
def yX6_mouths : MethodName := ⟨RX6, "mouths", "()I"⟩
def dkwX6_mouths_2 : List UInt8 := [167, 255, 223, 27, 172]
abbrev dktX6_mouths_2 : List UInt8 := dkwX6_mouths_2 ++ []
def dkwX6_mouths_1 : List UInt8 := [27, 42, 28, 3, 182, 0, 223, 2, 160, 0, 9, 4, 28, 120, 167, 0, 4, 3, 128, 60, 132, 2, 1]
abbrev dktX6_mouths_1 : List UInt8 := dkwX6_mouths_1 ++ dktX6_mouths_2
def dkwX6_mouths_0 : List UInt8 := [42, 182, 0, 250, 154, 0, 6, 16, 254, 172, 3, 60, 3, 61, 28, 42, 180, 0, 9, 6, 46, 162, 0, 29]
abbrev dktX6_mouths_0 : List UInt8 := dkwX6_mouths_0 ++ dktX6_mouths_1
theorem dksX6_mouths_0 : cX6_mouths.data.toList.drop 0 = dktX6_mouths_0 := by decide +kernel
theorem dksX6_mouths_1 : cX6_mouths.data.toList.drop 24 = dktX6_mouths_1 := dk_seg dksX6_mouths_0 24 rfl rfl
theorem dksX6_mouths_2 : cX6_mouths.data.toList.drop 47 = dktX6_mouths_2 := dk_seg dksX6_mouths_1 23 rfl rfl
theorem dX6_mouths_0 : decode cX6_mouths 0 = .ok (.aload_n 0, 1) := dk_42 (dk_at dksX6_mouths_0 0 rfl rfl)
theorem dX6_mouths_1 : decode cX6_mouths 1 = .ok (.invokevirtual 250, 3) := dk_182 0 250 (dk_at dksX6_mouths_0 1 rfl rfl)
theorem dX6_mouths_4 : decode cX6_mouths 4 = .ok (.ifCond .ne 6, 3) := dk_154 0 6 (dk_at dksX6_mouths_0 4 rfl rfl)
theorem dX6_mouths_7 : decode cX6_mouths 7 = .ok (.bipush (-2), 2) := dk_16 254 (dk_at dksX6_mouths_0 7 rfl rfl)
theorem dX6_mouths_9 : decode cX6_mouths 9 = .ok (.ireturn, 1) := dk_172 (dk_at dksX6_mouths_0 9 rfl rfl)
theorem dX6_mouths_10 : decode cX6_mouths 10 = .ok (.iconst 0, 1) := dk_3 (dk_at dksX6_mouths_0 10 rfl rfl)
theorem dX6_mouths_11 : decode cX6_mouths 11 = .ok (.istore_n 1, 1) := dk_60 (dk_at dksX6_mouths_0 11 rfl rfl)
theorem dX6_mouths_12 : decode cX6_mouths 12 = .ok (.iconst 0, 1) := dk_3 (dk_at dksX6_mouths_0 12 rfl rfl)
theorem dX6_mouths_13 : decode cX6_mouths 13 = .ok (.istore_n 2, 1) := dk_61 (dk_at dksX6_mouths_0 13 rfl rfl)
theorem dX6_mouths_14 : decode cX6_mouths 14 = .ok (.iload_n 2, 1) := dk_28 (dk_at dksX6_mouths_0 14 rfl rfl)
theorem dX6_mouths_15 : decode cX6_mouths 15 = .ok (.aload_n 0, 1) := dk_42 (dk_at dksX6_mouths_0 15 rfl rfl)
theorem dX6_mouths_16 : decode cX6_mouths 16 = .ok (.getfield 9, 3) := dk_180 0 9 (dk_at dksX6_mouths_0 16 rfl rfl)
theorem dX6_mouths_19 : decode cX6_mouths 19 = .ok (.iconst 3, 1) := dk_6 (dk_at dksX6_mouths_0 19 rfl rfl)
theorem dX6_mouths_20 : decode cX6_mouths 20 = .ok (.iaload, 1) := dk_46 (dk_at dksX6_mouths_0 20 rfl rfl)
theorem dX6_mouths_21 : decode cX6_mouths 21 = .ok (.if_icmp .ge 29, 3) := dk_162 0 29 (dk_at dksX6_mouths_0 21 rfl rfl)
theorem dX6_mouths_24 : decode cX6_mouths 24 = .ok (.iload_n 1, 1) := dk_27 (dk_at dksX6_mouths_1 0 rfl rfl)
theorem dX6_mouths_25 : decode cX6_mouths 25 = .ok (.aload_n 0, 1) := dk_42 (dk_at dksX6_mouths_1 1 rfl rfl)
theorem dX6_mouths_26 : decode cX6_mouths 26 = .ok (.iload_n 2, 1) := dk_28 (dk_at dksX6_mouths_1 2 rfl rfl)
theorem dX6_mouths_27 : decode cX6_mouths 27 = .ok (.iconst 0, 1) := dk_3 (dk_at dksX6_mouths_1 3 rfl rfl)
theorem dX6_mouths_28 : decode cX6_mouths 28 = .ok (.invokevirtual 223, 3) := dk_182 0 223 (dk_at dksX6_mouths_1 4 rfl rfl)
theorem dX6_mouths_31 : decode cX6_mouths 31 = .ok (.iconst (-1), 1) := dk_2 (dk_at dksX6_mouths_1 7 rfl rfl)
theorem dX6_mouths_32 : decode cX6_mouths 32 = .ok (.if_icmp .ne 9, 3) := dk_160 0 9 (dk_at dksX6_mouths_1 8 rfl rfl)
theorem dX6_mouths_35 : decode cX6_mouths 35 = .ok (.iconst 1, 1) := dk_4 (dk_at dksX6_mouths_1 11 rfl rfl)
theorem dX6_mouths_36 : decode cX6_mouths 36 = .ok (.iload_n 2, 1) := dk_28 (dk_at dksX6_mouths_1 12 rfl rfl)
theorem dX6_mouths_37 : decode cX6_mouths 37 = .ok (.ishl, 1) := dk_120 (dk_at dksX6_mouths_1 13 rfl rfl)
theorem dX6_mouths_38 : decode cX6_mouths 38 = .ok (.goto 4, 3) := dk_167 0 4 (dk_at dksX6_mouths_1 14 rfl rfl)
theorem dX6_mouths_41 : decode cX6_mouths 41 = .ok (.iconst 0, 1) := dk_3 (dk_at dksX6_mouths_1 17 rfl rfl)
theorem dX6_mouths_42 : decode cX6_mouths 42 = .ok (.ior, 1) := dk_128 (dk_at dksX6_mouths_1 18 rfl rfl)
theorem dX6_mouths_43 : decode cX6_mouths 43 = .ok (.istore_n 1, 1) := dk_60 (dk_at dksX6_mouths_1 19 rfl rfl)
theorem dX6_mouths_44 : decode cX6_mouths 44 = .ok (.iinc 2 1, 3) := dk_132 2 1 (dk_at dksX6_mouths_1 20 rfl rfl)
theorem dX6_mouths_47 : decode cX6_mouths 47 = .ok (.goto (-33), 3) := dk_167 255 223 (dk_at dksX6_mouths_2 0 rfl rfl)
theorem dX6_mouths_50 : decode cX6_mouths 50 = .ok (.iload_n 1, 1) := dk_27 (dk_at dksX6_mouths_2 3 rfl rfl)
theorem dX6_mouths_51 : decode cX6_mouths 51 = .ok (.ireturn, 1) := dk_172 (dk_at dksX6_mouths_2 4 rfl rfl)
abbrev cX6_springs : ByteArray := prog_14_method_51_code
def yX6_springs : MethodName := ⟨RX6, "springs", "()I"⟩
def dkwX6_springs_4 : List UInt8 := [130, 126, 172]
abbrev dktX6_springs_4 : List UInt8 := dkwX6_springs_4 ++ []
def dkwX6_springs_3 : List UInt8 := [182, 0, 232, 120, 128, 60, 132, 2, 1, 167, 255, 232, 4, 42, 180, 0, 9, 6, 46, 120, 4, 100, 27, 2]
abbrev dktX6_springs_3 : List UInt8 := dkwX6_springs_3 ++ dktX6_springs_4
def dkwX6_springs_2 : List UInt8 := [60, 132, 2, 1, 167, 255, 218, 3, 61, 28, 42, 180, 0, 9, 7, 46, 162, 0, 20, 27, 4, 42, 28, 4]
abbrev dktX6_springs_2 : List UInt8 := dkwX6_springs_2 ++ dktX6_springs_3
def dkwX6_springs_1 : List UInt8 := [27, 42, 28, 3, 182, 0, 223, 2, 160, 0, 7, 3, 167, 0, 11, 4, 42, 28, 3, 182, 0, 223, 120, 128]
abbrev dktX6_springs_1 : List UInt8 := dkwX6_springs_1 ++ dktX6_springs_2
def dkwX6_springs_0 : List UInt8 := [42, 182, 0, 250, 154, 0, 6, 16, 254, 172, 3, 60, 3, 61, 28, 42, 180, 0, 9, 6, 46, 162, 0, 34]
abbrev dktX6_springs_0 : List UInt8 := dkwX6_springs_0 ++ dktX6_springs_1
theorem dksX6_springs_0 : cX6_springs.data.toList.drop 0 = dktX6_springs_0 := by decide +kernel
theorem dksX6_springs_1 : cX6_springs.data.toList.drop 24 = dktX6_springs_1 := dk_seg dksX6_springs_0 24 rfl rfl
theorem dksX6_springs_2 : cX6_springs.data.toList.drop 48 = dktX6_springs_2 := dk_seg dksX6_springs_1 24 rfl rfl
theorem dksX6_springs_3 : cX6_springs.data.toList.drop 72 = dktX6_springs_3 := dk_seg dksX6_springs_2 24 rfl rfl
theorem dksX6_springs_4 : cX6_springs.data.toList.drop 96 = dktX6_springs_4 := dk_seg dksX6_springs_3 24 rfl rfl
theorem dX6_springs_0 : decode cX6_springs 0 = .ok (.aload_n 0, 1) := dk_42 (dk_at dksX6_springs_0 0 rfl rfl)
theorem dX6_springs_1 : decode cX6_springs 1 = .ok (.invokevirtual 250, 3) := dk_182 0 250 (dk_at dksX6_springs_0 1 rfl rfl)
theorem dX6_springs_4 : decode cX6_springs 4 = .ok (.ifCond .ne 6, 3) := dk_154 0 6 (dk_at dksX6_springs_0 4 rfl rfl)
theorem dX6_springs_7 : decode cX6_springs 7 = .ok (.bipush (-2), 2) := dk_16 254 (dk_at dksX6_springs_0 7 rfl rfl)
theorem dX6_springs_9 : decode cX6_springs 9 = .ok (.ireturn, 1) := dk_172 (dk_at dksX6_springs_0 9 rfl rfl)
theorem dX6_springs_10 : decode cX6_springs 10 = .ok (.iconst 0, 1) := dk_3 (dk_at dksX6_springs_0 10 rfl rfl)
theorem dX6_springs_11 : decode cX6_springs 11 = .ok (.istore_n 1, 1) := dk_60 (dk_at dksX6_springs_0 11 rfl rfl)
theorem dX6_springs_12 : decode cX6_springs 12 = .ok (.iconst 0, 1) := dk_3 (dk_at dksX6_springs_0 12 rfl rfl)
theorem dX6_springs_13 : decode cX6_springs 13 = .ok (.istore_n 2, 1) := dk_61 (dk_at dksX6_springs_0 13 rfl rfl)
theorem dX6_springs_14 : decode cX6_springs 14 = .ok (.iload_n 2, 1) := dk_28 (dk_at dksX6_springs_0 14 rfl rfl)
theorem dX6_springs_15 : decode cX6_springs 15 = .ok (.aload_n 0, 1) := dk_42 (dk_at dksX6_springs_0 15 rfl rfl)
theorem dX6_springs_16 : decode cX6_springs 16 = .ok (.getfield 9, 3) := dk_180 0 9 (dk_at dksX6_springs_0 16 rfl rfl)
theorem dX6_springs_19 : decode cX6_springs 19 = .ok (.iconst 3, 1) := dk_6 (dk_at dksX6_springs_0 19 rfl rfl)
theorem dX6_springs_20 : decode cX6_springs 20 = .ok (.iaload, 1) := dk_46 (dk_at dksX6_springs_0 20 rfl rfl)
theorem dX6_springs_21 : decode cX6_springs 21 = .ok (.if_icmp .ge 34, 3) := dk_162 0 34 (dk_at dksX6_springs_0 21 rfl rfl)
theorem dX6_springs_24 : decode cX6_springs 24 = .ok (.iload_n 1, 1) := dk_27 (dk_at dksX6_springs_1 0 rfl rfl)
theorem dX6_springs_25 : decode cX6_springs 25 = .ok (.aload_n 0, 1) := dk_42 (dk_at dksX6_springs_1 1 rfl rfl)
theorem dX6_springs_26 : decode cX6_springs 26 = .ok (.iload_n 2, 1) := dk_28 (dk_at dksX6_springs_1 2 rfl rfl)
theorem dX6_springs_27 : decode cX6_springs 27 = .ok (.iconst 0, 1) := dk_3 (dk_at dksX6_springs_1 3 rfl rfl)
theorem dX6_springs_28 : decode cX6_springs 28 = .ok (.invokevirtual 223, 3) := dk_182 0 223 (dk_at dksX6_springs_1 4 rfl rfl)
theorem dX6_springs_31 : decode cX6_springs 31 = .ok (.iconst (-1), 1) := dk_2 (dk_at dksX6_springs_1 7 rfl rfl)
theorem dX6_springs_32 : decode cX6_springs 32 = .ok (.if_icmp .ne 7, 3) := dk_160 0 7 (dk_at dksX6_springs_1 8 rfl rfl)
theorem dX6_springs_35 : decode cX6_springs 35 = .ok (.iconst 0, 1) := dk_3 (dk_at dksX6_springs_1 11 rfl rfl)
theorem dX6_springs_36 : decode cX6_springs 36 = .ok (.goto 11, 3) := dk_167 0 11 (dk_at dksX6_springs_1 12 rfl rfl)
theorem dX6_springs_39 : decode cX6_springs 39 = .ok (.iconst 1, 1) := dk_4 (dk_at dksX6_springs_1 15 rfl rfl)
theorem dX6_springs_40 : decode cX6_springs 40 = .ok (.aload_n 0, 1) := dk_42 (dk_at dksX6_springs_1 16 rfl rfl)
theorem dX6_springs_41 : decode cX6_springs 41 = .ok (.iload_n 2, 1) := dk_28 (dk_at dksX6_springs_1 17 rfl rfl)
theorem dX6_springs_42 : decode cX6_springs 42 = .ok (.iconst 0, 1) := dk_3 (dk_at dksX6_springs_1 18 rfl rfl)
theorem dX6_springs_43 : decode cX6_springs 43 = .ok (.invokevirtual 223, 3) := dk_182 0 223 (dk_at dksX6_springs_1 19 rfl rfl)
theorem dX6_springs_46 : decode cX6_springs 46 = .ok (.ishl, 1) := dk_120 (dk_at dksX6_springs_1 22 rfl rfl)
theorem dX6_springs_47 : decode cX6_springs 47 = .ok (.ior, 1) := dk_128 (dk_at dksX6_springs_1 23 rfl rfl)
theorem dX6_springs_48 : decode cX6_springs 48 = .ok (.istore_n 1, 1) := dk_60 (dk_at dksX6_springs_2 0 rfl rfl)
theorem dX6_springs_49 : decode cX6_springs 49 = .ok (.iinc 2 1, 3) := dk_132 2 1 (dk_at dksX6_springs_2 1 rfl rfl)
theorem dX6_springs_52 : decode cX6_springs 52 = .ok (.goto (-38), 3) := dk_167 255 218 (dk_at dksX6_springs_2 4 rfl rfl)
theorem dX6_springs_55 : decode cX6_springs 55 = .ok (.iconst 0, 1) := dk_3 (dk_at dksX6_springs_2 7 rfl rfl)
theorem dX6_springs_56 : decode cX6_springs 56 = .ok (.istore_n 2, 1) := dk_61 (dk_at dksX6_springs_2 8 rfl rfl)
theorem dX6_springs_57 : decode cX6_springs 57 = .ok (.iload_n 2, 1) := dk_28 (dk_at dksX6_springs_2 9 rfl rfl)
theorem dX6_springs_58 : decode cX6_springs 58 = .ok (.aload_n 0, 1) := dk_42 (dk_at dksX6_springs_2 10 rfl rfl)
theorem dX6_springs_59 : decode cX6_springs 59 = .ok (.getfield 9, 3) := dk_180 0 9 (dk_at dksX6_springs_2 11 rfl rfl)
theorem dX6_springs_62 : decode cX6_springs 62 = .ok (.iconst 4, 1) := dk_7 (dk_at dksX6_springs_2 14 rfl rfl)
theorem dX6_springs_63 : decode cX6_springs 63 = .ok (.iaload, 1) := dk_46 (dk_at dksX6_springs_2 15 rfl rfl)
theorem dX6_springs_64 : decode cX6_springs 64 = .ok (.if_icmp .ge 20, 3) := dk_162 0 20 (dk_at dksX6_springs_2 16 rfl rfl)
theorem dX6_springs_67 : decode cX6_springs 67 = .ok (.iload_n 1, 1) := dk_27 (dk_at dksX6_springs_2 19 rfl rfl)
theorem dX6_springs_68 : decode cX6_springs 68 = .ok (.iconst 1, 1) := dk_4 (dk_at dksX6_springs_2 20 rfl rfl)
theorem dX6_springs_69 : decode cX6_springs 69 = .ok (.aload_n 0, 1) := dk_42 (dk_at dksX6_springs_2 21 rfl rfl)
theorem dX6_springs_70 : decode cX6_springs 70 = .ok (.iload_n 2, 1) := dk_28 (dk_at dksX6_springs_2 22 rfl rfl)
theorem dX6_springs_71 : decode cX6_springs 71 = .ok (.iconst 1, 1) := dk_4 (dk_at dksX6_springs_2 23 rfl rfl)
theorem dX6_springs_72 : decode cX6_springs 72 = .ok (.invokevirtual 232, 3) := dk_182 0 232 (dk_at dksX6_springs_3 0 rfl rfl)
theorem dX6_springs_75 : decode cX6_springs 75 = .ok (.ishl, 1) := dk_120 (dk_at dksX6_springs_3 3 rfl rfl)
theorem dX6_springs_76 : decode cX6_springs 76 = .ok (.ior, 1) := dk_128 (dk_at dksX6_springs_3 4 rfl rfl)
theorem dX6_springs_77 : decode cX6_springs 77 = .ok (.istore_n 1, 1) := dk_60 (dk_at dksX6_springs_3 5 rfl rfl)
theorem dX6_springs_78 : decode cX6_springs 78 = .ok (.iinc 2 1, 3) := dk_132 2 1 (dk_at dksX6_springs_3 6 rfl rfl)
theorem dX6_springs_81 : decode cX6_springs 81 = .ok (.goto (-24), 3) := dk_167 255 232 (dk_at dksX6_springs_3 9 rfl rfl)
theorem dX6_springs_84 : decode cX6_springs 84 = .ok (.iconst 1, 1) := dk_4 (dk_at dksX6_springs_3 12 rfl rfl)
theorem dX6_springs_85 : decode cX6_springs 85 = .ok (.aload_n 0, 1) := dk_42 (dk_at dksX6_springs_3 13 rfl rfl)
theorem dX6_springs_86 : decode cX6_springs 86 = .ok (.getfield 9, 3) := dk_180 0 9 (dk_at dksX6_springs_3 14 rfl rfl)
theorem dX6_springs_89 : decode cX6_springs 89 = .ok (.iconst 3, 1) := dk_6 (dk_at dksX6_springs_3 17 rfl rfl)
theorem dX6_springs_90 : decode cX6_springs 90 = .ok (.iaload, 1) := dk_46 (dk_at dksX6_springs_3 18 rfl rfl)
theorem dX6_springs_91 : decode cX6_springs 91 = .ok (.ishl, 1) := dk_120 (dk_at dksX6_springs_3 19 rfl rfl)
theorem dX6_springs_92 : decode cX6_springs 92 = .ok (.iconst 1, 1) := dk_4 (dk_at dksX6_springs_3 20 rfl rfl)
theorem dX6_springs_93 : decode cX6_springs 93 = .ok (.isub, 1) := dk_100 (dk_at dksX6_springs_3 21 rfl rfl)
theorem dX6_springs_94 : decode cX6_springs 94 = .ok (.iload_n 1, 1) := dk_27 (dk_at dksX6_springs_3 22 rfl rfl)
theorem dX6_springs_95 : decode cX6_springs 95 = .ok (.iconst (-1), 1) := dk_2 (dk_at dksX6_springs_3 23 rfl rfl)
theorem dX6_springs_96 : decode cX6_springs 96 = .ok (.ixor, 1) := dk_130 (dk_at dksX6_springs_4 0 rfl rfl)
theorem dX6_springs_97 : decode cX6_springs 97 = .ok (.iand, 1) := dk_126 (dk_at dksX6_springs_4 1 rfl rfl)
theorem dX6_springs_98 : decode cX6_springs 98 = .ok (.ireturn, 1) := dk_172 (dk_at dksX6_springs_4 2 rfl rfl)
abbrev cX6_depth : ByteArray := prog_14_method_52_code
def yX6_depth : MethodName := ⟨RX6, "depth", "(I)I"⟩
def dkwX6_depth_1 : List UInt8 := [3, 182, 0, 223, 61, 28, 2, 160, 0, 5, 29, 172, 132, 3, 1, 167, 255, 233, 2, 172]
abbrev dktX6_depth_1 : List UInt8 := dkwX6_depth_1 ++ []
def dkwX6_depth_0 : List UInt8 := [42, 27, 133, 182, 0, 219, 154, 0, 6, 16, 254, 172, 27, 61, 4, 62, 29, 16, 10, 163, 0, 23, 42, 28]
abbrev dktX6_depth_0 : List UInt8 := dkwX6_depth_0 ++ dktX6_depth_1
theorem dksX6_depth_0 : cX6_depth.data.toList.drop 0 = dktX6_depth_0 := by decide +kernel
theorem dksX6_depth_1 : cX6_depth.data.toList.drop 24 = dktX6_depth_1 := dk_seg dksX6_depth_0 24 rfl rfl
theorem dX6_depth_0 : decode cX6_depth 0 = .ok (.aload_n 0, 1) := dk_42 (dk_at dksX6_depth_0 0 rfl rfl)
theorem dX6_depth_1 : decode cX6_depth 1 = .ok (.iload_n 1, 1) := dk_27 (dk_at dksX6_depth_0 1 rfl rfl)
theorem dX6_depth_2 : decode cX6_depth 2 = .ok (.i2l, 1) := dk_133 (dk_at dksX6_depth_0 2 rfl rfl)
theorem dX6_depth_3 : decode cX6_depth 3 = .ok (.invokevirtual 219, 3) := dk_182 0 219 (dk_at dksX6_depth_0 3 rfl rfl)
theorem dX6_depth_6 : decode cX6_depth 6 = .ok (.ifCond .ne 6, 3) := dk_154 0 6 (dk_at dksX6_depth_0 6 rfl rfl)
theorem dX6_depth_9 : decode cX6_depth 9 = .ok (.bipush (-2), 2) := dk_16 254 (dk_at dksX6_depth_0 9 rfl rfl)
theorem dX6_depth_11 : decode cX6_depth 11 = .ok (.ireturn, 1) := dk_172 (dk_at dksX6_depth_0 11 rfl rfl)
theorem dX6_depth_12 : decode cX6_depth 12 = .ok (.iload_n 1, 1) := dk_27 (dk_at dksX6_depth_0 12 rfl rfl)
theorem dX6_depth_13 : decode cX6_depth 13 = .ok (.istore_n 2, 1) := dk_61 (dk_at dksX6_depth_0 13 rfl rfl)
theorem dX6_depth_14 : decode cX6_depth 14 = .ok (.iconst 1, 1) := dk_4 (dk_at dksX6_depth_0 14 rfl rfl)
theorem dX6_depth_15 : decode cX6_depth 15 = .ok (.istore_n 3, 1) := dk_62 (dk_at dksX6_depth_0 15 rfl rfl)
theorem dX6_depth_16 : decode cX6_depth 16 = .ok (.iload_n 3, 1) := dk_29 (dk_at dksX6_depth_0 16 rfl rfl)
theorem dX6_depth_17 : decode cX6_depth 17 = .ok (.bipush 10, 2) := dk_16 10 (dk_at dksX6_depth_0 17 rfl rfl)
theorem dX6_depth_19 : decode cX6_depth 19 = .ok (.if_icmp .gt 23, 3) := dk_163 0 23 (dk_at dksX6_depth_0 19 rfl rfl)
theorem dX6_depth_22 : decode cX6_depth 22 = .ok (.aload_n 0, 1) := dk_42 (dk_at dksX6_depth_0 22 rfl rfl)
theorem dX6_depth_23 : decode cX6_depth 23 = .ok (.iload_n 2, 1) := dk_28 (dk_at dksX6_depth_0 23 rfl rfl)
theorem dX6_depth_24 : decode cX6_depth 24 = .ok (.iconst 0, 1) := dk_3 (dk_at dksX6_depth_1 0 rfl rfl)
theorem dX6_depth_25 : decode cX6_depth 25 = .ok (.invokevirtual 223, 3) := dk_182 0 223 (dk_at dksX6_depth_1 1 rfl rfl)
theorem dX6_depth_28 : decode cX6_depth 28 = .ok (.istore_n 2, 1) := dk_61 (dk_at dksX6_depth_1 4 rfl rfl)
theorem dX6_depth_29 : decode cX6_depth 29 = .ok (.iload_n 2, 1) := dk_28 (dk_at dksX6_depth_1 5 rfl rfl)
theorem dX6_depth_30 : decode cX6_depth 30 = .ok (.iconst (-1), 1) := dk_2 (dk_at dksX6_depth_1 6 rfl rfl)
theorem dX6_depth_31 : decode cX6_depth 31 = .ok (.if_icmp .ne 5, 3) := dk_160 0 5 (dk_at dksX6_depth_1 7 rfl rfl)
theorem dX6_depth_34 : decode cX6_depth 34 = .ok (.iload_n 3, 1) := dk_29 (dk_at dksX6_depth_1 10 rfl rfl)
theorem dX6_depth_35 : decode cX6_depth 35 = .ok (.ireturn, 1) := dk_172 (dk_at dksX6_depth_1 11 rfl rfl)
theorem dX6_depth_36 : decode cX6_depth 36 = .ok (.iinc 3 1, 3) := dk_132 3 1 (dk_at dksX6_depth_1 12 rfl rfl)
theorem dX6_depth_39 : decode cX6_depth 39 = .ok (.goto (-23), 3) := dk_167 255 233 (dk_at dksX6_depth_1 15 rfl rfl)
theorem dX6_depth_42 : decode cX6_depth 42 = .ok (.iconst (-1), 1) := dk_2 (dk_at dksX6_depth_1 18 rfl rfl)
theorem dX6_depth_43 : decode cX6_depth 43 = .ok (.ireturn, 1) := dk_172 (dk_at dksX6_depth_1 19 rfl rfl)
abbrev cX6_rings : ByteArray := prog_14_method_53_code
def yX6_rings : MethodName := ⟨RX6, "rings", "()I"⟩
def dkwX6_rings_3 : List UInt8 := [120, 167, 0, 4, 3, 128, 60, 132, 2, 1, 167, 255, 188, 27, 172]
abbrev dktX6_rings_3 : List UInt8 := dkwX6_rings_3 ++ []
def dkwX6_rings_2 : List UInt8 := [159, 0, 16, 42, 29, 3, 182, 0, 223, 62, 132, 4, 1, 167, 255, 229, 27, 29, 28, 160, 0, 9, 4, 28]
abbrev dktX6_rings_2 : List UInt8 := dkwX6_rings_2 ++ dktX6_rings_3
def dkwX6_rings_1 : List UInt8 := [42, 28, 3, 182, 0, 223, 62, 4, 54, 4, 21, 4, 16, 10, 162, 0, 26, 29, 2, 159, 0, 21, 29, 28]
abbrev dktX6_rings_1 : List UInt8 := dkwX6_rings_1 ++ dktX6_rings_2
def dkwX6_rings_0 : List UInt8 := [42, 182, 0, 250, 154, 0, 6, 16, 254, 172, 3, 60, 3, 61, 28, 42, 180, 0, 9, 6, 46, 162, 0, 64]
abbrev dktX6_rings_0 : List UInt8 := dkwX6_rings_0 ++ dktX6_rings_1
theorem dksX6_rings_0 : cX6_rings.data.toList.drop 0 = dktX6_rings_0 := by decide +kernel
theorem dksX6_rings_1 : cX6_rings.data.toList.drop 24 = dktX6_rings_1 := dk_seg dksX6_rings_0 24 rfl rfl
theorem dksX6_rings_2 : cX6_rings.data.toList.drop 48 = dktX6_rings_2 := dk_seg dksX6_rings_1 24 rfl rfl
theorem dksX6_rings_3 : cX6_rings.data.toList.drop 72 = dktX6_rings_3 := dk_seg dksX6_rings_2 24 rfl rfl
theorem dX6_rings_0 : decode cX6_rings 0 = .ok (.aload_n 0, 1) := dk_42 (dk_at dksX6_rings_0 0 rfl rfl)
theorem dX6_rings_1 : decode cX6_rings 1 = .ok (.invokevirtual 250, 3) := dk_182 0 250 (dk_at dksX6_rings_0 1 rfl rfl)
theorem dX6_rings_4 : decode cX6_rings 4 = .ok (.ifCond .ne 6, 3) := dk_154 0 6 (dk_at dksX6_rings_0 4 rfl rfl)
theorem dX6_rings_7 : decode cX6_rings 7 = .ok (.bipush (-2), 2) := dk_16 254 (dk_at dksX6_rings_0 7 rfl rfl)
theorem dX6_rings_9 : decode cX6_rings 9 = .ok (.ireturn, 1) := dk_172 (dk_at dksX6_rings_0 9 rfl rfl)
theorem dX6_rings_10 : decode cX6_rings 10 = .ok (.iconst 0, 1) := dk_3 (dk_at dksX6_rings_0 10 rfl rfl)
theorem dX6_rings_11 : decode cX6_rings 11 = .ok (.istore_n 1, 1) := dk_60 (dk_at dksX6_rings_0 11 rfl rfl)
theorem dX6_rings_12 : decode cX6_rings 12 = .ok (.iconst 0, 1) := dk_3 (dk_at dksX6_rings_0 12 rfl rfl)
theorem dX6_rings_13 : decode cX6_rings 13 = .ok (.istore_n 2, 1) := dk_61 (dk_at dksX6_rings_0 13 rfl rfl)
theorem dX6_rings_14 : decode cX6_rings 14 = .ok (.iload_n 2, 1) := dk_28 (dk_at dksX6_rings_0 14 rfl rfl)
theorem dX6_rings_15 : decode cX6_rings 15 = .ok (.aload_n 0, 1) := dk_42 (dk_at dksX6_rings_0 15 rfl rfl)
theorem dX6_rings_16 : decode cX6_rings 16 = .ok (.getfield 9, 3) := dk_180 0 9 (dk_at dksX6_rings_0 16 rfl rfl)
theorem dX6_rings_19 : decode cX6_rings 19 = .ok (.iconst 3, 1) := dk_6 (dk_at dksX6_rings_0 19 rfl rfl)
theorem dX6_rings_20 : decode cX6_rings 20 = .ok (.iaload, 1) := dk_46 (dk_at dksX6_rings_0 20 rfl rfl)
theorem dX6_rings_21 : decode cX6_rings 21 = .ok (.if_icmp .ge 64, 3) := dk_162 0 64 (dk_at dksX6_rings_0 21 rfl rfl)
theorem dX6_rings_24 : decode cX6_rings 24 = .ok (.aload_n 0, 1) := dk_42 (dk_at dksX6_rings_1 0 rfl rfl)
theorem dX6_rings_25 : decode cX6_rings 25 = .ok (.iload_n 2, 1) := dk_28 (dk_at dksX6_rings_1 1 rfl rfl)
theorem dX6_rings_26 : decode cX6_rings 26 = .ok (.iconst 0, 1) := dk_3 (dk_at dksX6_rings_1 2 rfl rfl)
theorem dX6_rings_27 : decode cX6_rings 27 = .ok (.invokevirtual 223, 3) := dk_182 0 223 (dk_at dksX6_rings_1 3 rfl rfl)
theorem dX6_rings_30 : decode cX6_rings 30 = .ok (.istore_n 3, 1) := dk_62 (dk_at dksX6_rings_1 6 rfl rfl)
theorem dX6_rings_31 : decode cX6_rings 31 = .ok (.iconst 1, 1) := dk_4 (dk_at dksX6_rings_1 7 rfl rfl)
theorem dX6_rings_32 : decode cX6_rings 32 = .ok (.istore 4, 2) := dk_54 4 (dk_at dksX6_rings_1 8 rfl rfl)
theorem dX6_rings_34 : decode cX6_rings 34 = .ok (.iload 4, 2) := dk_21 4 (dk_at dksX6_rings_1 10 rfl rfl)
theorem dX6_rings_36 : decode cX6_rings 36 = .ok (.bipush 10, 2) := dk_16 10 (dk_at dksX6_rings_1 12 rfl rfl)
theorem dX6_rings_38 : decode cX6_rings 38 = .ok (.if_icmp .ge 26, 3) := dk_162 0 26 (dk_at dksX6_rings_1 14 rfl rfl)
theorem dX6_rings_41 : decode cX6_rings 41 = .ok (.iload_n 3, 1) := dk_29 (dk_at dksX6_rings_1 17 rfl rfl)
theorem dX6_rings_42 : decode cX6_rings 42 = .ok (.iconst (-1), 1) := dk_2 (dk_at dksX6_rings_1 18 rfl rfl)
theorem dX6_rings_43 : decode cX6_rings 43 = .ok (.if_icmp .eq 21, 3) := dk_159 0 21 (dk_at dksX6_rings_1 19 rfl rfl)
theorem dX6_rings_46 : decode cX6_rings 46 = .ok (.iload_n 3, 1) := dk_29 (dk_at dksX6_rings_1 22 rfl rfl)
theorem dX6_rings_47 : decode cX6_rings 47 = .ok (.iload_n 2, 1) := dk_28 (dk_at dksX6_rings_1 23 rfl rfl)
theorem dX6_rings_48 : decode cX6_rings 48 = .ok (.if_icmp .eq 16, 3) := dk_159 0 16 (dk_at dksX6_rings_2 0 rfl rfl)
theorem dX6_rings_51 : decode cX6_rings 51 = .ok (.aload_n 0, 1) := dk_42 (dk_at dksX6_rings_2 3 rfl rfl)
theorem dX6_rings_52 : decode cX6_rings 52 = .ok (.iload_n 3, 1) := dk_29 (dk_at dksX6_rings_2 4 rfl rfl)
theorem dX6_rings_53 : decode cX6_rings 53 = .ok (.iconst 0, 1) := dk_3 (dk_at dksX6_rings_2 5 rfl rfl)
theorem dX6_rings_54 : decode cX6_rings 54 = .ok (.invokevirtual 223, 3) := dk_182 0 223 (dk_at dksX6_rings_2 6 rfl rfl)
theorem dX6_rings_57 : decode cX6_rings 57 = .ok (.istore_n 3, 1) := dk_62 (dk_at dksX6_rings_2 9 rfl rfl)
theorem dX6_rings_58 : decode cX6_rings 58 = .ok (.iinc 4 1, 3) := dk_132 4 1 (dk_at dksX6_rings_2 10 rfl rfl)
theorem dX6_rings_61 : decode cX6_rings 61 = .ok (.goto (-27), 3) := dk_167 255 229 (dk_at dksX6_rings_2 13 rfl rfl)
theorem dX6_rings_64 : decode cX6_rings 64 = .ok (.iload_n 1, 1) := dk_27 (dk_at dksX6_rings_2 16 rfl rfl)
theorem dX6_rings_65 : decode cX6_rings 65 = .ok (.iload_n 3, 1) := dk_29 (dk_at dksX6_rings_2 17 rfl rfl)
theorem dX6_rings_66 : decode cX6_rings 66 = .ok (.iload_n 2, 1) := dk_28 (dk_at dksX6_rings_2 18 rfl rfl)
theorem dX6_rings_67 : decode cX6_rings 67 = .ok (.if_icmp .ne 9, 3) := dk_160 0 9 (dk_at dksX6_rings_2 19 rfl rfl)
theorem dX6_rings_70 : decode cX6_rings 70 = .ok (.iconst 1, 1) := dk_4 (dk_at dksX6_rings_2 22 rfl rfl)
theorem dX6_rings_71 : decode cX6_rings 71 = .ok (.iload_n 2, 1) := dk_28 (dk_at dksX6_rings_2 23 rfl rfl)
theorem dX6_rings_72 : decode cX6_rings 72 = .ok (.ishl, 1) := dk_120 (dk_at dksX6_rings_3 0 rfl rfl)
theorem dX6_rings_73 : decode cX6_rings 73 = .ok (.goto 4, 3) := dk_167 0 4 (dk_at dksX6_rings_3 1 rfl rfl)
theorem dX6_rings_76 : decode cX6_rings 76 = .ok (.iconst 0, 1) := dk_3 (dk_at dksX6_rings_3 4 rfl rfl)
theorem dX6_rings_77 : decode cX6_rings 77 = .ok (.ior, 1) := dk_128 (dk_at dksX6_rings_3 5 rfl rfl)
theorem dX6_rings_78 : decode cX6_rings 78 = .ok (.istore_n 1, 1) := dk_60 (dk_at dksX6_rings_3 6 rfl rfl)
theorem dX6_rings_79 : decode cX6_rings 79 = .ok (.iinc 2 1, 3) := dk_132 2 1 (dk_at dksX6_rings_3 7 rfl rfl)
theorem dX6_rings_82 : decode cX6_rings 82 = .ok (.goto (-68), 3) := dk_167 255 188 (dk_at dksX6_rings_3 10 rfl rfl)
theorem dX6_rings_85 : decode cX6_rings 85 = .ok (.iload_n 1, 1) := dk_27 (dk_at dksX6_rings_3 13 rfl rfl)
theorem dX6_rings_86 : decode cX6_rings 86 = .ok (.ireturn, 1) := dk_172 (dk_at dksX6_rings_3 14 rfl rfl)
abbrev cX6_goes : ByteArray := prog_14_method_54_code
def yX6_goes : MethodName := ⟨RX6, "goes", "(II)I"⟩
def dkwX6_goes_2 : List UInt8 := [160, 0, 7, 4, 167, 0, 4, 3, 172]
abbrev dktX6_goes_2 : List UInt8 := dkwX6_goes_2 ++ []
def dkwX6_goes_1 : List UInt8 := [180, 0, 238, 27, 184, 1, 6, 154, 0, 24, 28, 42, 180, 0, 43, 27, 46, 112, 42, 180, 0, 46, 27, 46]
abbrev dktX6_goes_1 : List UInt8 := dkwX6_goes_1 ++ dktX6_goes_2
def dkwX6_goes_0 : List UInt8 := [42, 182, 0, 247, 42, 27, 182, 0, 226, 153, 0, 11, 28, 133, 184, 1, 0, 154, 0, 6, 16, 254, 172, 42]
abbrev dktX6_goes_0 : List UInt8 := dkwX6_goes_0 ++ dktX6_goes_1
theorem dksX6_goes_0 : cX6_goes.data.toList.drop 0 = dktX6_goes_0 := by decide +kernel
theorem dksX6_goes_1 : cX6_goes.data.toList.drop 24 = dktX6_goes_1 := dk_seg dksX6_goes_0 24 rfl rfl
theorem dksX6_goes_2 : cX6_goes.data.toList.drop 48 = dktX6_goes_2 := dk_seg dksX6_goes_1 24 rfl rfl
theorem dX6_goes_0 : decode cX6_goes 0 = .ok (.aload_n 0, 1) := dk_42 (dk_at dksX6_goes_0 0 rfl rfl)
theorem dX6_goes_1 : decode cX6_goes 1 = .ok (.invokevirtual 247, 3) := dk_182 0 247 (dk_at dksX6_goes_0 1 rfl rfl)
theorem dX6_goes_4 : decode cX6_goes 4 = .ok (.aload_n 0, 1) := dk_42 (dk_at dksX6_goes_0 4 rfl rfl)
theorem dX6_goes_5 : decode cX6_goes 5 = .ok (.iload_n 1, 1) := dk_27 (dk_at dksX6_goes_0 5 rfl rfl)
theorem dX6_goes_6 : decode cX6_goes 6 = .ok (.invokevirtual 226, 3) := dk_182 0 226 (dk_at dksX6_goes_0 6 rfl rfl)
theorem dX6_goes_9 : decode cX6_goes 9 = .ok (.ifCond .eq 11, 3) := dk_153 0 11 (dk_at dksX6_goes_0 9 rfl rfl)
theorem dX6_goes_12 : decode cX6_goes 12 = .ok (.iload_n 2, 1) := dk_28 (dk_at dksX6_goes_0 12 rfl rfl)
theorem dX6_goes_13 : decode cX6_goes 13 = .ok (.i2l, 1) := dk_133 (dk_at dksX6_goes_0 13 rfl rfl)
theorem dX6_goes_14 : decode cX6_goes 14 = .ok (.invokestatic 256, 3) := dk_184 1 0 (dk_at dksX6_goes_0 14 rfl rfl)
theorem dX6_goes_17 : decode cX6_goes 17 = .ok (.ifCond .ne 6, 3) := dk_154 0 6 (dk_at dksX6_goes_0 17 rfl rfl)
theorem dX6_goes_20 : decode cX6_goes 20 = .ok (.bipush (-2), 2) := dk_16 254 (dk_at dksX6_goes_0 20 rfl rfl)
theorem dX6_goes_22 : decode cX6_goes 22 = .ok (.ireturn, 1) := dk_172 (dk_at dksX6_goes_0 22 rfl rfl)
theorem dX6_goes_23 : decode cX6_goes 23 = .ok (.aload_n 0, 1) := dk_42 (dk_at dksX6_goes_0 23 rfl rfl)
theorem dX6_goes_24 : decode cX6_goes 24 = .ok (.getfield 238, 3) := dk_180 0 238 (dk_at dksX6_goes_1 0 rfl rfl)
theorem dX6_goes_27 : decode cX6_goes 27 = .ok (.iload_n 1, 1) := dk_27 (dk_at dksX6_goes_1 3 rfl rfl)
theorem dX6_goes_28 : decode cX6_goes 28 = .ok (.invokestatic 262, 3) := dk_184 1 6 (dk_at dksX6_goes_1 4 rfl rfl)
theorem dX6_goes_31 : decode cX6_goes 31 = .ok (.ifCond .ne 24, 3) := dk_154 0 24 (dk_at dksX6_goes_1 7 rfl rfl)
theorem dX6_goes_34 : decode cX6_goes 34 = .ok (.iload_n 2, 1) := dk_28 (dk_at dksX6_goes_1 10 rfl rfl)
theorem dX6_goes_35 : decode cX6_goes 35 = .ok (.aload_n 0, 1) := dk_42 (dk_at dksX6_goes_1 11 rfl rfl)
theorem dX6_goes_36 : decode cX6_goes 36 = .ok (.getfield 43, 3) := dk_180 0 43 (dk_at dksX6_goes_1 12 rfl rfl)
theorem dX6_goes_39 : decode cX6_goes 39 = .ok (.iload_n 1, 1) := dk_27 (dk_at dksX6_goes_1 15 rfl rfl)
theorem dX6_goes_40 : decode cX6_goes 40 = .ok (.iaload, 1) := dk_46 (dk_at dksX6_goes_1 16 rfl rfl)
theorem dX6_goes_41 : decode cX6_goes 41 = .ok (.irem, 1) := dk_112 (dk_at dksX6_goes_1 17 rfl rfl)
theorem dX6_goes_42 : decode cX6_goes 42 = .ok (.aload_n 0, 1) := dk_42 (dk_at dksX6_goes_1 18 rfl rfl)
theorem dX6_goes_43 : decode cX6_goes 43 = .ok (.getfield 46, 3) := dk_180 0 46 (dk_at dksX6_goes_1 19 rfl rfl)
theorem dX6_goes_46 : decode cX6_goes 46 = .ok (.iload_n 1, 1) := dk_27 (dk_at dksX6_goes_1 22 rfl rfl)
theorem dX6_goes_47 : decode cX6_goes 47 = .ok (.iaload, 1) := dk_46 (dk_at dksX6_goes_1 23 rfl rfl)
theorem dX6_goes_48 : decode cX6_goes 48 = .ok (.if_icmp .ne 7, 3) := dk_160 0 7 (dk_at dksX6_goes_2 0 rfl rfl)
theorem dX6_goes_51 : decode cX6_goes 51 = .ok (.iconst 1, 1) := dk_4 (dk_at dksX6_goes_2 3 rfl rfl)
theorem dX6_goes_52 : decode cX6_goes 52 = .ok (.goto 4, 3) := dk_167 0 4 (dk_at dksX6_goes_2 4 rfl rfl)
theorem dX6_goes_55 : decode cX6_goes 55 = .ok (.iconst 0, 1) := dk_3 (dk_at dksX6_goes_2 7 rfl rfl)
theorem dX6_goes_56 : decode cX6_goes 56 = .ok (.ireturn, 1) := dk_172 (dk_at dksX6_goes_2 8 rfl rfl)
abbrev cX6_where : ByteArray := prog_14_method_59_code
def yX6_where : MethodName := ⟨RX6, "where", "(III)I"⟩
def dkwX6_where_1 : List UInt8 := [180, 0, 49, 29, 46, 167, 0, 5, 16, 254, 172]
abbrev dktX6_where_1 : List UInt8 := dkwX6_where_1 ++ []
def dkwX6_where_0 : List UInt8 := [42, 27, 28, 182, 1, 28, 153, 0, 25, 29, 133, 28, 133, 20, 0, 96, 184, 0, 92, 153, 0, 12, 42]
abbrev dktX6_where_0 : List UInt8 := dkwX6_where_0 ++ dktX6_where_1
theorem dksX6_where_0 : cX6_where.data.toList.drop 0 = dktX6_where_0 := by decide +kernel
theorem dksX6_where_1 : cX6_where.data.toList.drop 23 = dktX6_where_1 := dk_seg dksX6_where_0 23 rfl rfl
theorem dX6_where_0 : decode cX6_where 0 = .ok (.aload_n 0, 1) := dk_42 (dk_at dksX6_where_0 0 rfl rfl)
theorem dX6_where_1 : decode cX6_where 1 = .ok (.iload_n 1, 1) := dk_27 (dk_at dksX6_where_0 1 rfl rfl)
theorem dX6_where_2 : decode cX6_where 2 = .ok (.iload_n 2, 1) := dk_28 (dk_at dksX6_where_0 2 rfl rfl)
theorem dX6_where_3 : decode cX6_where 3 = .ok (.invokevirtual 284, 3) := dk_182 1 28 (dk_at dksX6_where_0 3 rfl rfl)
theorem dX6_where_6 : decode cX6_where 6 = .ok (.ifCond .eq 25, 3) := dk_153 0 25 (dk_at dksX6_where_0 6 rfl rfl)
theorem dX6_where_9 : decode cX6_where 9 = .ok (.iload_n 3, 1) := dk_29 (dk_at dksX6_where_0 9 rfl rfl)
theorem dX6_where_10 : decode cX6_where 10 = .ok (.i2l, 1) := dk_133 (dk_at dksX6_where_0 10 rfl rfl)
theorem dX6_where_11 : decode cX6_where 11 = .ok (.iload_n 2, 1) := dk_28 (dk_at dksX6_where_0 11 rfl rfl)
theorem dX6_where_12 : decode cX6_where 12 = .ok (.i2l, 1) := dk_133 (dk_at dksX6_where_0 12 rfl rfl)
theorem dX6_where_13 : decode cX6_where 13 = .ok (.ldc2_w 96, 3) := dk_20 0 96 (dk_at dksX6_where_0 13 rfl rfl)
theorem dX6_where_16 : decode cX6_where 16 = .ok (.invokestatic 92, 3) := dk_184 0 92 (dk_at dksX6_where_0 16 rfl rfl)
theorem dX6_where_19 : decode cX6_where 19 = .ok (.ifCond .eq 12, 3) := dk_153 0 12 (dk_at dksX6_where_0 19 rfl rfl)
theorem dX6_where_22 : decode cX6_where 22 = .ok (.aload_n 0, 1) := dk_42 (dk_at dksX6_where_0 22 rfl rfl)
theorem dX6_where_23 : decode cX6_where 23 = .ok (.getfield 49, 3) := dk_180 0 49 (dk_at dksX6_where_1 0 rfl rfl)
theorem dX6_where_26 : decode cX6_where 26 = .ok (.iload_n 3, 1) := dk_29 (dk_at dksX6_where_1 3 rfl rfl)
theorem dX6_where_27 : decode cX6_where 27 = .ok (.iaload, 1) := dk_46 (dk_at dksX6_where_1 4 rfl rfl)
theorem dX6_where_28 : decode cX6_where 28 = .ok (.goto 5, 3) := dk_167 0 5 (dk_at dksX6_where_1 5 rfl rfl)
theorem dX6_where_31 : decode cX6_where 31 = .ok (.bipush (-2), 2) := dk_16 254 (dk_at dksX6_where_1 8 rfl rfl)
theorem dX6_where_33 : decode cX6_where 33 = .ok (.ireturn, 1) := dk_172 (dk_at dksX6_where_1 10 rfl rfl)
abbrev cX6_putsIn : ByteArray := prog_14_method_58_code
def yX6_putsIn : MethodName := ⟨RX6, "putsIn", "(II)Z"⟩
def dkwX6_putsIn_1 : List UInt8 := [4, 172]
abbrev dktX6_putsIn_1 : List UInt8 := dkwX6_putsIn_1 ++ []
def dkwX6_putsIn_0 : List UInt8 := [42, 27, 182, 1, 3, 153, 0, 11, 28, 133, 184, 1, 0, 154, 0, 5, 3, 172, 42, 27, 28, 182, 1, 24]
abbrev dktX6_putsIn_0 : List UInt8 := dkwX6_putsIn_0 ++ dktX6_putsIn_1
theorem dksX6_putsIn_0 : cX6_putsIn.data.toList.drop 0 = dktX6_putsIn_0 := by decide +kernel
theorem dksX6_putsIn_1 : cX6_putsIn.data.toList.drop 24 = dktX6_putsIn_1 := dk_seg dksX6_putsIn_0 24 rfl rfl
theorem dX6_putsIn_0 : decode cX6_putsIn 0 = .ok (.aload_n 0, 1) := dk_42 (dk_at dksX6_putsIn_0 0 rfl rfl)
theorem dX6_putsIn_1 : decode cX6_putsIn 1 = .ok (.iload_n 1, 1) := dk_27 (dk_at dksX6_putsIn_0 1 rfl rfl)
theorem dX6_putsIn_2 : decode cX6_putsIn 2 = .ok (.invokevirtual 259, 3) := dk_182 1 3 (dk_at dksX6_putsIn_0 2 rfl rfl)
theorem dX6_putsIn_5 : decode cX6_putsIn 5 = .ok (.ifCond .eq 11, 3) := dk_153 0 11 (dk_at dksX6_putsIn_0 5 rfl rfl)
theorem dX6_putsIn_8 : decode cX6_putsIn 8 = .ok (.iload_n 2, 1) := dk_28 (dk_at dksX6_putsIn_0 8 rfl rfl)
theorem dX6_putsIn_9 : decode cX6_putsIn 9 = .ok (.i2l, 1) := dk_133 (dk_at dksX6_putsIn_0 9 rfl rfl)
theorem dX6_putsIn_10 : decode cX6_putsIn 10 = .ok (.invokestatic 256, 3) := dk_184 1 0 (dk_at dksX6_putsIn_0 10 rfl rfl)
theorem dX6_putsIn_13 : decode cX6_putsIn 13 = .ok (.ifCond .ne 5, 3) := dk_154 0 5 (dk_at dksX6_putsIn_0 13 rfl rfl)
theorem dX6_putsIn_16 : decode cX6_putsIn 16 = .ok (.iconst 0, 1) := dk_3 (dk_at dksX6_putsIn_0 16 rfl rfl)
theorem dX6_putsIn_17 : decode cX6_putsIn 17 = .ok (.ireturn, 1) := dk_172 (dk_at dksX6_putsIn_0 17 rfl rfl)
theorem dX6_putsIn_18 : decode cX6_putsIn 18 = .ok (.aload_n 0, 1) := dk_42 (dk_at dksX6_putsIn_0 18 rfl rfl)
theorem dX6_putsIn_19 : decode cX6_putsIn 19 = .ok (.iload_n 1, 1) := dk_27 (dk_at dksX6_putsIn_0 19 rfl rfl)
theorem dX6_putsIn_20 : decode cX6_putsIn 20 = .ok (.iload_n 2, 1) := dk_28 (dk_at dksX6_putsIn_0 20 rfl rfl)
theorem dX6_putsIn_21 : decode cX6_putsIn 21 = .ok (.invokevirtual 280, 3) := dk_182 1 24 (dk_at dksX6_putsIn_0 21 rfl rfl)
theorem dX6_putsIn_24 : decode cX6_putsIn 24 = .ok (.iconst 1, 1) := dk_4 (dk_at dksX6_putsIn_1 0 rfl rfl)
theorem dX6_putsIn_25 : decode cX6_putsIn 25 = .ok (.ireturn, 1) := dk_172 (dk_at dksX6_putsIn_1 1 rfl rfl)
abbrev cX6_goStick : ByteArray := prog_14_method_56_code
def yX6_goStick : MethodName := ⟨RX6, "goStick", "(II)V"⟩
def dkwX6_goStick_11 : List UInt8 := [184, 1, 6, 4, 160, 0, 8, 16, 253, 167, 0, 5, 21, 7, 62, 132, 5, 1, 167, 255, 65, 177]
abbrev dktX6_goStick_11 : List UInt8 := dkwX6_goStick_11 ++ []
def dkwX6_goStick_10 : List UInt8 := [54, 4, 42, 180, 0, 52, 21, 5, 4, 96, 4, 84, 21, 7, 2, 159, 0, 21, 42, 180, 0, 241, 21, 7]
abbrev dktX6_goStick_10 : List UInt8 := dkwX6_goStick_10 ++ dktX6_goStick_11
def dkwX6_goStick_9 : List UInt8 := [160, 0, 7, 3, 167, 0, 7, 4, 21, 6, 120, 128, 181, 1, 18, 21, 5, 16, 60, 160, 0, 4, 177, 3]
abbrev dktX6_goStick_9 : List UInt8 := dkwX6_goStick_9 ++ dktX6_goStick_10
def dkwX6_goStick_8 : List UInt8 := [21, 6, 2, 160, 0, 7, 3, 167, 0, 4, 4, 96, 181, 1, 15, 42, 89, 180, 1, 18, 21, 6, 2]
abbrev dktX6_goStick_8 : List UInt8 := dkwX6_goStick_8 ++ dktX6_goStick_9
def dkwX6_goStick_7 : List UInt8 := [21, 6, 4, 182, 0, 232, 54, 7, 42, 89, 180, 1, 12, 4, 96, 181, 1, 12, 42, 89, 180, 1, 15]
abbrev dktX6_goStick_7 : List UInt8 := dkwX6_goStick_7 ++ dktX6_goStick_8
def dkwX6_goStick_6 : List UInt8 := [29, 21, 5, 182, 1, 21, 54, 6, 21, 6, 2, 160, 0, 12, 42, 29, 3, 182, 0, 223, 167, 0, 10, 42]
abbrev dktX6_goStick_6 : List UInt8 := dkwX6_goStick_6 ++ dktX6_goStick_7
def dkwX6_goStick_5 : List UInt8 := [160, 0, 6, 167, 0, 154, 132, 4, 1, 21, 4, 42, 29, 4, 182, 0, 223, 162, 0, 6, 167, 0, 137, 42]
abbrev dktX6_goStick_5 : List UInt8 := dkwX6_goStick_5 ++ dktX6_goStick_6
def dkwX6_goStick_4 : List UInt8 := [42, 180, 0, 49, 21, 5, 29, 79, 29, 155, 0, 172, 42, 180, 0, 40, 21, 5, 46, 29, 184, 1, 6, 4]
abbrev dktX6_goStick_4 : List UInt8 := dkwX6_goStick_4 ++ dktX6_goStick_5
def dkwX6_goStick_3 : List UInt8 := [180, 0, 49, 21, 5, 16, 252, 79, 132, 5, 1, 167, 255, 238, 28, 54, 5, 21, 5, 16, 60, 163, 0, 190]
abbrev dktX6_goStick_3 : List UInt8 := dkwX6_goStick_3 ++ dktX6_goStick_4
def dkwX6_goStick_2 : List UInt8 := [180, 0, 52, 21, 5, 3, 84, 132, 5, 1, 167, 255, 238, 3, 54, 5, 21, 5, 28, 162, 0, 18, 42]
abbrev dktX6_goStick_2 : List UInt8 := dkwX6_goStick_2 ++ dktX6_goStick_3
def dkwX6_goStick_1 : List UInt8 := [181, 1, 12, 42, 3, 181, 1, 15, 42, 3, 181, 1, 18, 3, 54, 5, 21, 5, 16, 60, 163, 0, 17, 42]
abbrev dktX6_goStick_1 : List UInt8 := dkwX6_goStick_1 ++ dktX6_goStick_2
def dkwX6_goStick_0 : List UInt8 := [42, 180, 0, 241, 27, 184, 1, 6, 4, 160, 0, 8, 16, 253, 167, 0, 4, 27, 62, 3, 54, 4, 42, 3]
abbrev dktX6_goStick_0 : List UInt8 := dkwX6_goStick_0 ++ dktX6_goStick_1
theorem dksX6_goStick_0 : cX6_goStick.data.toList.drop 0 = dktX6_goStick_0 := by decide +kernel
theorem dksX6_goStick_1 : cX6_goStick.data.toList.drop 24 = dktX6_goStick_1 := dk_seg dksX6_goStick_0 24 rfl rfl
theorem dksX6_goStick_2 : cX6_goStick.data.toList.drop 48 = dktX6_goStick_2 := dk_seg dksX6_goStick_1 24 rfl rfl
theorem dksX6_goStick_3 : cX6_goStick.data.toList.drop 71 = dktX6_goStick_3 := dk_seg dksX6_goStick_2 23 rfl rfl
theorem dksX6_goStick_4 : cX6_goStick.data.toList.drop 95 = dktX6_goStick_4 := dk_seg dksX6_goStick_3 24 rfl rfl
theorem dksX6_goStick_5 : cX6_goStick.data.toList.drop 119 = dktX6_goStick_5 := dk_seg dksX6_goStick_4 24 rfl rfl
theorem dksX6_goStick_6 : cX6_goStick.data.toList.drop 143 = dktX6_goStick_6 := dk_seg dksX6_goStick_5 24 rfl rfl
theorem dksX6_goStick_7 : cX6_goStick.data.toList.drop 167 = dktX6_goStick_7 := dk_seg dksX6_goStick_6 24 rfl rfl
theorem dksX6_goStick_8 : cX6_goStick.data.toList.drop 190 = dktX6_goStick_8 := dk_seg dksX6_goStick_7 23 rfl rfl
theorem dksX6_goStick_9 : cX6_goStick.data.toList.drop 213 = dktX6_goStick_9 := dk_seg dksX6_goStick_8 23 rfl rfl
theorem dksX6_goStick_10 : cX6_goStick.data.toList.drop 237 = dktX6_goStick_10 := dk_seg dksX6_goStick_9 24 rfl rfl
theorem dksX6_goStick_11 : cX6_goStick.data.toList.drop 261 = dktX6_goStick_11 := dk_seg dksX6_goStick_10 24 rfl rfl
theorem dX6_goStick_0 : decode cX6_goStick 0 = .ok (.aload_n 0, 1) := dk_42 (dk_at dksX6_goStick_0 0 rfl rfl)
theorem dX6_goStick_1 : decode cX6_goStick 1 = .ok (.getfield 241, 3) := dk_180 0 241 (dk_at dksX6_goStick_0 1 rfl rfl)
theorem dX6_goStick_4 : decode cX6_goStick 4 = .ok (.iload_n 1, 1) := dk_27 (dk_at dksX6_goStick_0 4 rfl rfl)
theorem dX6_goStick_5 : decode cX6_goStick 5 = .ok (.invokestatic 262, 3) := dk_184 1 6 (dk_at dksX6_goStick_0 5 rfl rfl)
theorem dX6_goStick_8 : decode cX6_goStick 8 = .ok (.iconst 1, 1) := dk_4 (dk_at dksX6_goStick_0 8 rfl rfl)
theorem dX6_goStick_9 : decode cX6_goStick 9 = .ok (.if_icmp .ne 8, 3) := dk_160 0 8 (dk_at dksX6_goStick_0 9 rfl rfl)
theorem dX6_goStick_12 : decode cX6_goStick 12 = .ok (.bipush (-3), 2) := dk_16 253 (dk_at dksX6_goStick_0 12 rfl rfl)
theorem dX6_goStick_14 : decode cX6_goStick 14 = .ok (.goto 4, 3) := dk_167 0 4 (dk_at dksX6_goStick_0 14 rfl rfl)
theorem dX6_goStick_17 : decode cX6_goStick 17 = .ok (.iload_n 1, 1) := dk_27 (dk_at dksX6_goStick_0 17 rfl rfl)
theorem dX6_goStick_18 : decode cX6_goStick 18 = .ok (.istore_n 3, 1) := dk_62 (dk_at dksX6_goStick_0 18 rfl rfl)
theorem dX6_goStick_19 : decode cX6_goStick 19 = .ok (.iconst 0, 1) := dk_3 (dk_at dksX6_goStick_0 19 rfl rfl)
theorem dX6_goStick_20 : decode cX6_goStick 20 = .ok (.istore 4, 2) := dk_54 4 (dk_at dksX6_goStick_0 20 rfl rfl)
theorem dX6_goStick_22 : decode cX6_goStick 22 = .ok (.aload_n 0, 1) := dk_42 (dk_at dksX6_goStick_0 22 rfl rfl)
theorem dX6_goStick_23 : decode cX6_goStick 23 = .ok (.iconst 0, 1) := dk_3 (dk_at dksX6_goStick_0 23 rfl rfl)
theorem dX6_goStick_24 : decode cX6_goStick 24 = .ok (.putfield 268, 3) := dk_181 1 12 (dk_at dksX6_goStick_1 0 rfl rfl)
theorem dX6_goStick_27 : decode cX6_goStick 27 = .ok (.aload_n 0, 1) := dk_42 (dk_at dksX6_goStick_1 3 rfl rfl)
theorem dX6_goStick_28 : decode cX6_goStick 28 = .ok (.iconst 0, 1) := dk_3 (dk_at dksX6_goStick_1 4 rfl rfl)
theorem dX6_goStick_29 : decode cX6_goStick 29 = .ok (.putfield 271, 3) := dk_181 1 15 (dk_at dksX6_goStick_1 5 rfl rfl)
theorem dX6_goStick_32 : decode cX6_goStick 32 = .ok (.aload_n 0, 1) := dk_42 (dk_at dksX6_goStick_1 8 rfl rfl)
theorem dX6_goStick_33 : decode cX6_goStick 33 = .ok (.iconst 0, 1) := dk_3 (dk_at dksX6_goStick_1 9 rfl rfl)
theorem dX6_goStick_34 : decode cX6_goStick 34 = .ok (.putfield 274, 3) := dk_181 1 18 (dk_at dksX6_goStick_1 10 rfl rfl)
theorem dX6_goStick_37 : decode cX6_goStick 37 = .ok (.iconst 0, 1) := dk_3 (dk_at dksX6_goStick_1 13 rfl rfl)
theorem dX6_goStick_38 : decode cX6_goStick 38 = .ok (.istore 5, 2) := dk_54 5 (dk_at dksX6_goStick_1 14 rfl rfl)
theorem dX6_goStick_40 : decode cX6_goStick 40 = .ok (.iload 5, 2) := dk_21 5 (dk_at dksX6_goStick_1 16 rfl rfl)
theorem dX6_goStick_42 : decode cX6_goStick 42 = .ok (.bipush 60, 2) := dk_16 60 (dk_at dksX6_goStick_1 18 rfl rfl)
theorem dX6_goStick_44 : decode cX6_goStick 44 = .ok (.if_icmp .gt 17, 3) := dk_163 0 17 (dk_at dksX6_goStick_1 20 rfl rfl)
theorem dX6_goStick_47 : decode cX6_goStick 47 = .ok (.aload_n 0, 1) := dk_42 (dk_at dksX6_goStick_1 23 rfl rfl)
theorem dX6_goStick_48 : decode cX6_goStick 48 = .ok (.getfield 52, 3) := dk_180 0 52 (dk_at dksX6_goStick_2 0 rfl rfl)
theorem dX6_goStick_51 : decode cX6_goStick 51 = .ok (.iload 5, 2) := dk_21 5 (dk_at dksX6_goStick_2 3 rfl rfl)
theorem dX6_goStick_53 : decode cX6_goStick 53 = .ok (.iconst 0, 1) := dk_3 (dk_at dksX6_goStick_2 5 rfl rfl)
theorem dX6_goStick_54 : decode cX6_goStick 54 = .ok (.bastore, 1) := dk_84 (dk_at dksX6_goStick_2 6 rfl rfl)
theorem dX6_goStick_55 : decode cX6_goStick 55 = .ok (.iinc 5 1, 3) := dk_132 5 1 (dk_at dksX6_goStick_2 7 rfl rfl)
theorem dX6_goStick_58 : decode cX6_goStick 58 = .ok (.goto (-18), 3) := dk_167 255 238 (dk_at dksX6_goStick_2 10 rfl rfl)
theorem dX6_goStick_61 : decode cX6_goStick 61 = .ok (.iconst 0, 1) := dk_3 (dk_at dksX6_goStick_2 13 rfl rfl)
theorem dX6_goStick_62 : decode cX6_goStick 62 = .ok (.istore 5, 2) := dk_54 5 (dk_at dksX6_goStick_2 14 rfl rfl)
theorem dX6_goStick_64 : decode cX6_goStick 64 = .ok (.iload 5, 2) := dk_21 5 (dk_at dksX6_goStick_2 16 rfl rfl)
theorem dX6_goStick_66 : decode cX6_goStick 66 = .ok (.iload_n 2, 1) := dk_28 (dk_at dksX6_goStick_2 18 rfl rfl)
theorem dX6_goStick_67 : decode cX6_goStick 67 = .ok (.if_icmp .ge 18, 3) := dk_162 0 18 (dk_at dksX6_goStick_2 19 rfl rfl)
theorem dX6_goStick_70 : decode cX6_goStick 70 = .ok (.aload_n 0, 1) := dk_42 (dk_at dksX6_goStick_2 22 rfl rfl)
theorem dX6_goStick_71 : decode cX6_goStick 71 = .ok (.getfield 49, 3) := dk_180 0 49 (dk_at dksX6_goStick_3 0 rfl rfl)
theorem dX6_goStick_74 : decode cX6_goStick 74 = .ok (.iload 5, 2) := dk_21 5 (dk_at dksX6_goStick_3 3 rfl rfl)
theorem dX6_goStick_76 : decode cX6_goStick 76 = .ok (.bipush (-4), 2) := dk_16 252 (dk_at dksX6_goStick_3 5 rfl rfl)
theorem dX6_goStick_78 : decode cX6_goStick 78 = .ok (.iastore, 1) := dk_79 (dk_at dksX6_goStick_3 7 rfl rfl)
theorem dX6_goStick_79 : decode cX6_goStick 79 = .ok (.iinc 5 1, 3) := dk_132 5 1 (dk_at dksX6_goStick_3 8 rfl rfl)
theorem dX6_goStick_82 : decode cX6_goStick 82 = .ok (.goto (-18), 3) := dk_167 255 238 (dk_at dksX6_goStick_3 11 rfl rfl)
theorem dX6_goStick_85 : decode cX6_goStick 85 = .ok (.iload_n 2, 1) := dk_28 (dk_at dksX6_goStick_3 14 rfl rfl)
theorem dX6_goStick_86 : decode cX6_goStick 86 = .ok (.istore 5, 2) := dk_54 5 (dk_at dksX6_goStick_3 15 rfl rfl)
theorem dX6_goStick_88 : decode cX6_goStick 88 = .ok (.iload 5, 2) := dk_21 5 (dk_at dksX6_goStick_3 17 rfl rfl)
theorem dX6_goStick_90 : decode cX6_goStick 90 = .ok (.bipush 60, 2) := dk_16 60 (dk_at dksX6_goStick_3 19 rfl rfl)
theorem dX6_goStick_92 : decode cX6_goStick 92 = .ok (.if_icmp .gt 190, 3) := dk_163 0 190 (dk_at dksX6_goStick_3 21 rfl rfl)
theorem dX6_goStick_95 : decode cX6_goStick 95 = .ok (.aload_n 0, 1) := dk_42 (dk_at dksX6_goStick_4 0 rfl rfl)
theorem dX6_goStick_96 : decode cX6_goStick 96 = .ok (.getfield 49, 3) := dk_180 0 49 (dk_at dksX6_goStick_4 1 rfl rfl)
theorem dX6_goStick_99 : decode cX6_goStick 99 = .ok (.iload 5, 2) := dk_21 5 (dk_at dksX6_goStick_4 4 rfl rfl)
theorem dX6_goStick_101 : decode cX6_goStick 101 = .ok (.iload_n 3, 1) := dk_29 (dk_at dksX6_goStick_4 6 rfl rfl)
theorem dX6_goStick_102 : decode cX6_goStick 102 = .ok (.iastore, 1) := dk_79 (dk_at dksX6_goStick_4 7 rfl rfl)
theorem dX6_goStick_103 : decode cX6_goStick 103 = .ok (.iload_n 3, 1) := dk_29 (dk_at dksX6_goStick_4 8 rfl rfl)
theorem dX6_goStick_104 : decode cX6_goStick 104 = .ok (.ifCond .lt 172, 3) := dk_155 0 172 (dk_at dksX6_goStick_4 9 rfl rfl)
theorem dX6_goStick_107 : decode cX6_goStick 107 = .ok (.aload_n 0, 1) := dk_42 (dk_at dksX6_goStick_4 12 rfl rfl)
theorem dX6_goStick_108 : decode cX6_goStick 108 = .ok (.getfield 40, 3) := dk_180 0 40 (dk_at dksX6_goStick_4 13 rfl rfl)
theorem dX6_goStick_111 : decode cX6_goStick 111 = .ok (.iload 5, 2) := dk_21 5 (dk_at dksX6_goStick_4 16 rfl rfl)
theorem dX6_goStick_113 : decode cX6_goStick 113 = .ok (.iaload, 1) := dk_46 (dk_at dksX6_goStick_4 18 rfl rfl)
theorem dX6_goStick_114 : decode cX6_goStick 114 = .ok (.iload_n 3, 1) := dk_29 (dk_at dksX6_goStick_4 19 rfl rfl)
theorem dX6_goStick_115 : decode cX6_goStick 115 = .ok (.invokestatic 262, 3) := dk_184 1 6 (dk_at dksX6_goStick_4 20 rfl rfl)
theorem dX6_goStick_118 : decode cX6_goStick 118 = .ok (.iconst 1, 1) := dk_4 (dk_at dksX6_goStick_4 23 rfl rfl)
theorem dX6_goStick_119 : decode cX6_goStick 119 = .ok (.if_icmp .ne 6, 3) := dk_160 0 6 (dk_at dksX6_goStick_5 0 rfl rfl)
theorem dX6_goStick_122 : decode cX6_goStick 122 = .ok (.goto 154, 3) := dk_167 0 154 (dk_at dksX6_goStick_5 3 rfl rfl)
theorem dX6_goStick_125 : decode cX6_goStick 125 = .ok (.iinc 4 1, 3) := dk_132 4 1 (dk_at dksX6_goStick_5 6 rfl rfl)
theorem dX6_goStick_128 : decode cX6_goStick 128 = .ok (.iload 4, 2) := dk_21 4 (dk_at dksX6_goStick_5 9 rfl rfl)
theorem dX6_goStick_130 : decode cX6_goStick 130 = .ok (.aload_n 0, 1) := dk_42 (dk_at dksX6_goStick_5 11 rfl rfl)
theorem dX6_goStick_131 : decode cX6_goStick 131 = .ok (.iload_n 3, 1) := dk_29 (dk_at dksX6_goStick_5 12 rfl rfl)
theorem dX6_goStick_132 : decode cX6_goStick 132 = .ok (.iconst 1, 1) := dk_4 (dk_at dksX6_goStick_5 13 rfl rfl)
theorem dX6_goStick_133 : decode cX6_goStick 133 = .ok (.invokevirtual 223, 3) := dk_182 0 223 (dk_at dksX6_goStick_5 14 rfl rfl)
theorem dX6_goStick_136 : decode cX6_goStick 136 = .ok (.if_icmp .ge 6, 3) := dk_162 0 6 (dk_at dksX6_goStick_5 17 rfl rfl)
theorem dX6_goStick_139 : decode cX6_goStick 139 = .ok (.goto 137, 3) := dk_167 0 137 (dk_at dksX6_goStick_5 20 rfl rfl)
theorem dX6_goStick_142 : decode cX6_goStick 142 = .ok (.aload_n 0, 1) := dk_42 (dk_at dksX6_goStick_5 23 rfl rfl)
theorem dX6_goStick_143 : decode cX6_goStick 143 = .ok (.iload_n 3, 1) := dk_29 (dk_at dksX6_goStick_6 0 rfl rfl)
theorem dX6_goStick_144 : decode cX6_goStick 144 = .ok (.iload 5, 2) := dk_21 5 (dk_at dksX6_goStick_6 1 rfl rfl)
theorem dX6_goStick_146 : decode cX6_goStick 146 = .ok (.invokevirtual 277, 3) := dk_182 1 21 (dk_at dksX6_goStick_6 3 rfl rfl)
theorem dX6_goStick_149 : decode cX6_goStick 149 = .ok (.istore 6, 2) := dk_54 6 (dk_at dksX6_goStick_6 6 rfl rfl)
theorem dX6_goStick_151 : decode cX6_goStick 151 = .ok (.iload 6, 2) := dk_21 6 (dk_at dksX6_goStick_6 8 rfl rfl)
theorem dX6_goStick_153 : decode cX6_goStick 153 = .ok (.iconst (-1), 1) := dk_2 (dk_at dksX6_goStick_6 10 rfl rfl)
theorem dX6_goStick_154 : decode cX6_goStick 154 = .ok (.if_icmp .ne 12, 3) := dk_160 0 12 (dk_at dksX6_goStick_6 11 rfl rfl)
theorem dX6_goStick_157 : decode cX6_goStick 157 = .ok (.aload_n 0, 1) := dk_42 (dk_at dksX6_goStick_6 14 rfl rfl)
theorem dX6_goStick_158 : decode cX6_goStick 158 = .ok (.iload_n 3, 1) := dk_29 (dk_at dksX6_goStick_6 15 rfl rfl)
theorem dX6_goStick_159 : decode cX6_goStick 159 = .ok (.iconst 0, 1) := dk_3 (dk_at dksX6_goStick_6 16 rfl rfl)
theorem dX6_goStick_160 : decode cX6_goStick 160 = .ok (.invokevirtual 223, 3) := dk_182 0 223 (dk_at dksX6_goStick_6 17 rfl rfl)
theorem dX6_goStick_163 : decode cX6_goStick 163 = .ok (.goto 10, 3) := dk_167 0 10 (dk_at dksX6_goStick_6 20 rfl rfl)
theorem dX6_goStick_166 : decode cX6_goStick 166 = .ok (.aload_n 0, 1) := dk_42 (dk_at dksX6_goStick_6 23 rfl rfl)
theorem dX6_goStick_167 : decode cX6_goStick 167 = .ok (.iload 6, 2) := dk_21 6 (dk_at dksX6_goStick_7 0 rfl rfl)
theorem dX6_goStick_169 : decode cX6_goStick 169 = .ok (.iconst 1, 1) := dk_4 (dk_at dksX6_goStick_7 2 rfl rfl)
theorem dX6_goStick_170 : decode cX6_goStick 170 = .ok (.invokevirtual 232, 3) := dk_182 0 232 (dk_at dksX6_goStick_7 3 rfl rfl)
theorem dX6_goStick_173 : decode cX6_goStick 173 = .ok (.istore 7, 2) := dk_54 7 (dk_at dksX6_goStick_7 6 rfl rfl)
theorem dX6_goStick_175 : decode cX6_goStick 175 = .ok (.aload_n 0, 1) := dk_42 (dk_at dksX6_goStick_7 8 rfl rfl)
theorem dX6_goStick_176 : decode cX6_goStick 176 = .ok (.dup, 1) := dk_89 (dk_at dksX6_goStick_7 9 rfl rfl)
theorem dX6_goStick_177 : decode cX6_goStick 177 = .ok (.getfield 268, 3) := dk_180 1 12 (dk_at dksX6_goStick_7 10 rfl rfl)
theorem dX6_goStick_180 : decode cX6_goStick 180 = .ok (.iconst 1, 1) := dk_4 (dk_at dksX6_goStick_7 13 rfl rfl)
theorem dX6_goStick_181 : decode cX6_goStick 181 = .ok (.iadd, 1) := dk_96 (dk_at dksX6_goStick_7 14 rfl rfl)
theorem dX6_goStick_182 : decode cX6_goStick 182 = .ok (.putfield 268, 3) := dk_181 1 12 (dk_at dksX6_goStick_7 15 rfl rfl)
theorem dX6_goStick_185 : decode cX6_goStick 185 = .ok (.aload_n 0, 1) := dk_42 (dk_at dksX6_goStick_7 18 rfl rfl)
theorem dX6_goStick_186 : decode cX6_goStick 186 = .ok (.dup, 1) := dk_89 (dk_at dksX6_goStick_7 19 rfl rfl)
theorem dX6_goStick_187 : decode cX6_goStick 187 = .ok (.getfield 271, 3) := dk_180 1 15 (dk_at dksX6_goStick_7 20 rfl rfl)
theorem dX6_goStick_190 : decode cX6_goStick 190 = .ok (.iload 6, 2) := dk_21 6 (dk_at dksX6_goStick_8 0 rfl rfl)
theorem dX6_goStick_192 : decode cX6_goStick 192 = .ok (.iconst (-1), 1) := dk_2 (dk_at dksX6_goStick_8 2 rfl rfl)
theorem dX6_goStick_193 : decode cX6_goStick 193 = .ok (.if_icmp .ne 7, 3) := dk_160 0 7 (dk_at dksX6_goStick_8 3 rfl rfl)
theorem dX6_goStick_196 : decode cX6_goStick 196 = .ok (.iconst 0, 1) := dk_3 (dk_at dksX6_goStick_8 6 rfl rfl)
theorem dX6_goStick_197 : decode cX6_goStick 197 = .ok (.goto 4, 3) := dk_167 0 4 (dk_at dksX6_goStick_8 7 rfl rfl)
theorem dX6_goStick_200 : decode cX6_goStick 200 = .ok (.iconst 1, 1) := dk_4 (dk_at dksX6_goStick_8 10 rfl rfl)
theorem dX6_goStick_201 : decode cX6_goStick 201 = .ok (.iadd, 1) := dk_96 (dk_at dksX6_goStick_8 11 rfl rfl)
theorem dX6_goStick_202 : decode cX6_goStick 202 = .ok (.putfield 271, 3) := dk_181 1 15 (dk_at dksX6_goStick_8 12 rfl rfl)
theorem dX6_goStick_205 : decode cX6_goStick 205 = .ok (.aload_n 0, 1) := dk_42 (dk_at dksX6_goStick_8 15 rfl rfl)
theorem dX6_goStick_206 : decode cX6_goStick 206 = .ok (.dup, 1) := dk_89 (dk_at dksX6_goStick_8 16 rfl rfl)
theorem dX6_goStick_207 : decode cX6_goStick 207 = .ok (.getfield 274, 3) := dk_180 1 18 (dk_at dksX6_goStick_8 17 rfl rfl)
theorem dX6_goStick_210 : decode cX6_goStick 210 = .ok (.iload 6, 2) := dk_21 6 (dk_at dksX6_goStick_8 20 rfl rfl)
theorem dX6_goStick_212 : decode cX6_goStick 212 = .ok (.iconst (-1), 1) := dk_2 (dk_at dksX6_goStick_8 22 rfl rfl)
theorem dX6_goStick_213 : decode cX6_goStick 213 = .ok (.if_icmp .ne 7, 3) := dk_160 0 7 (dk_at dksX6_goStick_9 0 rfl rfl)
theorem dX6_goStick_216 : decode cX6_goStick 216 = .ok (.iconst 0, 1) := dk_3 (dk_at dksX6_goStick_9 3 rfl rfl)
theorem dX6_goStick_217 : decode cX6_goStick 217 = .ok (.goto 7, 3) := dk_167 0 7 (dk_at dksX6_goStick_9 4 rfl rfl)
theorem dX6_goStick_220 : decode cX6_goStick 220 = .ok (.iconst 1, 1) := dk_4 (dk_at dksX6_goStick_9 7 rfl rfl)
theorem dX6_goStick_221 : decode cX6_goStick 221 = .ok (.iload 6, 2) := dk_21 6 (dk_at dksX6_goStick_9 8 rfl rfl)
theorem dX6_goStick_223 : decode cX6_goStick 223 = .ok (.ishl, 1) := dk_120 (dk_at dksX6_goStick_9 10 rfl rfl)
theorem dX6_goStick_224 : decode cX6_goStick 224 = .ok (.ior, 1) := dk_128 (dk_at dksX6_goStick_9 11 rfl rfl)
theorem dX6_goStick_225 : decode cX6_goStick 225 = .ok (.putfield 274, 3) := dk_181 1 18 (dk_at dksX6_goStick_9 12 rfl rfl)
theorem dX6_goStick_228 : decode cX6_goStick 228 = .ok (.iload 5, 2) := dk_21 5 (dk_at dksX6_goStick_9 15 rfl rfl)
theorem dX6_goStick_230 : decode cX6_goStick 230 = .ok (.bipush 60, 2) := dk_16 60 (dk_at dksX6_goStick_9 17 rfl rfl)
theorem dX6_goStick_232 : decode cX6_goStick 232 = .ok (.if_icmp .ne 4, 3) := dk_160 0 4 (dk_at dksX6_goStick_9 19 rfl rfl)
theorem dX6_goStick_235 : decode cX6_goStick 235 = .ok (.return_, 1) := dk_177 (dk_at dksX6_goStick_9 22 rfl rfl)
theorem dX6_goStick_236 : decode cX6_goStick 236 = .ok (.iconst 0, 1) := dk_3 (dk_at dksX6_goStick_9 23 rfl rfl)
theorem dX6_goStick_237 : decode cX6_goStick 237 = .ok (.istore 4, 2) := dk_54 4 (dk_at dksX6_goStick_10 0 rfl rfl)
theorem dX6_goStick_239 : decode cX6_goStick 239 = .ok (.aload_n 0, 1) := dk_42 (dk_at dksX6_goStick_10 2 rfl rfl)
theorem dX6_goStick_240 : decode cX6_goStick 240 = .ok (.getfield 52, 3) := dk_180 0 52 (dk_at dksX6_goStick_10 3 rfl rfl)
theorem dX6_goStick_243 : decode cX6_goStick 243 = .ok (.iload 5, 2) := dk_21 5 (dk_at dksX6_goStick_10 6 rfl rfl)
theorem dX6_goStick_245 : decode cX6_goStick 245 = .ok (.iconst 1, 1) := dk_4 (dk_at dksX6_goStick_10 8 rfl rfl)
theorem dX6_goStick_246 : decode cX6_goStick 246 = .ok (.iadd, 1) := dk_96 (dk_at dksX6_goStick_10 9 rfl rfl)
theorem dX6_goStick_247 : decode cX6_goStick 247 = .ok (.iconst 1, 1) := dk_4 (dk_at dksX6_goStick_10 10 rfl rfl)
theorem dX6_goStick_248 : decode cX6_goStick 248 = .ok (.bastore, 1) := dk_84 (dk_at dksX6_goStick_10 11 rfl rfl)
theorem dX6_goStick_249 : decode cX6_goStick 249 = .ok (.iload 7, 2) := dk_21 7 (dk_at dksX6_goStick_10 12 rfl rfl)
theorem dX6_goStick_251 : decode cX6_goStick 251 = .ok (.iconst (-1), 1) := dk_2 (dk_at dksX6_goStick_10 14 rfl rfl)
theorem dX6_goStick_252 : decode cX6_goStick 252 = .ok (.if_icmp .eq 21, 3) := dk_159 0 21 (dk_at dksX6_goStick_10 15 rfl rfl)
theorem dX6_goStick_255 : decode cX6_goStick 255 = .ok (.aload_n 0, 1) := dk_42 (dk_at dksX6_goStick_10 18 rfl rfl)
theorem dX6_goStick_256 : decode cX6_goStick 256 = .ok (.getfield 241, 3) := dk_180 0 241 (dk_at dksX6_goStick_10 19 rfl rfl)
theorem dX6_goStick_259 : decode cX6_goStick 259 = .ok (.iload 7, 2) := dk_21 7 (dk_at dksX6_goStick_10 22 rfl rfl)
theorem dX6_goStick_261 : decode cX6_goStick 261 = .ok (.invokestatic 262, 3) := dk_184 1 6 (dk_at dksX6_goStick_11 0 rfl rfl)
theorem dX6_goStick_264 : decode cX6_goStick 264 = .ok (.iconst 1, 1) := dk_4 (dk_at dksX6_goStick_11 3 rfl rfl)
theorem dX6_goStick_265 : decode cX6_goStick 265 = .ok (.if_icmp .ne 8, 3) := dk_160 0 8 (dk_at dksX6_goStick_11 4 rfl rfl)
theorem dX6_goStick_268 : decode cX6_goStick 268 = .ok (.bipush (-3), 2) := dk_16 253 (dk_at dksX6_goStick_11 7 rfl rfl)
theorem dX6_goStick_270 : decode cX6_goStick 270 = .ok (.goto 5, 3) := dk_167 0 5 (dk_at dksX6_goStick_11 9 rfl rfl)
theorem dX6_goStick_273 : decode cX6_goStick 273 = .ok (.iload 7, 2) := dk_21 7 (dk_at dksX6_goStick_11 12 rfl rfl)
theorem dX6_goStick_275 : decode cX6_goStick 275 = .ok (.istore_n 3, 1) := dk_62 (dk_at dksX6_goStick_11 14 rfl rfl)
theorem dX6_goStick_276 : decode cX6_goStick 276 = .ok (.iinc 5 1, 3) := dk_132 5 1 (dk_at dksX6_goStick_11 15 rfl rfl)
theorem dX6_goStick_279 : decode cX6_goStick 279 = .ok (.goto (-191), 3) := dk_167 255 65 (dk_at dksX6_goStick_11 18 rfl rfl)
theorem dX6_goStick_282 : decode cX6_goStick 282 = .ok (.return_, 1) := dk_177 (dk_at dksX6_goStick_11 21 rfl rfl)
abbrev cX6_joinFrom : ByteArray := prog_14_method_55_code
def yX6_joinFrom : MethodName := ⟨RX6, "joinFrom", "(II)I"⟩
def dkwX6_joinFrom_2 : List UInt8 := [160, 0, 5, 29, 172, 132, 3, 1, 167, 255, 203, 2, 172]
abbrev dktX6_joinFrom_2 : List UInt8 := dkwX6_joinFrom_2 ++ []
def dkwX6_joinFrom_1 : List UInt8 := [180, 0, 238, 29, 184, 1, 6, 154, 0, 22, 28, 42, 180, 0, 43, 29, 46, 112, 42, 180, 0, 46, 29, 46]
abbrev dktX6_joinFrom_1 : List UInt8 := dkwX6_joinFrom_1 ++ dktX6_joinFrom_2
def dkwX6_joinFrom_0 : List UInt8 := [3, 62, 29, 42, 180, 0, 9, 7, 46, 162, 0, 49, 42, 29, 3, 182, 0, 232, 27, 160, 0, 33, 42]
abbrev dktX6_joinFrom_0 : List UInt8 := dkwX6_joinFrom_0 ++ dktX6_joinFrom_1
theorem dksX6_joinFrom_0 : cX6_joinFrom.data.toList.drop 0 = dktX6_joinFrom_0 := by decide +kernel
theorem dksX6_joinFrom_1 : cX6_joinFrom.data.toList.drop 23 = dktX6_joinFrom_1 := dk_seg dksX6_joinFrom_0 23 rfl rfl
theorem dksX6_joinFrom_2 : cX6_joinFrom.data.toList.drop 47 = dktX6_joinFrom_2 := dk_seg dksX6_joinFrom_1 24 rfl rfl
theorem dX6_joinFrom_0 : decode cX6_joinFrom 0 = .ok (.iconst 0, 1) := dk_3 (dk_at dksX6_joinFrom_0 0 rfl rfl)
theorem dX6_joinFrom_1 : decode cX6_joinFrom 1 = .ok (.istore_n 3, 1) := dk_62 (dk_at dksX6_joinFrom_0 1 rfl rfl)
theorem dX6_joinFrom_2 : decode cX6_joinFrom 2 = .ok (.iload_n 3, 1) := dk_29 (dk_at dksX6_joinFrom_0 2 rfl rfl)
theorem dX6_joinFrom_3 : decode cX6_joinFrom 3 = .ok (.aload_n 0, 1) := dk_42 (dk_at dksX6_joinFrom_0 3 rfl rfl)
theorem dX6_joinFrom_4 : decode cX6_joinFrom 4 = .ok (.getfield 9, 3) := dk_180 0 9 (dk_at dksX6_joinFrom_0 4 rfl rfl)
theorem dX6_joinFrom_7 : decode cX6_joinFrom 7 = .ok (.iconst 4, 1) := dk_7 (dk_at dksX6_joinFrom_0 7 rfl rfl)
theorem dX6_joinFrom_8 : decode cX6_joinFrom 8 = .ok (.iaload, 1) := dk_46 (dk_at dksX6_joinFrom_0 8 rfl rfl)
theorem dX6_joinFrom_9 : decode cX6_joinFrom 9 = .ok (.if_icmp .ge 49, 3) := dk_162 0 49 (dk_at dksX6_joinFrom_0 9 rfl rfl)
theorem dX6_joinFrom_12 : decode cX6_joinFrom 12 = .ok (.aload_n 0, 1) := dk_42 (dk_at dksX6_joinFrom_0 12 rfl rfl)
theorem dX6_joinFrom_13 : decode cX6_joinFrom 13 = .ok (.iload_n 3, 1) := dk_29 (dk_at dksX6_joinFrom_0 13 rfl rfl)
theorem dX6_joinFrom_14 : decode cX6_joinFrom 14 = .ok (.iconst 0, 1) := dk_3 (dk_at dksX6_joinFrom_0 14 rfl rfl)
theorem dX6_joinFrom_15 : decode cX6_joinFrom 15 = .ok (.invokevirtual 232, 3) := dk_182 0 232 (dk_at dksX6_joinFrom_0 15 rfl rfl)
theorem dX6_joinFrom_18 : decode cX6_joinFrom 18 = .ok (.iload_n 1, 1) := dk_27 (dk_at dksX6_joinFrom_0 18 rfl rfl)
theorem dX6_joinFrom_19 : decode cX6_joinFrom 19 = .ok (.if_icmp .ne 33, 3) := dk_160 0 33 (dk_at dksX6_joinFrom_0 19 rfl rfl)
theorem dX6_joinFrom_22 : decode cX6_joinFrom 22 = .ok (.aload_n 0, 1) := dk_42 (dk_at dksX6_joinFrom_0 22 rfl rfl)
theorem dX6_joinFrom_23 : decode cX6_joinFrom 23 = .ok (.getfield 238, 3) := dk_180 0 238 (dk_at dksX6_joinFrom_1 0 rfl rfl)
theorem dX6_joinFrom_26 : decode cX6_joinFrom 26 = .ok (.iload_n 3, 1) := dk_29 (dk_at dksX6_joinFrom_1 3 rfl rfl)
theorem dX6_joinFrom_27 : decode cX6_joinFrom 27 = .ok (.invokestatic 262, 3) := dk_184 1 6 (dk_at dksX6_joinFrom_1 4 rfl rfl)
theorem dX6_joinFrom_30 : decode cX6_joinFrom 30 = .ok (.ifCond .ne 22, 3) := dk_154 0 22 (dk_at dksX6_joinFrom_1 7 rfl rfl)
theorem dX6_joinFrom_33 : decode cX6_joinFrom 33 = .ok (.iload_n 2, 1) := dk_28 (dk_at dksX6_joinFrom_1 10 rfl rfl)
theorem dX6_joinFrom_34 : decode cX6_joinFrom 34 = .ok (.aload_n 0, 1) := dk_42 (dk_at dksX6_joinFrom_1 11 rfl rfl)
theorem dX6_joinFrom_35 : decode cX6_joinFrom 35 = .ok (.getfield 43, 3) := dk_180 0 43 (dk_at dksX6_joinFrom_1 12 rfl rfl)
theorem dX6_joinFrom_38 : decode cX6_joinFrom 38 = .ok (.iload_n 3, 1) := dk_29 (dk_at dksX6_joinFrom_1 15 rfl rfl)
theorem dX6_joinFrom_39 : decode cX6_joinFrom 39 = .ok (.iaload, 1) := dk_46 (dk_at dksX6_joinFrom_1 16 rfl rfl)
theorem dX6_joinFrom_40 : decode cX6_joinFrom 40 = .ok (.irem, 1) := dk_112 (dk_at dksX6_joinFrom_1 17 rfl rfl)
theorem dX6_joinFrom_41 : decode cX6_joinFrom 41 = .ok (.aload_n 0, 1) := dk_42 (dk_at dksX6_joinFrom_1 18 rfl rfl)
theorem dX6_joinFrom_42 : decode cX6_joinFrom 42 = .ok (.getfield 46, 3) := dk_180 0 46 (dk_at dksX6_joinFrom_1 19 rfl rfl)
theorem dX6_joinFrom_45 : decode cX6_joinFrom 45 = .ok (.iload_n 3, 1) := dk_29 (dk_at dksX6_joinFrom_1 22 rfl rfl)
theorem dX6_joinFrom_46 : decode cX6_joinFrom 46 = .ok (.iaload, 1) := dk_46 (dk_at dksX6_joinFrom_1 23 rfl rfl)
theorem dX6_joinFrom_47 : decode cX6_joinFrom 47 = .ok (.if_icmp .ne 5, 3) := dk_160 0 5 (dk_at dksX6_joinFrom_2 0 rfl rfl)
theorem dX6_joinFrom_50 : decode cX6_joinFrom 50 = .ok (.iload_n 3, 1) := dk_29 (dk_at dksX6_joinFrom_2 3 rfl rfl)
theorem dX6_joinFrom_51 : decode cX6_joinFrom 51 = .ok (.ireturn, 1) := dk_172 (dk_at dksX6_joinFrom_2 4 rfl rfl)
theorem dX6_joinFrom_52 : decode cX6_joinFrom 52 = .ok (.iinc 3 1, 3) := dk_132 3 1 (dk_at dksX6_joinFrom_2 5 rfl rfl)
theorem dX6_joinFrom_55 : decode cX6_joinFrom 55 = .ok (.goto (-53), 3) := dk_167 255 203 (dk_at dksX6_joinFrom_2 8 rfl rfl)
theorem dX6_joinFrom_58 : decode cX6_joinFrom 58 = .ok (.iconst (-1), 1) := dk_2 (dk_at dksX6_joinFrom_2 11 rfl rfl)
theorem dX6_joinFrom_59 : decode cX6_joinFrom 59 = .ok (.ireturn, 1) := dk_172 (dk_at dksX6_joinFrom_2 12 rfl rfl)
abbrev cX6_sea : ByteArray := prog_14_method_60_code
def yX6_sea : MethodName := ⟨RX6, "sea", "(II)I"⟩
def dkwX6_sea_0 : List UInt8 := [42, 27, 28, 182, 1, 28, 153, 0, 12, 42, 28, 2, 182, 1, 32, 167, 0, 5, 16, 254, 172]
abbrev dktX6_sea_0 : List UInt8 := dkwX6_sea_0 ++ []
theorem dksX6_sea_0 : cX6_sea.data.toList.drop 0 = dktX6_sea_0 := by decide +kernel
theorem dX6_sea_0 : decode cX6_sea 0 = .ok (.aload_n 0, 1) := dk_42 (dk_at dksX6_sea_0 0 rfl rfl)
theorem dX6_sea_1 : decode cX6_sea 1 = .ok (.iload_n 1, 1) := dk_27 (dk_at dksX6_sea_0 1 rfl rfl)
theorem dX6_sea_2 : decode cX6_sea 2 = .ok (.iload_n 2, 1) := dk_28 (dk_at dksX6_sea_0 2 rfl rfl)
theorem dX6_sea_3 : decode cX6_sea 3 = .ok (.invokevirtual 284, 3) := dk_182 1 28 (dk_at dksX6_sea_0 3 rfl rfl)
theorem dX6_sea_6 : decode cX6_sea 6 = .ok (.ifCond .eq 12, 3) := dk_153 0 12 (dk_at dksX6_sea_0 6 rfl rfl)
theorem dX6_sea_9 : decode cX6_sea 9 = .ok (.aload_n 0, 1) := dk_42 (dk_at dksX6_sea_0 9 rfl rfl)
theorem dX6_sea_10 : decode cX6_sea 10 = .ok (.iload_n 2, 1) := dk_28 (dk_at dksX6_sea_0 10 rfl rfl)
theorem dX6_sea_11 : decode cX6_sea 11 = .ok (.iconst (-1), 1) := dk_2 (dk_at dksX6_sea_0 11 rfl rfl)
theorem dX6_sea_12 : decode cX6_sea 12 = .ok (.invokevirtual 288, 3) := dk_182 1 32 (dk_at dksX6_sea_0 12 rfl rfl)
theorem dX6_sea_15 : decode cX6_sea 15 = .ok (.goto 5, 3) := dk_167 0 5 (dk_at dksX6_sea_0 15 rfl rfl)
theorem dX6_sea_18 : decode cX6_sea 18 = .ok (.bipush (-2), 2) := dk_16 254 (dk_at dksX6_sea_0 18 rfl rfl)
theorem dX6_sea_20 : decode cX6_sea 20 = .ok (.ireturn, 1) := dk_172 (dk_at dksX6_sea_0 20 rfl rfl)
abbrev cX6_comesOf : ByteArray := prog_14_method_57_code
def yX6_comesOf : MethodName := ⟨RX6, "comesOf", "(II)I"⟩
def dkwX6_comesOf_1 : List UInt8 := [167, 255, 235, 2, 172]
abbrev dktX6_comesOf_1 : List UInt8 := dkwX6_comesOf_1 ++ []
def dkwX6_comesOf_0 : List UInt8 := [27, 62, 29, 16, 60, 163, 0, 21, 42, 180, 0, 49, 29, 46, 28, 160, 0, 5, 29, 172, 132, 3, 1]
abbrev dktX6_comesOf_0 : List UInt8 := dkwX6_comesOf_0 ++ dktX6_comesOf_1
theorem dksX6_comesOf_0 : cX6_comesOf.data.toList.drop 0 = dktX6_comesOf_0 := by decide +kernel
theorem dksX6_comesOf_1 : cX6_comesOf.data.toList.drop 23 = dktX6_comesOf_1 := dk_seg dksX6_comesOf_0 23 rfl rfl
theorem dX6_comesOf_0 : decode cX6_comesOf 0 = .ok (.iload_n 1, 1) := dk_27 (dk_at dksX6_comesOf_0 0 rfl rfl)
theorem dX6_comesOf_1 : decode cX6_comesOf 1 = .ok (.istore_n 3, 1) := dk_62 (dk_at dksX6_comesOf_0 1 rfl rfl)
theorem dX6_comesOf_2 : decode cX6_comesOf 2 = .ok (.iload_n 3, 1) := dk_29 (dk_at dksX6_comesOf_0 2 rfl rfl)
theorem dX6_comesOf_3 : decode cX6_comesOf 3 = .ok (.bipush 60, 2) := dk_16 60 (dk_at dksX6_comesOf_0 3 rfl rfl)
theorem dX6_comesOf_5 : decode cX6_comesOf 5 = .ok (.if_icmp .gt 21, 3) := dk_163 0 21 (dk_at dksX6_comesOf_0 5 rfl rfl)
theorem dX6_comesOf_8 : decode cX6_comesOf 8 = .ok (.aload_n 0, 1) := dk_42 (dk_at dksX6_comesOf_0 8 rfl rfl)
theorem dX6_comesOf_9 : decode cX6_comesOf 9 = .ok (.getfield 49, 3) := dk_180 0 49 (dk_at dksX6_comesOf_0 9 rfl rfl)
theorem dX6_comesOf_12 : decode cX6_comesOf 12 = .ok (.iload_n 3, 1) := dk_29 (dk_at dksX6_comesOf_0 12 rfl rfl)
theorem dX6_comesOf_13 : decode cX6_comesOf 13 = .ok (.iaload, 1) := dk_46 (dk_at dksX6_comesOf_0 13 rfl rfl)
theorem dX6_comesOf_14 : decode cX6_comesOf 14 = .ok (.iload_n 2, 1) := dk_28 (dk_at dksX6_comesOf_0 14 rfl rfl)
theorem dX6_comesOf_15 : decode cX6_comesOf 15 = .ok (.if_icmp .ne 5, 3) := dk_160 0 5 (dk_at dksX6_comesOf_0 15 rfl rfl)
theorem dX6_comesOf_18 : decode cX6_comesOf 18 = .ok (.iload_n 3, 1) := dk_29 (dk_at dksX6_comesOf_0 18 rfl rfl)
theorem dX6_comesOf_19 : decode cX6_comesOf 19 = .ok (.ireturn, 1) := dk_172 (dk_at dksX6_comesOf_0 19 rfl rfl)
theorem dX6_comesOf_20 : decode cX6_comesOf 20 = .ok (.iinc 3 1, 3) := dk_132 3 1 (dk_at dksX6_comesOf_0 20 rfl rfl)
theorem dX6_comesOf_23 : decode cX6_comesOf 23 = .ok (.goto (-21), 3) := dk_167 255 235 (dk_at dksX6_comesOf_1 0 rfl rfl)
theorem dX6_comesOf_26 : decode cX6_comesOf 26 = .ok (.iconst (-1), 1) := dk_2 (dk_at dksX6_comesOf_1 3 rfl rfl)
theorem dX6_comesOf_27 : decode cX6_comesOf 27 = .ok (.ireturn, 1) := dk_172 (dk_at dksX6_comesOf_1 4 rfl rfl)
abbrev cX6_comes : ByteArray := prog_14_method_61_code
def yX6_comes : MethodName := ⟨RX6, "comes", "(III)I"⟩
def dkwX6_comes_1 : List UInt8 := [167, 0, 5, 16, 254, 172]
abbrev dktX6_comes_1 : List UInt8 := dkwX6_comes_1 ++ []
def dkwX6_comes_0 : List UInt8 := [42, 29, 133, 182, 0, 219, 153, 0, 21, 42, 27, 28, 182, 1, 28, 153, 0, 12, 42, 28, 29, 182, 1, 32]
abbrev dktX6_comes_0 : List UInt8 := dkwX6_comes_0 ++ dktX6_comes_1
theorem dksX6_comes_0 : cX6_comes.data.toList.drop 0 = dktX6_comes_0 := by decide +kernel
theorem dksX6_comes_1 : cX6_comes.data.toList.drop 24 = dktX6_comes_1 := dk_seg dksX6_comes_0 24 rfl rfl
theorem dX6_comes_0 : decode cX6_comes 0 = .ok (.aload_n 0, 1) := dk_42 (dk_at dksX6_comes_0 0 rfl rfl)
theorem dX6_comes_1 : decode cX6_comes 1 = .ok (.iload_n 3, 1) := dk_29 (dk_at dksX6_comes_0 1 rfl rfl)
theorem dX6_comes_2 : decode cX6_comes 2 = .ok (.i2l, 1) := dk_133 (dk_at dksX6_comes_0 2 rfl rfl)
theorem dX6_comes_3 : decode cX6_comes 3 = .ok (.invokevirtual 219, 3) := dk_182 0 219 (dk_at dksX6_comes_0 3 rfl rfl)
theorem dX6_comes_6 : decode cX6_comes 6 = .ok (.ifCond .eq 21, 3) := dk_153 0 21 (dk_at dksX6_comes_0 6 rfl rfl)
theorem dX6_comes_9 : decode cX6_comes 9 = .ok (.aload_n 0, 1) := dk_42 (dk_at dksX6_comes_0 9 rfl rfl)
theorem dX6_comes_10 : decode cX6_comes 10 = .ok (.iload_n 1, 1) := dk_27 (dk_at dksX6_comes_0 10 rfl rfl)
theorem dX6_comes_11 : decode cX6_comes 11 = .ok (.iload_n 2, 1) := dk_28 (dk_at dksX6_comes_0 11 rfl rfl)
theorem dX6_comes_12 : decode cX6_comes 12 = .ok (.invokevirtual 284, 3) := dk_182 1 28 (dk_at dksX6_comes_0 12 rfl rfl)
theorem dX6_comes_15 : decode cX6_comes 15 = .ok (.ifCond .eq 12, 3) := dk_153 0 12 (dk_at dksX6_comes_0 15 rfl rfl)
theorem dX6_comes_18 : decode cX6_comes 18 = .ok (.aload_n 0, 1) := dk_42 (dk_at dksX6_comes_0 18 rfl rfl)
theorem dX6_comes_19 : decode cX6_comes 19 = .ok (.iload_n 2, 1) := dk_28 (dk_at dksX6_comes_0 19 rfl rfl)
theorem dX6_comes_20 : decode cX6_comes 20 = .ok (.iload_n 3, 1) := dk_29 (dk_at dksX6_comes_0 20 rfl rfl)
theorem dX6_comes_21 : decode cX6_comes 21 = .ok (.invokevirtual 288, 3) := dk_182 1 32 (dk_at dksX6_comes_0 21 rfl rfl)
theorem dX6_comes_24 : decode cX6_comes 24 = .ok (.goto 5, 3) := dk_167 0 5 (dk_at dksX6_comes_1 0 rfl rfl)
theorem dX6_comes_27 : decode cX6_comes 27 = .ok (.bipush (-2), 2) := dk_16 254 (dk_at dksX6_comes_1 3 rfl rfl)
theorem dX6_comes_29 : decode cX6_comes 29 = .ok (.ireturn, 1) := dk_172 (dk_at dksX6_comes_1 5 rfl rfl)
abbrev cX6_way : ByteArray := prog_14_method_62_code
def yX6_way : MethodName := ⟨RX6, "way", "(II)I"⟩
def dkwX6_way_2 : List UInt8 := [128, 62, 132, 4, 1, 167, 255, 220, 29, 172]
abbrev dktX6_way_2 : List UInt8 := dkwX6_way_2 ++ []
def dkwX6_way_1 : List UInt8 := [29, 42, 180, 0, 49, 21, 4, 46, 156, 0, 7, 3, 167, 0, 12, 4, 42, 180, 0, 49, 21, 4, 46, 120]
abbrev dktX6_way_1 : List UInt8 := dkwX6_way_1 ++ dktX6_way_2
def dkwX6_way_0 : List UInt8 := [42, 27, 28, 182, 1, 28, 154, 0, 6, 16, 254, 172, 3, 62, 28, 54, 4, 21, 4, 16, 60, 163, 0, 35]
abbrev dktX6_way_0 : List UInt8 := dkwX6_way_0 ++ dktX6_way_1
theorem dksX6_way_0 : cX6_way.data.toList.drop 0 = dktX6_way_0 := by decide +kernel
theorem dksX6_way_1 : cX6_way.data.toList.drop 24 = dktX6_way_1 := dk_seg dksX6_way_0 24 rfl rfl
theorem dksX6_way_2 : cX6_way.data.toList.drop 48 = dktX6_way_2 := dk_seg dksX6_way_1 24 rfl rfl
theorem dX6_way_0 : decode cX6_way 0 = .ok (.aload_n 0, 1) := dk_42 (dk_at dksX6_way_0 0 rfl rfl)
theorem dX6_way_1 : decode cX6_way 1 = .ok (.iload_n 1, 1) := dk_27 (dk_at dksX6_way_0 1 rfl rfl)
theorem dX6_way_2 : decode cX6_way 2 = .ok (.iload_n 2, 1) := dk_28 (dk_at dksX6_way_0 2 rfl rfl)
theorem dX6_way_3 : decode cX6_way 3 = .ok (.invokevirtual 284, 3) := dk_182 1 28 (dk_at dksX6_way_0 3 rfl rfl)
theorem dX6_way_6 : decode cX6_way 6 = .ok (.ifCond .ne 6, 3) := dk_154 0 6 (dk_at dksX6_way_0 6 rfl rfl)
theorem dX6_way_9 : decode cX6_way 9 = .ok (.bipush (-2), 2) := dk_16 254 (dk_at dksX6_way_0 9 rfl rfl)
theorem dX6_way_11 : decode cX6_way 11 = .ok (.ireturn, 1) := dk_172 (dk_at dksX6_way_0 11 rfl rfl)
theorem dX6_way_12 : decode cX6_way 12 = .ok (.iconst 0, 1) := dk_3 (dk_at dksX6_way_0 12 rfl rfl)
theorem dX6_way_13 : decode cX6_way 13 = .ok (.istore_n 3, 1) := dk_62 (dk_at dksX6_way_0 13 rfl rfl)
theorem dX6_way_14 : decode cX6_way 14 = .ok (.iload_n 2, 1) := dk_28 (dk_at dksX6_way_0 14 rfl rfl)
theorem dX6_way_15 : decode cX6_way 15 = .ok (.istore 4, 2) := dk_54 4 (dk_at dksX6_way_0 15 rfl rfl)
theorem dX6_way_17 : decode cX6_way 17 = .ok (.iload 4, 2) := dk_21 4 (dk_at dksX6_way_0 17 rfl rfl)
theorem dX6_way_19 : decode cX6_way 19 = .ok (.bipush 60, 2) := dk_16 60 (dk_at dksX6_way_0 19 rfl rfl)
theorem dX6_way_21 : decode cX6_way 21 = .ok (.if_icmp .gt 35, 3) := dk_163 0 35 (dk_at dksX6_way_0 21 rfl rfl)
theorem dX6_way_24 : decode cX6_way 24 = .ok (.iload_n 3, 1) := dk_29 (dk_at dksX6_way_1 0 rfl rfl)
theorem dX6_way_25 : decode cX6_way 25 = .ok (.aload_n 0, 1) := dk_42 (dk_at dksX6_way_1 1 rfl rfl)
theorem dX6_way_26 : decode cX6_way 26 = .ok (.getfield 49, 3) := dk_180 0 49 (dk_at dksX6_way_1 2 rfl rfl)
theorem dX6_way_29 : decode cX6_way 29 = .ok (.iload 4, 2) := dk_21 4 (dk_at dksX6_way_1 5 rfl rfl)
theorem dX6_way_31 : decode cX6_way 31 = .ok (.iaload, 1) := dk_46 (dk_at dksX6_way_1 7 rfl rfl)
theorem dX6_way_32 : decode cX6_way 32 = .ok (.ifCond .ge 7, 3) := dk_156 0 7 (dk_at dksX6_way_1 8 rfl rfl)
theorem dX6_way_35 : decode cX6_way 35 = .ok (.iconst 0, 1) := dk_3 (dk_at dksX6_way_1 11 rfl rfl)
theorem dX6_way_36 : decode cX6_way 36 = .ok (.goto 12, 3) := dk_167 0 12 (dk_at dksX6_way_1 12 rfl rfl)
theorem dX6_way_39 : decode cX6_way 39 = .ok (.iconst 1, 1) := dk_4 (dk_at dksX6_way_1 15 rfl rfl)
theorem dX6_way_40 : decode cX6_way 40 = .ok (.aload_n 0, 1) := dk_42 (dk_at dksX6_way_1 16 rfl rfl)
theorem dX6_way_41 : decode cX6_way 41 = .ok (.getfield 49, 3) := dk_180 0 49 (dk_at dksX6_way_1 17 rfl rfl)
theorem dX6_way_44 : decode cX6_way 44 = .ok (.iload 4, 2) := dk_21 4 (dk_at dksX6_way_1 20 rfl rfl)
theorem dX6_way_46 : decode cX6_way 46 = .ok (.iaload, 1) := dk_46 (dk_at dksX6_way_1 22 rfl rfl)
theorem dX6_way_47 : decode cX6_way 47 = .ok (.ishl, 1) := dk_120 (dk_at dksX6_way_1 23 rfl rfl)
theorem dX6_way_48 : decode cX6_way 48 = .ok (.ior, 1) := dk_128 (dk_at dksX6_way_2 0 rfl rfl)
theorem dX6_way_49 : decode cX6_way 49 = .ok (.istore_n 3, 1) := dk_62 (dk_at dksX6_way_2 1 rfl rfl)
theorem dX6_way_50 : decode cX6_way 50 = .ok (.iinc 4 1, 3) := dk_132 4 1 (dk_at dksX6_way_2 2 rfl rfl)
theorem dX6_way_53 : decode cX6_way 53 = .ok (.goto (-36), 3) := dk_167 255 220 (dk_at dksX6_way_2 5 rfl rfl)
theorem dX6_way_56 : decode cX6_way 56 = .ok (.iload_n 3, 1) := dk_29 (dk_at dksX6_way_2 8 rfl rfl)
theorem dX6_way_57 : decode cX6_way 57 = .ok (.ireturn, 1) := dk_172 (dk_at dksX6_way_2 9 rfl rfl)
abbrev cX6_leaves : ByteArray := prog_14_method_63_code
def yX6_leaves : MethodName := ⟨RX6, "leaves", "(II)I"⟩
def dkwX6_leaves_0 : List UInt8 := [42, 27, 28, 182, 1, 28, 153, 0, 10, 42, 180, 1, 12, 167, 0, 5, 16, 254, 172]
abbrev dktX6_leaves_0 : List UInt8 := dkwX6_leaves_0 ++ []
theorem dksX6_leaves_0 : cX6_leaves.data.toList.drop 0 = dktX6_leaves_0 := by decide +kernel
theorem dX6_leaves_0 : decode cX6_leaves 0 = .ok (.aload_n 0, 1) := dk_42 (dk_at dksX6_leaves_0 0 rfl rfl)
theorem dX6_leaves_1 : decode cX6_leaves 1 = .ok (.iload_n 1, 1) := dk_27 (dk_at dksX6_leaves_0 1 rfl rfl)
theorem dX6_leaves_2 : decode cX6_leaves 2 = .ok (.iload_n 2, 1) := dk_28 (dk_at dksX6_leaves_0 2 rfl rfl)
theorem dX6_leaves_3 : decode cX6_leaves 3 = .ok (.invokevirtual 284, 3) := dk_182 1 28 (dk_at dksX6_leaves_0 3 rfl rfl)
theorem dX6_leaves_6 : decode cX6_leaves 6 = .ok (.ifCond .eq 10, 3) := dk_153 0 10 (dk_at dksX6_leaves_0 6 rfl rfl)
theorem dX6_leaves_9 : decode cX6_leaves 9 = .ok (.aload_n 0, 1) := dk_42 (dk_at dksX6_leaves_0 9 rfl rfl)
theorem dX6_leaves_10 : decode cX6_leaves 10 = .ok (.getfield 268, 3) := dk_180 1 12 (dk_at dksX6_leaves_0 10 rfl rfl)
theorem dX6_leaves_13 : decode cX6_leaves 13 = .ok (.goto 5, 3) := dk_167 0 5 (dk_at dksX6_leaves_0 13 rfl rfl)
theorem dX6_leaves_16 : decode cX6_leaves 16 = .ok (.bipush (-2), 2) := dk_16 254 (dk_at dksX6_leaves_0 16 rfl rfl)
theorem dX6_leaves_18 : decode cX6_leaves 18 = .ok (.ireturn, 1) := dk_172 (dk_at dksX6_leaves_0 18 rfl rfl)
abbrev cX6_waits : ByteArray := prog_14_method_64_code
def yX6_waits : MethodName := ⟨RX6, "waits", "(II)I"⟩
def dkwX6_waits_2 : List UInt8 := [46, 184, 1, 6, 4, 160, 0, 7, 4, 167, 0, 4, 3, 96, 62, 132, 4, 1, 167, 255, 207, 29, 172]
abbrev dktX6_waits_2 : List UInt8 := dkwX6_waits_2 ++ []
def dkwX6_waits_1 : List UInt8 := [29, 42, 180, 0, 49, 21, 4, 46, 155, 0, 28, 42, 180, 0, 40, 21, 4, 46, 42, 180, 0, 49, 21, 4]
abbrev dktX6_waits_1 : List UInt8 := dkwX6_waits_1 ++ dktX6_waits_2
def dkwX6_waits_0 : List UInt8 := [42, 27, 28, 182, 1, 28, 154, 0, 6, 16, 254, 172, 3, 62, 28, 54, 4, 21, 4, 16, 60, 163, 0, 48]
abbrev dktX6_waits_0 : List UInt8 := dkwX6_waits_0 ++ dktX6_waits_1
theorem dksX6_waits_0 : cX6_waits.data.toList.drop 0 = dktX6_waits_0 := by decide +kernel
theorem dksX6_waits_1 : cX6_waits.data.toList.drop 24 = dktX6_waits_1 := dk_seg dksX6_waits_0 24 rfl rfl
theorem dksX6_waits_2 : cX6_waits.data.toList.drop 48 = dktX6_waits_2 := dk_seg dksX6_waits_1 24 rfl rfl
theorem dX6_waits_0 : decode cX6_waits 0 = .ok (.aload_n 0, 1) := dk_42 (dk_at dksX6_waits_0 0 rfl rfl)
theorem dX6_waits_1 : decode cX6_waits 1 = .ok (.iload_n 1, 1) := dk_27 (dk_at dksX6_waits_0 1 rfl rfl)
theorem dX6_waits_2 : decode cX6_waits 2 = .ok (.iload_n 2, 1) := dk_28 (dk_at dksX6_waits_0 2 rfl rfl)
theorem dX6_waits_3 : decode cX6_waits 3 = .ok (.invokevirtual 284, 3) := dk_182 1 28 (dk_at dksX6_waits_0 3 rfl rfl)
theorem dX6_waits_6 : decode cX6_waits 6 = .ok (.ifCond .ne 6, 3) := dk_154 0 6 (dk_at dksX6_waits_0 6 rfl rfl)
theorem dX6_waits_9 : decode cX6_waits 9 = .ok (.bipush (-2), 2) := dk_16 254 (dk_at dksX6_waits_0 9 rfl rfl)
theorem dX6_waits_11 : decode cX6_waits 11 = .ok (.ireturn, 1) := dk_172 (dk_at dksX6_waits_0 11 rfl rfl)
theorem dX6_waits_12 : decode cX6_waits 12 = .ok (.iconst 0, 1) := dk_3 (dk_at dksX6_waits_0 12 rfl rfl)
theorem dX6_waits_13 : decode cX6_waits 13 = .ok (.istore_n 3, 1) := dk_62 (dk_at dksX6_waits_0 13 rfl rfl)
theorem dX6_waits_14 : decode cX6_waits 14 = .ok (.iload_n 2, 1) := dk_28 (dk_at dksX6_waits_0 14 rfl rfl)
theorem dX6_waits_15 : decode cX6_waits 15 = .ok (.istore 4, 2) := dk_54 4 (dk_at dksX6_waits_0 15 rfl rfl)
theorem dX6_waits_17 : decode cX6_waits 17 = .ok (.iload 4, 2) := dk_21 4 (dk_at dksX6_waits_0 17 rfl rfl)
theorem dX6_waits_19 : decode cX6_waits 19 = .ok (.bipush 60, 2) := dk_16 60 (dk_at dksX6_waits_0 19 rfl rfl)
theorem dX6_waits_21 : decode cX6_waits 21 = .ok (.if_icmp .gt 48, 3) := dk_163 0 48 (dk_at dksX6_waits_0 21 rfl rfl)
theorem dX6_waits_24 : decode cX6_waits 24 = .ok (.iload_n 3, 1) := dk_29 (dk_at dksX6_waits_1 0 rfl rfl)
theorem dX6_waits_25 : decode cX6_waits 25 = .ok (.aload_n 0, 1) := dk_42 (dk_at dksX6_waits_1 1 rfl rfl)
theorem dX6_waits_26 : decode cX6_waits 26 = .ok (.getfield 49, 3) := dk_180 0 49 (dk_at dksX6_waits_1 2 rfl rfl)
theorem dX6_waits_29 : decode cX6_waits 29 = .ok (.iload 4, 2) := dk_21 4 (dk_at dksX6_waits_1 5 rfl rfl)
theorem dX6_waits_31 : decode cX6_waits 31 = .ok (.iaload, 1) := dk_46 (dk_at dksX6_waits_1 7 rfl rfl)
theorem dX6_waits_32 : decode cX6_waits 32 = .ok (.ifCond .lt 28, 3) := dk_155 0 28 (dk_at dksX6_waits_1 8 rfl rfl)
theorem dX6_waits_35 : decode cX6_waits 35 = .ok (.aload_n 0, 1) := dk_42 (dk_at dksX6_waits_1 11 rfl rfl)
theorem dX6_waits_36 : decode cX6_waits 36 = .ok (.getfield 40, 3) := dk_180 0 40 (dk_at dksX6_waits_1 12 rfl rfl)
theorem dX6_waits_39 : decode cX6_waits 39 = .ok (.iload 4, 2) := dk_21 4 (dk_at dksX6_waits_1 15 rfl rfl)
theorem dX6_waits_41 : decode cX6_waits 41 = .ok (.iaload, 1) := dk_46 (dk_at dksX6_waits_1 17 rfl rfl)
theorem dX6_waits_42 : decode cX6_waits 42 = .ok (.aload_n 0, 1) := dk_42 (dk_at dksX6_waits_1 18 rfl rfl)
theorem dX6_waits_43 : decode cX6_waits 43 = .ok (.getfield 49, 3) := dk_180 0 49 (dk_at dksX6_waits_1 19 rfl rfl)
theorem dX6_waits_46 : decode cX6_waits 46 = .ok (.iload 4, 2) := dk_21 4 (dk_at dksX6_waits_1 22 rfl rfl)
theorem dX6_waits_48 : decode cX6_waits 48 = .ok (.iaload, 1) := dk_46 (dk_at dksX6_waits_2 0 rfl rfl)
theorem dX6_waits_49 : decode cX6_waits 49 = .ok (.invokestatic 262, 3) := dk_184 1 6 (dk_at dksX6_waits_2 1 rfl rfl)
theorem dX6_waits_52 : decode cX6_waits 52 = .ok (.iconst 1, 1) := dk_4 (dk_at dksX6_waits_2 4 rfl rfl)
theorem dX6_waits_53 : decode cX6_waits 53 = .ok (.if_icmp .ne 7, 3) := dk_160 0 7 (dk_at dksX6_waits_2 5 rfl rfl)
theorem dX6_waits_56 : decode cX6_waits 56 = .ok (.iconst 1, 1) := dk_4 (dk_at dksX6_waits_2 8 rfl rfl)
theorem dX6_waits_57 : decode cX6_waits 57 = .ok (.goto 4, 3) := dk_167 0 4 (dk_at dksX6_waits_2 9 rfl rfl)
theorem dX6_waits_60 : decode cX6_waits 60 = .ok (.iconst 0, 1) := dk_3 (dk_at dksX6_waits_2 12 rfl rfl)
theorem dX6_waits_61 : decode cX6_waits 61 = .ok (.iadd, 1) := dk_96 (dk_at dksX6_waits_2 13 rfl rfl)
theorem dX6_waits_62 : decode cX6_waits 62 = .ok (.istore_n 3, 1) := dk_62 (dk_at dksX6_waits_2 14 rfl rfl)
theorem dX6_waits_63 : decode cX6_waits 63 = .ok (.iinc 4 1, 3) := dk_132 4 1 (dk_at dksX6_waits_2 15 rfl rfl)
theorem dX6_waits_66 : decode cX6_waits 66 = .ok (.goto (-49), 3) := dk_167 255 207 (dk_at dksX6_waits_2 18 rfl rfl)
theorem dX6_waits_69 : decode cX6_waits 69 = .ok (.iload_n 3, 1) := dk_29 (dk_at dksX6_waits_2 21 rfl rfl)
theorem dX6_waits_70 : decode cX6_waits 70 = .ok (.ireturn, 1) := dk_172 (dk_at dksX6_waits_2 22 rfl rfl)
abbrev cX6_jumps : ByteArray := prog_14_method_65_code
def yX6_jumps : MethodName := ⟨RX6, "jumps", "(II)I"⟩
def dkwX6_jumps_0 : List UInt8 := [42, 27, 28, 182, 1, 28, 153, 0, 10, 42, 180, 1, 15, 167, 0, 5, 16, 254, 172]
abbrev dktX6_jumps_0 : List UInt8 := dkwX6_jumps_0 ++ []
theorem dksX6_jumps_0 : cX6_jumps.data.toList.drop 0 = dktX6_jumps_0 := by decide +kernel
theorem dX6_jumps_0 : decode cX6_jumps 0 = .ok (.aload_n 0, 1) := dk_42 (dk_at dksX6_jumps_0 0 rfl rfl)
theorem dX6_jumps_1 : decode cX6_jumps 1 = .ok (.iload_n 1, 1) := dk_27 (dk_at dksX6_jumps_0 1 rfl rfl)
theorem dX6_jumps_2 : decode cX6_jumps 2 = .ok (.iload_n 2, 1) := dk_28 (dk_at dksX6_jumps_0 2 rfl rfl)
theorem dX6_jumps_3 : decode cX6_jumps 3 = .ok (.invokevirtual 284, 3) := dk_182 1 28 (dk_at dksX6_jumps_0 3 rfl rfl)
theorem dX6_jumps_6 : decode cX6_jumps 6 = .ok (.ifCond .eq 10, 3) := dk_153 0 10 (dk_at dksX6_jumps_0 6 rfl rfl)
theorem dX6_jumps_9 : decode cX6_jumps 9 = .ok (.aload_n 0, 1) := dk_42 (dk_at dksX6_jumps_0 9 rfl rfl)
theorem dX6_jumps_10 : decode cX6_jumps 10 = .ok (.getfield 271, 3) := dk_180 1 15 (dk_at dksX6_jumps_0 10 rfl rfl)
theorem dX6_jumps_13 : decode cX6_jumps 13 = .ok (.goto 5, 3) := dk_167 0 5 (dk_at dksX6_jumps_0 13 rfl rfl)
theorem dX6_jumps_16 : decode cX6_jumps 16 = .ok (.bipush (-2), 2) := dk_16 254 (dk_at dksX6_jumps_0 16 rfl rfl)
theorem dX6_jumps_18 : decode cX6_jumps 18 = .ok (.ireturn, 1) := dk_172 (dk_at dksX6_jumps_0 18 rfl rfl)
abbrev cX6_used : ByteArray := prog_14_method_66_code
def yX6_used : MethodName := ⟨RX6, "used", "(II)I"⟩
def dkwX6_used_0 : List UInt8 := [42, 27, 28, 182, 1, 28, 153, 0, 10, 42, 180, 1, 18, 167, 0, 5, 16, 254, 172]
abbrev dktX6_used_0 : List UInt8 := dkwX6_used_0 ++ []
theorem dksX6_used_0 : cX6_used.data.toList.drop 0 = dktX6_used_0 := by decide +kernel
theorem dX6_used_0 : decode cX6_used 0 = .ok (.aload_n 0, 1) := dk_42 (dk_at dksX6_used_0 0 rfl rfl)
theorem dX6_used_1 : decode cX6_used 1 = .ok (.iload_n 1, 1) := dk_27 (dk_at dksX6_used_0 1 rfl rfl)
theorem dX6_used_2 : decode cX6_used 2 = .ok (.iload_n 2, 1) := dk_28 (dk_at dksX6_used_0 2 rfl rfl)
theorem dX6_used_3 : decode cX6_used 3 = .ok (.invokevirtual 284, 3) := dk_182 1 28 (dk_at dksX6_used_0 3 rfl rfl)
theorem dX6_used_6 : decode cX6_used 6 = .ok (.ifCond .eq 10, 3) := dk_153 0 10 (dk_at dksX6_used_0 6 rfl rfl)
theorem dX6_used_9 : decode cX6_used 9 = .ok (.aload_n 0, 1) := dk_42 (dk_at dksX6_used_0 9 rfl rfl)
theorem dX6_used_10 : decode cX6_used 10 = .ok (.getfield 274, 3) := dk_180 1 18 (dk_at dksX6_used_0 10 rfl rfl)
theorem dX6_used_13 : decode cX6_used 13 = .ok (.goto 5, 3) := dk_167 0 5 (dk_at dksX6_used_0 13 rfl rfl)
theorem dX6_used_16 : decode cX6_used 16 = .ok (.bipush (-2), 2) := dk_16 254 (dk_at dksX6_used_0 16 rfl rfl)
theorem dX6_used_18 : decode cX6_used 18 = .ok (.ireturn, 1) := dk_172 (dk_at dksX6_used_0 18 rfl rfl)
abbrev cX6_together : ByteArray := prog_14_method_67_code
def yX6_together : MethodName := ⟨RX6, "together", "(II)I"⟩
def dkwX6_together_3 : List UInt8 := [167, 255, 211, 21, 4, 172]
abbrev dktX6_together_3 : List UInt8 := dkwX6_together_3 ++ []
def dkwX6_together_2 : List UInt8 := [180, 0, 49, 16, 60, 46, 29, 160, 0, 10, 4, 21, 5, 120, 167, 0, 4, 3, 128, 54, 4, 132, 5, 1]
abbrev dktX6_together_2 : List UInt8 := dkwX6_together_2 ++ dktX6_together_3
def dkwX6_together_1 : List UInt8 := [54, 5, 21, 5, 42, 180, 0, 9, 6, 46, 162, 0, 40, 42, 21, 5, 28, 182, 1, 24, 21, 4, 42]
abbrev dktX6_together_1 : List UInt8 := dkwX6_together_1 ++ dktX6_together_2
def dkwX6_together_0 : List UInt8 := [42, 27, 28, 182, 1, 28, 154, 0, 6, 16, 254, 172, 42, 180, 0, 49, 16, 60, 46, 62, 3, 54, 4, 3]
abbrev dktX6_together_0 : List UInt8 := dkwX6_together_0 ++ dktX6_together_1
theorem dksX6_together_0 : cX6_together.data.toList.drop 0 = dktX6_together_0 := by decide +kernel
theorem dksX6_together_1 : cX6_together.data.toList.drop 24 = dktX6_together_1 := dk_seg dksX6_together_0 24 rfl rfl
theorem dksX6_together_2 : cX6_together.data.toList.drop 47 = dktX6_together_2 := dk_seg dksX6_together_1 23 rfl rfl
theorem dksX6_together_3 : cX6_together.data.toList.drop 71 = dktX6_together_3 := dk_seg dksX6_together_2 24 rfl rfl
theorem dX6_together_0 : decode cX6_together 0 = .ok (.aload_n 0, 1) := dk_42 (dk_at dksX6_together_0 0 rfl rfl)
theorem dX6_together_1 : decode cX6_together 1 = .ok (.iload_n 1, 1) := dk_27 (dk_at dksX6_together_0 1 rfl rfl)
theorem dX6_together_2 : decode cX6_together 2 = .ok (.iload_n 2, 1) := dk_28 (dk_at dksX6_together_0 2 rfl rfl)
theorem dX6_together_3 : decode cX6_together 3 = .ok (.invokevirtual 284, 3) := dk_182 1 28 (dk_at dksX6_together_0 3 rfl rfl)
theorem dX6_together_6 : decode cX6_together 6 = .ok (.ifCond .ne 6, 3) := dk_154 0 6 (dk_at dksX6_together_0 6 rfl rfl)
theorem dX6_together_9 : decode cX6_together 9 = .ok (.bipush (-2), 2) := dk_16 254 (dk_at dksX6_together_0 9 rfl rfl)
theorem dX6_together_11 : decode cX6_together 11 = .ok (.ireturn, 1) := dk_172 (dk_at dksX6_together_0 11 rfl rfl)
theorem dX6_together_12 : decode cX6_together 12 = .ok (.aload_n 0, 1) := dk_42 (dk_at dksX6_together_0 12 rfl rfl)
theorem dX6_together_13 : decode cX6_together 13 = .ok (.getfield 49, 3) := dk_180 0 49 (dk_at dksX6_together_0 13 rfl rfl)
theorem dX6_together_16 : decode cX6_together 16 = .ok (.bipush 60, 2) := dk_16 60 (dk_at dksX6_together_0 16 rfl rfl)
theorem dX6_together_18 : decode cX6_together 18 = .ok (.iaload, 1) := dk_46 (dk_at dksX6_together_0 18 rfl rfl)
theorem dX6_together_19 : decode cX6_together 19 = .ok (.istore_n 3, 1) := dk_62 (dk_at dksX6_together_0 19 rfl rfl)
theorem dX6_together_20 : decode cX6_together 20 = .ok (.iconst 0, 1) := dk_3 (dk_at dksX6_together_0 20 rfl rfl)
theorem dX6_together_21 : decode cX6_together 21 = .ok (.istore 4, 2) := dk_54 4 (dk_at dksX6_together_0 21 rfl rfl)
theorem dX6_together_23 : decode cX6_together 23 = .ok (.iconst 0, 1) := dk_3 (dk_at dksX6_together_0 23 rfl rfl)
theorem dX6_together_24 : decode cX6_together 24 = .ok (.istore 5, 2) := dk_54 5 (dk_at dksX6_together_1 0 rfl rfl)
theorem dX6_together_26 : decode cX6_together 26 = .ok (.iload 5, 2) := dk_21 5 (dk_at dksX6_together_1 2 rfl rfl)
theorem dX6_together_28 : decode cX6_together 28 = .ok (.aload_n 0, 1) := dk_42 (dk_at dksX6_together_1 4 rfl rfl)
theorem dX6_together_29 : decode cX6_together 29 = .ok (.getfield 9, 3) := dk_180 0 9 (dk_at dksX6_together_1 5 rfl rfl)
theorem dX6_together_32 : decode cX6_together 32 = .ok (.iconst 3, 1) := dk_6 (dk_at dksX6_together_1 8 rfl rfl)
theorem dX6_together_33 : decode cX6_together 33 = .ok (.iaload, 1) := dk_46 (dk_at dksX6_together_1 9 rfl rfl)
theorem dX6_together_34 : decode cX6_together 34 = .ok (.if_icmp .ge 40, 3) := dk_162 0 40 (dk_at dksX6_together_1 10 rfl rfl)
theorem dX6_together_37 : decode cX6_together 37 = .ok (.aload_n 0, 1) := dk_42 (dk_at dksX6_together_1 13 rfl rfl)
theorem dX6_together_38 : decode cX6_together 38 = .ok (.iload 5, 2) := dk_21 5 (dk_at dksX6_together_1 14 rfl rfl)
theorem dX6_together_40 : decode cX6_together 40 = .ok (.iload_n 2, 1) := dk_28 (dk_at dksX6_together_1 16 rfl rfl)
theorem dX6_together_41 : decode cX6_together 41 = .ok (.invokevirtual 280, 3) := dk_182 1 24 (dk_at dksX6_together_1 17 rfl rfl)
theorem dX6_together_44 : decode cX6_together 44 = .ok (.iload 4, 2) := dk_21 4 (dk_at dksX6_together_1 20 rfl rfl)
theorem dX6_together_46 : decode cX6_together 46 = .ok (.aload_n 0, 1) := dk_42 (dk_at dksX6_together_1 22 rfl rfl)
theorem dX6_together_47 : decode cX6_together 47 = .ok (.getfield 49, 3) := dk_180 0 49 (dk_at dksX6_together_2 0 rfl rfl)
theorem dX6_together_50 : decode cX6_together 50 = .ok (.bipush 60, 2) := dk_16 60 (dk_at dksX6_together_2 3 rfl rfl)
theorem dX6_together_52 : decode cX6_together 52 = .ok (.iaload, 1) := dk_46 (dk_at dksX6_together_2 5 rfl rfl)
theorem dX6_together_53 : decode cX6_together 53 = .ok (.iload_n 3, 1) := dk_29 (dk_at dksX6_together_2 6 rfl rfl)
theorem dX6_together_54 : decode cX6_together 54 = .ok (.if_icmp .ne 10, 3) := dk_160 0 10 (dk_at dksX6_together_2 7 rfl rfl)
theorem dX6_together_57 : decode cX6_together 57 = .ok (.iconst 1, 1) := dk_4 (dk_at dksX6_together_2 10 rfl rfl)
theorem dX6_together_58 : decode cX6_together 58 = .ok (.iload 5, 2) := dk_21 5 (dk_at dksX6_together_2 11 rfl rfl)
theorem dX6_together_60 : decode cX6_together 60 = .ok (.ishl, 1) := dk_120 (dk_at dksX6_together_2 13 rfl rfl)
theorem dX6_together_61 : decode cX6_together 61 = .ok (.goto 4, 3) := dk_167 0 4 (dk_at dksX6_together_2 14 rfl rfl)
theorem dX6_together_64 : decode cX6_together 64 = .ok (.iconst 0, 1) := dk_3 (dk_at dksX6_together_2 17 rfl rfl)
theorem dX6_together_65 : decode cX6_together 65 = .ok (.ior, 1) := dk_128 (dk_at dksX6_together_2 18 rfl rfl)
theorem dX6_together_66 : decode cX6_together 66 = .ok (.istore 4, 2) := dk_54 4 (dk_at dksX6_together_2 19 rfl rfl)
theorem dX6_together_68 : decode cX6_together 68 = .ok (.iinc 5 1, 3) := dk_132 5 1 (dk_at dksX6_together_2 21 rfl rfl)
theorem dX6_together_71 : decode cX6_together 71 = .ok (.goto (-45), 3) := dk_167 255 211 (dk_at dksX6_together_3 0 rfl rfl)
theorem dX6_together_74 : decode cX6_together 74 = .ok (.iload 4, 2) := dk_21 4 (dk_at dksX6_together_3 3 rfl rfl)
theorem dX6_together_76 : decode cX6_together 76 = .ok (.ireturn, 1) := dk_172 (dk_at dksX6_together_3 5 rfl rfl)
abbrev cX6_again : ByteArray := prog_14_method_68_code
def yX6_again : MethodName := ⟨RX6, "again", "(II)I"⟩
def dkwX6_again_3 : List UInt8 := [132, 4, 1, 167, 255, 200, 2, 172]
abbrev dktX6_again_3 : List UInt8 := dkwX6_again_3 ++ []
def dkwX6_again_2 : List UInt8 := [153, 0, 16, 29, 21, 5, 184, 1, 6, 4, 160, 0, 6, 21, 4, 172, 29, 4, 21, 5, 120, 128, 62]
abbrev dktX6_again_2 : List UInt8 := dkwX6_again_2 ++ dktX6_again_3
def dkwX6_again_1 : List UInt8 := [42, 180, 0, 49, 21, 4, 46, 54, 5, 21, 5, 156, 0, 5, 2, 172, 42, 180, 0, 52, 21, 4, 51]
abbrev dktX6_again_1 : List UInt8 := dkwX6_again_1 ++ dktX6_again_2
def dkwX6_again_0 : List UInt8 := [42, 27, 28, 182, 1, 28, 154, 0, 6, 16, 254, 172, 3, 62, 28, 54, 4, 21, 4, 16, 60, 163, 0, 55]
abbrev dktX6_again_0 : List UInt8 := dkwX6_again_0 ++ dktX6_again_1
theorem dksX6_again_0 : cX6_again.data.toList.drop 0 = dktX6_again_0 := by decide +kernel
theorem dksX6_again_1 : cX6_again.data.toList.drop 24 = dktX6_again_1 := dk_seg dksX6_again_0 24 rfl rfl
theorem dksX6_again_2 : cX6_again.data.toList.drop 47 = dktX6_again_2 := dk_seg dksX6_again_1 23 rfl rfl
theorem dksX6_again_3 : cX6_again.data.toList.drop 70 = dktX6_again_3 := dk_seg dksX6_again_2 23 rfl rfl
theorem dX6_again_0 : decode cX6_again 0 = .ok (.aload_n 0, 1) := dk_42 (dk_at dksX6_again_0 0 rfl rfl)
theorem dX6_again_1 : decode cX6_again 1 = .ok (.iload_n 1, 1) := dk_27 (dk_at dksX6_again_0 1 rfl rfl)
theorem dX6_again_2 : decode cX6_again 2 = .ok (.iload_n 2, 1) := dk_28 (dk_at dksX6_again_0 2 rfl rfl)
theorem dX6_again_3 : decode cX6_again 3 = .ok (.invokevirtual 284, 3) := dk_182 1 28 (dk_at dksX6_again_0 3 rfl rfl)
theorem dX6_again_6 : decode cX6_again 6 = .ok (.ifCond .ne 6, 3) := dk_154 0 6 (dk_at dksX6_again_0 6 rfl rfl)
theorem dX6_again_9 : decode cX6_again 9 = .ok (.bipush (-2), 2) := dk_16 254 (dk_at dksX6_again_0 9 rfl rfl)
theorem dX6_again_11 : decode cX6_again 11 = .ok (.ireturn, 1) := dk_172 (dk_at dksX6_again_0 11 rfl rfl)
theorem dX6_again_12 : decode cX6_again 12 = .ok (.iconst 0, 1) := dk_3 (dk_at dksX6_again_0 12 rfl rfl)
theorem dX6_again_13 : decode cX6_again 13 = .ok (.istore_n 3, 1) := dk_62 (dk_at dksX6_again_0 13 rfl rfl)
theorem dX6_again_14 : decode cX6_again 14 = .ok (.iload_n 2, 1) := dk_28 (dk_at dksX6_again_0 14 rfl rfl)
theorem dX6_again_15 : decode cX6_again 15 = .ok (.istore 4, 2) := dk_54 4 (dk_at dksX6_again_0 15 rfl rfl)
theorem dX6_again_17 : decode cX6_again 17 = .ok (.iload 4, 2) := dk_21 4 (dk_at dksX6_again_0 17 rfl rfl)
theorem dX6_again_19 : decode cX6_again 19 = .ok (.bipush 60, 2) := dk_16 60 (dk_at dksX6_again_0 19 rfl rfl)
theorem dX6_again_21 : decode cX6_again 21 = .ok (.if_icmp .gt 55, 3) := dk_163 0 55 (dk_at dksX6_again_0 21 rfl rfl)
theorem dX6_again_24 : decode cX6_again 24 = .ok (.aload_n 0, 1) := dk_42 (dk_at dksX6_again_1 0 rfl rfl)
theorem dX6_again_25 : decode cX6_again 25 = .ok (.getfield 49, 3) := dk_180 0 49 (dk_at dksX6_again_1 1 rfl rfl)
theorem dX6_again_28 : decode cX6_again 28 = .ok (.iload 4, 2) := dk_21 4 (dk_at dksX6_again_1 4 rfl rfl)
theorem dX6_again_30 : decode cX6_again 30 = .ok (.iaload, 1) := dk_46 (dk_at dksX6_again_1 6 rfl rfl)
theorem dX6_again_31 : decode cX6_again 31 = .ok (.istore 5, 2) := dk_54 5 (dk_at dksX6_again_1 7 rfl rfl)
theorem dX6_again_33 : decode cX6_again 33 = .ok (.iload 5, 2) := dk_21 5 (dk_at dksX6_again_1 9 rfl rfl)
theorem dX6_again_35 : decode cX6_again 35 = .ok (.ifCond .ge 5, 3) := dk_156 0 5 (dk_at dksX6_again_1 11 rfl rfl)
theorem dX6_again_38 : decode cX6_again 38 = .ok (.iconst (-1), 1) := dk_2 (dk_at dksX6_again_1 14 rfl rfl)
theorem dX6_again_39 : decode cX6_again 39 = .ok (.ireturn, 1) := dk_172 (dk_at dksX6_again_1 15 rfl rfl)
theorem dX6_again_40 : decode cX6_again 40 = .ok (.aload_n 0, 1) := dk_42 (dk_at dksX6_again_1 16 rfl rfl)
theorem dX6_again_41 : decode cX6_again 41 = .ok (.getfield 52, 3) := dk_180 0 52 (dk_at dksX6_again_1 17 rfl rfl)
theorem dX6_again_44 : decode cX6_again 44 = .ok (.iload 4, 2) := dk_21 4 (dk_at dksX6_again_1 20 rfl rfl)
theorem dX6_again_46 : decode cX6_again 46 = .ok (.baload, 1) := dk_51 (dk_at dksX6_again_1 22 rfl rfl)
theorem dX6_again_47 : decode cX6_again 47 = .ok (.ifCond .eq 16, 3) := dk_153 0 16 (dk_at dksX6_again_2 0 rfl rfl)
theorem dX6_again_50 : decode cX6_again 50 = .ok (.iload_n 3, 1) := dk_29 (dk_at dksX6_again_2 3 rfl rfl)
theorem dX6_again_51 : decode cX6_again 51 = .ok (.iload 5, 2) := dk_21 5 (dk_at dksX6_again_2 4 rfl rfl)
theorem dX6_again_53 : decode cX6_again 53 = .ok (.invokestatic 262, 3) := dk_184 1 6 (dk_at dksX6_again_2 6 rfl rfl)
theorem dX6_again_56 : decode cX6_again 56 = .ok (.iconst 1, 1) := dk_4 (dk_at dksX6_again_2 9 rfl rfl)
theorem dX6_again_57 : decode cX6_again 57 = .ok (.if_icmp .ne 6, 3) := dk_160 0 6 (dk_at dksX6_again_2 10 rfl rfl)
theorem dX6_again_60 : decode cX6_again 60 = .ok (.iload 4, 2) := dk_21 4 (dk_at dksX6_again_2 13 rfl rfl)
theorem dX6_again_62 : decode cX6_again 62 = .ok (.ireturn, 1) := dk_172 (dk_at dksX6_again_2 15 rfl rfl)
theorem dX6_again_63 : decode cX6_again 63 = .ok (.iload_n 3, 1) := dk_29 (dk_at dksX6_again_2 16 rfl rfl)
theorem dX6_again_64 : decode cX6_again 64 = .ok (.iconst 1, 1) := dk_4 (dk_at dksX6_again_2 17 rfl rfl)
theorem dX6_again_65 : decode cX6_again 65 = .ok (.iload 5, 2) := dk_21 5 (dk_at dksX6_again_2 18 rfl rfl)
theorem dX6_again_67 : decode cX6_again 67 = .ok (.ishl, 1) := dk_120 (dk_at dksX6_again_2 20 rfl rfl)
theorem dX6_again_68 : decode cX6_again 68 = .ok (.ior, 1) := dk_128 (dk_at dksX6_again_2 21 rfl rfl)
theorem dX6_again_69 : decode cX6_again 69 = .ok (.istore_n 3, 1) := dk_62 (dk_at dksX6_again_2 22 rfl rfl)
theorem dX6_again_70 : decode cX6_again 70 = .ok (.iinc 4 1, 3) := dk_132 4 1 (dk_at dksX6_again_3 0 rfl rfl)
theorem dX6_again_73 : decode cX6_again 73 = .ok (.goto (-56), 3) := dk_167 255 200 (dk_at dksX6_again_3 3 rfl rfl)
theorem dX6_again_76 : decode cX6_again 76 = .ok (.iconst (-1), 1) := dk_2 (dk_at dksX6_again_3 6 rfl rfl)
theorem dX6_again_77 : decode cX6_again 77 = .ok (.ireturn, 1) := dk_172 (dk_at dksX6_again_3 7 rfl rfl)
abbrev cX6_can : ByteArray := prog_14_method_69_code
def yX6_can : MethodName := ⟨RX6, "can", "(I)I"⟩
def dkwX6_can_1 : List UInt8 := [29, 182, 1, 35, 128, 61, 132, 3, 1, 167, 255, 238, 28, 172]
abbrev dktX6_can_1 : List UInt8 := dkwX6_can_1 ++ []
def dkwX6_can_0 : List UInt8 := [42, 27, 182, 1, 3, 154, 0, 6, 16, 254, 172, 3, 61, 3, 62, 29, 16, 60, 163, 0, 18, 28, 42, 27]
abbrev dktX6_can_0 : List UInt8 := dkwX6_can_0 ++ dktX6_can_1
theorem dksX6_can_0 : cX6_can.data.toList.drop 0 = dktX6_can_0 := by decide +kernel
theorem dksX6_can_1 : cX6_can.data.toList.drop 24 = dktX6_can_1 := dk_seg dksX6_can_0 24 rfl rfl
theorem dX6_can_0 : decode cX6_can 0 = .ok (.aload_n 0, 1) := dk_42 (dk_at dksX6_can_0 0 rfl rfl)
theorem dX6_can_1 : decode cX6_can 1 = .ok (.iload_n 1, 1) := dk_27 (dk_at dksX6_can_0 1 rfl rfl)
theorem dX6_can_2 : decode cX6_can 2 = .ok (.invokevirtual 259, 3) := dk_182 1 3 (dk_at dksX6_can_0 2 rfl rfl)
theorem dX6_can_5 : decode cX6_can 5 = .ok (.ifCond .ne 6, 3) := dk_154 0 6 (dk_at dksX6_can_0 5 rfl rfl)
theorem dX6_can_8 : decode cX6_can 8 = .ok (.bipush (-2), 2) := dk_16 254 (dk_at dksX6_can_0 8 rfl rfl)
theorem dX6_can_10 : decode cX6_can 10 = .ok (.ireturn, 1) := dk_172 (dk_at dksX6_can_0 10 rfl rfl)
theorem dX6_can_11 : decode cX6_can 11 = .ok (.iconst 0, 1) := dk_3 (dk_at dksX6_can_0 11 rfl rfl)
theorem dX6_can_12 : decode cX6_can 12 = .ok (.istore_n 2, 1) := dk_61 (dk_at dksX6_can_0 12 rfl rfl)
theorem dX6_can_13 : decode cX6_can 13 = .ok (.iconst 0, 1) := dk_3 (dk_at dksX6_can_0 13 rfl rfl)
theorem dX6_can_14 : decode cX6_can 14 = .ok (.istore_n 3, 1) := dk_62 (dk_at dksX6_can_0 14 rfl rfl)
theorem dX6_can_15 : decode cX6_can 15 = .ok (.iload_n 3, 1) := dk_29 (dk_at dksX6_can_0 15 rfl rfl)
theorem dX6_can_16 : decode cX6_can 16 = .ok (.bipush 60, 2) := dk_16 60 (dk_at dksX6_can_0 16 rfl rfl)
theorem dX6_can_18 : decode cX6_can 18 = .ok (.if_icmp .gt 18, 3) := dk_163 0 18 (dk_at dksX6_can_0 18 rfl rfl)
theorem dX6_can_21 : decode cX6_can 21 = .ok (.iload_n 2, 1) := dk_28 (dk_at dksX6_can_0 21 rfl rfl)
theorem dX6_can_22 : decode cX6_can 22 = .ok (.aload_n 0, 1) := dk_42 (dk_at dksX6_can_0 22 rfl rfl)
theorem dX6_can_23 : decode cX6_can 23 = .ok (.iload_n 1, 1) := dk_27 (dk_at dksX6_can_0 23 rfl rfl)
theorem dX6_can_24 : decode cX6_can 24 = .ok (.iload_n 3, 1) := dk_29 (dk_at dksX6_can_1 0 rfl rfl)
theorem dX6_can_25 : decode cX6_can 25 = .ok (.invokevirtual 291, 3) := dk_182 1 35 (dk_at dksX6_can_1 1 rfl rfl)
theorem dX6_can_28 : decode cX6_can 28 = .ok (.ior, 1) := dk_128 (dk_at dksX6_can_1 4 rfl rfl)
theorem dX6_can_29 : decode cX6_can 29 = .ok (.istore_n 2, 1) := dk_61 (dk_at dksX6_can_1 5 rfl rfl)
theorem dX6_can_30 : decode cX6_can 30 = .ok (.iinc 3 1, 3) := dk_132 3 1 (dk_at dksX6_can_1 6 rfl rfl)
theorem dX6_can_33 : decode cX6_can 33 = .ok (.goto (-18), 3) := dk_167 255 238 (dk_at dksX6_can_1 9 rfl rfl)
theorem dX6_can_36 : decode cX6_can 36 = .ok (.iload_n 2, 1) := dk_28 (dk_at dksX6_can_1 12 rfl rfl)
theorem dX6_can_37 : decode cX6_can 37 = .ok (.ireturn, 1) := dk_172 (dk_at dksX6_can_1 13 rfl rfl)
abbrev cX6_finds : ByteArray := prog_14_method_70_code
def yX6_finds : MethodName := ⟨RX6, "finds", "(II)I"⟩
def dkwX6_finds_3 : List UInt8 := [21, 4, 172]
abbrev dktX6_finds_3 : List UInt8 := dkwX6_finds_3 ++ []
def dkwX6_finds_2 : List UInt8 := [160, 0, 6, 167, 0, 14, 29, 4, 21, 6, 120, 128, 62, 21, 6, 54, 4, 132, 5, 1, 167, 255, 208]
abbrev dktX6_finds_2 : List UInt8 := dkwX6_finds_2 ++ dktX6_finds_3
def dkwX6_finds_1 : List UInt8 := [163, 0, 47, 42, 180, 0, 49, 21, 5, 46, 54, 6, 21, 6, 155, 0, 27, 29, 21, 6, 184, 1, 6, 4]
abbrev dktX6_finds_1 : List UInt8 := dkwX6_finds_1 ++ dktX6_finds_2
def dkwX6_finds_0 : List UInt8 := [42, 27, 28, 182, 1, 28, 154, 0, 6, 16, 254, 172, 3, 62, 27, 54, 4, 28, 54, 5, 21, 5, 16, 60]
abbrev dktX6_finds_0 : List UInt8 := dkwX6_finds_0 ++ dktX6_finds_1
theorem dksX6_finds_0 : cX6_finds.data.toList.drop 0 = dktX6_finds_0 := by decide +kernel
theorem dksX6_finds_1 : cX6_finds.data.toList.drop 24 = dktX6_finds_1 := dk_seg dksX6_finds_0 24 rfl rfl
theorem dksX6_finds_2 : cX6_finds.data.toList.drop 48 = dktX6_finds_2 := dk_seg dksX6_finds_1 24 rfl rfl
theorem dksX6_finds_3 : cX6_finds.data.toList.drop 71 = dktX6_finds_3 := dk_seg dksX6_finds_2 23 rfl rfl
theorem dX6_finds_0 : decode cX6_finds 0 = .ok (.aload_n 0, 1) := dk_42 (dk_at dksX6_finds_0 0 rfl rfl)
theorem dX6_finds_1 : decode cX6_finds 1 = .ok (.iload_n 1, 1) := dk_27 (dk_at dksX6_finds_0 1 rfl rfl)
theorem dX6_finds_2 : decode cX6_finds 2 = .ok (.iload_n 2, 1) := dk_28 (dk_at dksX6_finds_0 2 rfl rfl)
theorem dX6_finds_3 : decode cX6_finds 3 = .ok (.invokevirtual 284, 3) := dk_182 1 28 (dk_at dksX6_finds_0 3 rfl rfl)
theorem dX6_finds_6 : decode cX6_finds 6 = .ok (.ifCond .ne 6, 3) := dk_154 0 6 (dk_at dksX6_finds_0 6 rfl rfl)
theorem dX6_finds_9 : decode cX6_finds 9 = .ok (.bipush (-2), 2) := dk_16 254 (dk_at dksX6_finds_0 9 rfl rfl)
theorem dX6_finds_11 : decode cX6_finds 11 = .ok (.ireturn, 1) := dk_172 (dk_at dksX6_finds_0 11 rfl rfl)
theorem dX6_finds_12 : decode cX6_finds 12 = .ok (.iconst 0, 1) := dk_3 (dk_at dksX6_finds_0 12 rfl rfl)
theorem dX6_finds_13 : decode cX6_finds 13 = .ok (.istore_n 3, 1) := dk_62 (dk_at dksX6_finds_0 13 rfl rfl)
theorem dX6_finds_14 : decode cX6_finds 14 = .ok (.iload_n 1, 1) := dk_27 (dk_at dksX6_finds_0 14 rfl rfl)
theorem dX6_finds_15 : decode cX6_finds 15 = .ok (.istore 4, 2) := dk_54 4 (dk_at dksX6_finds_0 15 rfl rfl)
theorem dX6_finds_17 : decode cX6_finds 17 = .ok (.iload_n 2, 1) := dk_28 (dk_at dksX6_finds_0 17 rfl rfl)
theorem dX6_finds_18 : decode cX6_finds 18 = .ok (.istore 5, 2) := dk_54 5 (dk_at dksX6_finds_0 18 rfl rfl)
theorem dX6_finds_20 : decode cX6_finds 20 = .ok (.iload 5, 2) := dk_21 5 (dk_at dksX6_finds_0 20 rfl rfl)
theorem dX6_finds_22 : decode cX6_finds 22 = .ok (.bipush 60, 2) := dk_16 60 (dk_at dksX6_finds_0 22 rfl rfl)
theorem dX6_finds_24 : decode cX6_finds 24 = .ok (.if_icmp .gt 47, 3) := dk_163 0 47 (dk_at dksX6_finds_1 0 rfl rfl)
theorem dX6_finds_27 : decode cX6_finds 27 = .ok (.aload_n 0, 1) := dk_42 (dk_at dksX6_finds_1 3 rfl rfl)
theorem dX6_finds_28 : decode cX6_finds 28 = .ok (.getfield 49, 3) := dk_180 0 49 (dk_at dksX6_finds_1 4 rfl rfl)
theorem dX6_finds_31 : decode cX6_finds 31 = .ok (.iload 5, 2) := dk_21 5 (dk_at dksX6_finds_1 7 rfl rfl)
theorem dX6_finds_33 : decode cX6_finds 33 = .ok (.iaload, 1) := dk_46 (dk_at dksX6_finds_1 9 rfl rfl)
theorem dX6_finds_34 : decode cX6_finds 34 = .ok (.istore 6, 2) := dk_54 6 (dk_at dksX6_finds_1 10 rfl rfl)
theorem dX6_finds_36 : decode cX6_finds 36 = .ok (.iload 6, 2) := dk_21 6 (dk_at dksX6_finds_1 12 rfl rfl)
theorem dX6_finds_38 : decode cX6_finds 38 = .ok (.ifCond .lt 27, 3) := dk_155 0 27 (dk_at dksX6_finds_1 14 rfl rfl)
theorem dX6_finds_41 : decode cX6_finds 41 = .ok (.iload_n 3, 1) := dk_29 (dk_at dksX6_finds_1 17 rfl rfl)
theorem dX6_finds_42 : decode cX6_finds 42 = .ok (.iload 6, 2) := dk_21 6 (dk_at dksX6_finds_1 18 rfl rfl)
theorem dX6_finds_44 : decode cX6_finds 44 = .ok (.invokestatic 262, 3) := dk_184 1 6 (dk_at dksX6_finds_1 20 rfl rfl)
theorem dX6_finds_47 : decode cX6_finds 47 = .ok (.iconst 1, 1) := dk_4 (dk_at dksX6_finds_1 23 rfl rfl)
theorem dX6_finds_48 : decode cX6_finds 48 = .ok (.if_icmp .ne 6, 3) := dk_160 0 6 (dk_at dksX6_finds_2 0 rfl rfl)
theorem dX6_finds_51 : decode cX6_finds 51 = .ok (.goto 14, 3) := dk_167 0 14 (dk_at dksX6_finds_2 3 rfl rfl)
theorem dX6_finds_54 : decode cX6_finds 54 = .ok (.iload_n 3, 1) := dk_29 (dk_at dksX6_finds_2 6 rfl rfl)
theorem dX6_finds_55 : decode cX6_finds 55 = .ok (.iconst 1, 1) := dk_4 (dk_at dksX6_finds_2 7 rfl rfl)
theorem dX6_finds_56 : decode cX6_finds 56 = .ok (.iload 6, 2) := dk_21 6 (dk_at dksX6_finds_2 8 rfl rfl)
theorem dX6_finds_58 : decode cX6_finds 58 = .ok (.ishl, 1) := dk_120 (dk_at dksX6_finds_2 10 rfl rfl)
theorem dX6_finds_59 : decode cX6_finds 59 = .ok (.ior, 1) := dk_128 (dk_at dksX6_finds_2 11 rfl rfl)
theorem dX6_finds_60 : decode cX6_finds 60 = .ok (.istore_n 3, 1) := dk_62 (dk_at dksX6_finds_2 12 rfl rfl)
theorem dX6_finds_61 : decode cX6_finds 61 = .ok (.iload 6, 2) := dk_21 6 (dk_at dksX6_finds_2 13 rfl rfl)
theorem dX6_finds_63 : decode cX6_finds 63 = .ok (.istore 4, 2) := dk_54 4 (dk_at dksX6_finds_2 15 rfl rfl)
theorem dX6_finds_65 : decode cX6_finds 65 = .ok (.iinc 5 1, 3) := dk_132 5 1 (dk_at dksX6_finds_2 17 rfl rfl)
theorem dX6_finds_68 : decode cX6_finds 68 = .ok (.goto (-48), 3) := dk_167 255 208 (dk_at dksX6_finds_2 20 rfl rfl)
theorem dX6_finds_71 : decode cX6_finds 71 = .ok (.iload 4, 2) := dk_21 4 (dk_at dksX6_finds_3 0 rfl rfl)
theorem dX6_finds_73 : decode cX6_finds 73 = .ok (.ireturn, 1) := dk_172 (dk_at dksX6_finds_3 2 rfl rfl)
abbrev cX6_from : ByteArray := prog_14_method_71_code
def yX6_from : MethodName := ⟨RX6, "from", "(II)I"⟩
def dkwX6_from_2 : List UInt8 := [46, 27, 160, 0, 10, 4, 21, 4, 120, 167, 0, 4, 3, 128, 62, 132, 4, 1, 167, 255, 214, 29, 172]
abbrev dktX6_from_2 : List UInt8 := dkwX6_from_2 ++ []
def dkwX6_from_1 : List UInt8 := [21, 4, 42, 180, 0, 9, 6, 46, 162, 0, 37, 42, 21, 4, 3, 182, 1, 24, 29, 42, 180, 0, 49, 28]
abbrev dktX6_from_1 : List UInt8 := dkwX6_from_1 ++ dktX6_from_2
def dkwX6_from_0 : List UInt8 := [42, 27, 182, 1, 3, 153, 0, 11, 28, 133, 184, 1, 0, 154, 0, 6, 16, 254, 172, 3, 62, 3, 54, 4]
abbrev dktX6_from_0 : List UInt8 := dkwX6_from_0 ++ dktX6_from_1
theorem dksX6_from_0 : cX6_from.data.toList.drop 0 = dktX6_from_0 := by decide +kernel
theorem dksX6_from_1 : cX6_from.data.toList.drop 24 = dktX6_from_1 := dk_seg dksX6_from_0 24 rfl rfl
theorem dksX6_from_2 : cX6_from.data.toList.drop 48 = dktX6_from_2 := dk_seg dksX6_from_1 24 rfl rfl
theorem dX6_from_0 : decode cX6_from 0 = .ok (.aload_n 0, 1) := dk_42 (dk_at dksX6_from_0 0 rfl rfl)
theorem dX6_from_1 : decode cX6_from 1 = .ok (.iload_n 1, 1) := dk_27 (dk_at dksX6_from_0 1 rfl rfl)
theorem dX6_from_2 : decode cX6_from 2 = .ok (.invokevirtual 259, 3) := dk_182 1 3 (dk_at dksX6_from_0 2 rfl rfl)
theorem dX6_from_5 : decode cX6_from 5 = .ok (.ifCond .eq 11, 3) := dk_153 0 11 (dk_at dksX6_from_0 5 rfl rfl)
theorem dX6_from_8 : decode cX6_from 8 = .ok (.iload_n 2, 1) := dk_28 (dk_at dksX6_from_0 8 rfl rfl)
theorem dX6_from_9 : decode cX6_from 9 = .ok (.i2l, 1) := dk_133 (dk_at dksX6_from_0 9 rfl rfl)
theorem dX6_from_10 : decode cX6_from 10 = .ok (.invokestatic 256, 3) := dk_184 1 0 (dk_at dksX6_from_0 10 rfl rfl)
theorem dX6_from_13 : decode cX6_from 13 = .ok (.ifCond .ne 6, 3) := dk_154 0 6 (dk_at dksX6_from_0 13 rfl rfl)
theorem dX6_from_16 : decode cX6_from 16 = .ok (.bipush (-2), 2) := dk_16 254 (dk_at dksX6_from_0 16 rfl rfl)
theorem dX6_from_18 : decode cX6_from 18 = .ok (.ireturn, 1) := dk_172 (dk_at dksX6_from_0 18 rfl rfl)
theorem dX6_from_19 : decode cX6_from 19 = .ok (.iconst 0, 1) := dk_3 (dk_at dksX6_from_0 19 rfl rfl)
theorem dX6_from_20 : decode cX6_from 20 = .ok (.istore_n 3, 1) := dk_62 (dk_at dksX6_from_0 20 rfl rfl)
theorem dX6_from_21 : decode cX6_from 21 = .ok (.iconst 0, 1) := dk_3 (dk_at dksX6_from_0 21 rfl rfl)
theorem dX6_from_22 : decode cX6_from 22 = .ok (.istore 4, 2) := dk_54 4 (dk_at dksX6_from_0 22 rfl rfl)
theorem dX6_from_24 : decode cX6_from 24 = .ok (.iload 4, 2) := dk_21 4 (dk_at dksX6_from_1 0 rfl rfl)
theorem dX6_from_26 : decode cX6_from 26 = .ok (.aload_n 0, 1) := dk_42 (dk_at dksX6_from_1 2 rfl rfl)
theorem dX6_from_27 : decode cX6_from 27 = .ok (.getfield 9, 3) := dk_180 0 9 (dk_at dksX6_from_1 3 rfl rfl)
theorem dX6_from_30 : decode cX6_from 30 = .ok (.iconst 3, 1) := dk_6 (dk_at dksX6_from_1 6 rfl rfl)
theorem dX6_from_31 : decode cX6_from 31 = .ok (.iaload, 1) := dk_46 (dk_at dksX6_from_1 7 rfl rfl)
theorem dX6_from_32 : decode cX6_from 32 = .ok (.if_icmp .ge 37, 3) := dk_162 0 37 (dk_at dksX6_from_1 8 rfl rfl)
theorem dX6_from_35 : decode cX6_from 35 = .ok (.aload_n 0, 1) := dk_42 (dk_at dksX6_from_1 11 rfl rfl)
theorem dX6_from_36 : decode cX6_from 36 = .ok (.iload 4, 2) := dk_21 4 (dk_at dksX6_from_1 12 rfl rfl)
theorem dX6_from_38 : decode cX6_from 38 = .ok (.iconst 0, 1) := dk_3 (dk_at dksX6_from_1 14 rfl rfl)
theorem dX6_from_39 : decode cX6_from 39 = .ok (.invokevirtual 280, 3) := dk_182 1 24 (dk_at dksX6_from_1 15 rfl rfl)
theorem dX6_from_42 : decode cX6_from 42 = .ok (.iload_n 3, 1) := dk_29 (dk_at dksX6_from_1 18 rfl rfl)
theorem dX6_from_43 : decode cX6_from 43 = .ok (.aload_n 0, 1) := dk_42 (dk_at dksX6_from_1 19 rfl rfl)
theorem dX6_from_44 : decode cX6_from 44 = .ok (.getfield 49, 3) := dk_180 0 49 (dk_at dksX6_from_1 20 rfl rfl)
theorem dX6_from_47 : decode cX6_from 47 = .ok (.iload_n 2, 1) := dk_28 (dk_at dksX6_from_1 23 rfl rfl)
theorem dX6_from_48 : decode cX6_from 48 = .ok (.iaload, 1) := dk_46 (dk_at dksX6_from_2 0 rfl rfl)
theorem dX6_from_49 : decode cX6_from 49 = .ok (.iload_n 1, 1) := dk_27 (dk_at dksX6_from_2 1 rfl rfl)
theorem dX6_from_50 : decode cX6_from 50 = .ok (.if_icmp .ne 10, 3) := dk_160 0 10 (dk_at dksX6_from_2 2 rfl rfl)
theorem dX6_from_53 : decode cX6_from 53 = .ok (.iconst 1, 1) := dk_4 (dk_at dksX6_from_2 5 rfl rfl)
theorem dX6_from_54 : decode cX6_from 54 = .ok (.iload 4, 2) := dk_21 4 (dk_at dksX6_from_2 6 rfl rfl)
theorem dX6_from_56 : decode cX6_from 56 = .ok (.ishl, 1) := dk_120 (dk_at dksX6_from_2 8 rfl rfl)
theorem dX6_from_57 : decode cX6_from 57 = .ok (.goto 4, 3) := dk_167 0 4 (dk_at dksX6_from_2 9 rfl rfl)
theorem dX6_from_60 : decode cX6_from 60 = .ok (.iconst 0, 1) := dk_3 (dk_at dksX6_from_2 12 rfl rfl)
theorem dX6_from_61 : decode cX6_from 61 = .ok (.ior, 1) := dk_128 (dk_at dksX6_from_2 13 rfl rfl)
theorem dX6_from_62 : decode cX6_from 62 = .ok (.istore_n 3, 1) := dk_62 (dk_at dksX6_from_2 14 rfl rfl)
theorem dX6_from_63 : decode cX6_from 63 = .ok (.iinc 4 1, 3) := dk_132 4 1 (dk_at dksX6_from_2 15 rfl rfl)
theorem dX6_from_66 : decode cX6_from 66 = .ok (.goto (-42), 3) := dk_167 255 214 (dk_at dksX6_from_2 18 rfl rfl)
theorem dX6_from_69 : decode cX6_from 69 = .ok (.iload_n 3, 1) := dk_29 (dk_at dksX6_from_2 21 rfl rfl)
theorem dX6_from_70 : decode cX6_from 70 = .ok (.ireturn, 1) := dk_172 (dk_at dksX6_from_2 22 rfl rfl)
abbrev cX6_ends : ByteArray := prog_14_method_72_code
def yX6_ends : MethodName := ⟨RX6, "ends", "(I)I"⟩
def dkwX6_ends_2 : List UInt8 := [160, 0, 7, 3, 167, 0, 6, 4, 29, 120, 128, 61, 132, 3, 1, 167, 255, 217, 28, 172]
abbrev dktX6_ends_2 : List UInt8 := dkwX6_ends_2 ++ []
def dkwX6_ends_1 : List UInt8 := [180, 0, 9, 6, 46, 162, 0, 35, 42, 29, 27, 182, 1, 24, 28, 42, 27, 2, 182, 1, 32, 2]
abbrev dktX6_ends_1 : List UInt8 := dkwX6_ends_1 ++ dktX6_ends_2
def dkwX6_ends_0 : List UInt8 := [42, 182, 0, 253, 153, 0, 11, 27, 133, 184, 1, 0, 154, 0, 6, 16, 254, 172, 3, 61, 3, 62, 29, 42]
abbrev dktX6_ends_0 : List UInt8 := dkwX6_ends_0 ++ dktX6_ends_1
theorem dksX6_ends_0 : cX6_ends.data.toList.drop 0 = dktX6_ends_0 := by decide +kernel
theorem dksX6_ends_1 : cX6_ends.data.toList.drop 24 = dktX6_ends_1 := dk_seg dksX6_ends_0 24 rfl rfl
theorem dksX6_ends_2 : cX6_ends.data.toList.drop 46 = dktX6_ends_2 := dk_seg dksX6_ends_1 22 rfl rfl
theorem dX6_ends_0 : decode cX6_ends 0 = .ok (.aload_n 0, 1) := dk_42 (dk_at dksX6_ends_0 0 rfl rfl)
theorem dX6_ends_1 : decode cX6_ends 1 = .ok (.invokevirtual 253, 3) := dk_182 0 253 (dk_at dksX6_ends_0 1 rfl rfl)
theorem dX6_ends_4 : decode cX6_ends 4 = .ok (.ifCond .eq 11, 3) := dk_153 0 11 (dk_at dksX6_ends_0 4 rfl rfl)
theorem dX6_ends_7 : decode cX6_ends 7 = .ok (.iload_n 1, 1) := dk_27 (dk_at dksX6_ends_0 7 rfl rfl)
theorem dX6_ends_8 : decode cX6_ends 8 = .ok (.i2l, 1) := dk_133 (dk_at dksX6_ends_0 8 rfl rfl)
theorem dX6_ends_9 : decode cX6_ends 9 = .ok (.invokestatic 256, 3) := dk_184 1 0 (dk_at dksX6_ends_0 9 rfl rfl)
theorem dX6_ends_12 : decode cX6_ends 12 = .ok (.ifCond .ne 6, 3) := dk_154 0 6 (dk_at dksX6_ends_0 12 rfl rfl)
theorem dX6_ends_15 : decode cX6_ends 15 = .ok (.bipush (-2), 2) := dk_16 254 (dk_at dksX6_ends_0 15 rfl rfl)
theorem dX6_ends_17 : decode cX6_ends 17 = .ok (.ireturn, 1) := dk_172 (dk_at dksX6_ends_0 17 rfl rfl)
theorem dX6_ends_18 : decode cX6_ends 18 = .ok (.iconst 0, 1) := dk_3 (dk_at dksX6_ends_0 18 rfl rfl)
theorem dX6_ends_19 : decode cX6_ends 19 = .ok (.istore_n 2, 1) := dk_61 (dk_at dksX6_ends_0 19 rfl rfl)
theorem dX6_ends_20 : decode cX6_ends 20 = .ok (.iconst 0, 1) := dk_3 (dk_at dksX6_ends_0 20 rfl rfl)
theorem dX6_ends_21 : decode cX6_ends 21 = .ok (.istore_n 3, 1) := dk_62 (dk_at dksX6_ends_0 21 rfl rfl)
theorem dX6_ends_22 : decode cX6_ends 22 = .ok (.iload_n 3, 1) := dk_29 (dk_at dksX6_ends_0 22 rfl rfl)
theorem dX6_ends_23 : decode cX6_ends 23 = .ok (.aload_n 0, 1) := dk_42 (dk_at dksX6_ends_0 23 rfl rfl)
theorem dX6_ends_24 : decode cX6_ends 24 = .ok (.getfield 9, 3) := dk_180 0 9 (dk_at dksX6_ends_1 0 rfl rfl)
theorem dX6_ends_27 : decode cX6_ends 27 = .ok (.iconst 3, 1) := dk_6 (dk_at dksX6_ends_1 3 rfl rfl)
theorem dX6_ends_28 : decode cX6_ends 28 = .ok (.iaload, 1) := dk_46 (dk_at dksX6_ends_1 4 rfl rfl)
theorem dX6_ends_29 : decode cX6_ends 29 = .ok (.if_icmp .ge 35, 3) := dk_162 0 35 (dk_at dksX6_ends_1 5 rfl rfl)
theorem dX6_ends_32 : decode cX6_ends 32 = .ok (.aload_n 0, 1) := dk_42 (dk_at dksX6_ends_1 8 rfl rfl)
theorem dX6_ends_33 : decode cX6_ends 33 = .ok (.iload_n 3, 1) := dk_29 (dk_at dksX6_ends_1 9 rfl rfl)
theorem dX6_ends_34 : decode cX6_ends 34 = .ok (.iload_n 1, 1) := dk_27 (dk_at dksX6_ends_1 10 rfl rfl)
theorem dX6_ends_35 : decode cX6_ends 35 = .ok (.invokevirtual 280, 3) := dk_182 1 24 (dk_at dksX6_ends_1 11 rfl rfl)
theorem dX6_ends_38 : decode cX6_ends 38 = .ok (.iload_n 2, 1) := dk_28 (dk_at dksX6_ends_1 14 rfl rfl)
theorem dX6_ends_39 : decode cX6_ends 39 = .ok (.aload_n 0, 1) := dk_42 (dk_at dksX6_ends_1 15 rfl rfl)
theorem dX6_ends_40 : decode cX6_ends 40 = .ok (.iload_n 1, 1) := dk_27 (dk_at dksX6_ends_1 16 rfl rfl)
theorem dX6_ends_41 : decode cX6_ends 41 = .ok (.iconst (-1), 1) := dk_2 (dk_at dksX6_ends_1 17 rfl rfl)
theorem dX6_ends_42 : decode cX6_ends 42 = .ok (.invokevirtual 288, 3) := dk_182 1 32 (dk_at dksX6_ends_1 18 rfl rfl)
theorem dX6_ends_45 : decode cX6_ends 45 = .ok (.iconst (-1), 1) := dk_2 (dk_at dksX6_ends_1 21 rfl rfl)
theorem dX6_ends_46 : decode cX6_ends 46 = .ok (.if_icmp .ne 7, 3) := dk_160 0 7 (dk_at dksX6_ends_2 0 rfl rfl)
theorem dX6_ends_49 : decode cX6_ends 49 = .ok (.iconst 0, 1) := dk_3 (dk_at dksX6_ends_2 3 rfl rfl)
theorem dX6_ends_50 : decode cX6_ends 50 = .ok (.goto 6, 3) := dk_167 0 6 (dk_at dksX6_ends_2 4 rfl rfl)
theorem dX6_ends_53 : decode cX6_ends 53 = .ok (.iconst 1, 1) := dk_4 (dk_at dksX6_ends_2 7 rfl rfl)
theorem dX6_ends_54 : decode cX6_ends 54 = .ok (.iload_n 3, 1) := dk_29 (dk_at dksX6_ends_2 8 rfl rfl)
theorem dX6_ends_55 : decode cX6_ends 55 = .ok (.ishl, 1) := dk_120 (dk_at dksX6_ends_2 9 rfl rfl)
theorem dX6_ends_56 : decode cX6_ends 56 = .ok (.ior, 1) := dk_128 (dk_at dksX6_ends_2 10 rfl rfl)
theorem dX6_ends_57 : decode cX6_ends 57 = .ok (.istore_n 2, 1) := dk_61 (dk_at dksX6_ends_2 11 rfl rfl)
theorem dX6_ends_58 : decode cX6_ends 58 = .ok (.iinc 3 1, 3) := dk_132 3 1 (dk_at dksX6_ends_2 12 rfl rfl)
theorem dX6_ends_61 : decode cX6_ends 61 = .ok (.goto (-39), 3) := dk_167 255 217 (dk_at dksX6_ends_2 15 rfl rfl)
theorem dX6_ends_64 : decode cX6_ends 64 = .ok (.iload_n 2, 1) := dk_28 (dk_at dksX6_ends_2 18 rfl rfl)
theorem dX6_ends_65 : decode cX6_ends 65 = .ok (.ireturn, 1) := dk_172 (dk_at dksX6_ends_2 19 rfl rfl)
abbrev cX6_meet : ByteArray := prog_14_method_73_code
def yX6_meet : MethodName := ⟨RX6, "meet", "(II)I"⟩
def dkwX6_meet_3 : List UInt8 := [180, 0, 49, 29, 46, 42, 180, 0, 55, 29, 46, 160, 0, 5, 29, 172, 132, 3, 1, 167, 255, 221, 2, 172]
abbrev dktX6_meet_3 : List UInt8 := dkwX6_meet_3 ++ []
def dkwX6_meet_2 : List UInt8 := [28, 3, 182, 1, 24, 3, 62, 29, 16, 60, 163, 0, 35, 42, 180, 0, 49, 29, 46, 155, 0, 20, 42]
abbrev dktX6_meet_2 : List UInt8 := dkwX6_meet_2 ++ dktX6_meet_3
def dkwX6_meet_1 : List UInt8 := [16, 60, 163, 0, 21, 42, 180, 0, 55, 29, 42, 180, 0, 49, 29, 46, 79, 132, 3, 1, 167, 255, 235, 42]
abbrev dktX6_meet_1 : List UInt8 := dkwX6_meet_1 ++ dktX6_meet_2
def dkwX6_meet_0 : List UInt8 := [42, 28, 133, 182, 0, 219, 153, 0, 12, 42, 27, 3, 182, 1, 28, 154, 0, 6, 16, 254, 172, 3, 62, 29]
abbrev dktX6_meet_0 : List UInt8 := dkwX6_meet_0 ++ dktX6_meet_1
theorem dksX6_meet_0 : cX6_meet.data.toList.drop 0 = dktX6_meet_0 := by decide +kernel
theorem dksX6_meet_1 : cX6_meet.data.toList.drop 24 = dktX6_meet_1 := dk_seg dksX6_meet_0 24 rfl rfl
theorem dksX6_meet_2 : cX6_meet.data.toList.drop 48 = dktX6_meet_2 := dk_seg dksX6_meet_1 24 rfl rfl
theorem dksX6_meet_3 : cX6_meet.data.toList.drop 71 = dktX6_meet_3 := dk_seg dksX6_meet_2 23 rfl rfl
theorem dX6_meet_0 : decode cX6_meet 0 = .ok (.aload_n 0, 1) := dk_42 (dk_at dksX6_meet_0 0 rfl rfl)
theorem dX6_meet_1 : decode cX6_meet 1 = .ok (.iload_n 2, 1) := dk_28 (dk_at dksX6_meet_0 1 rfl rfl)
theorem dX6_meet_2 : decode cX6_meet 2 = .ok (.i2l, 1) := dk_133 (dk_at dksX6_meet_0 2 rfl rfl)
theorem dX6_meet_3 : decode cX6_meet 3 = .ok (.invokevirtual 219, 3) := dk_182 0 219 (dk_at dksX6_meet_0 3 rfl rfl)
theorem dX6_meet_6 : decode cX6_meet 6 = .ok (.ifCond .eq 12, 3) := dk_153 0 12 (dk_at dksX6_meet_0 6 rfl rfl)
theorem dX6_meet_9 : decode cX6_meet 9 = .ok (.aload_n 0, 1) := dk_42 (dk_at dksX6_meet_0 9 rfl rfl)
theorem dX6_meet_10 : decode cX6_meet 10 = .ok (.iload_n 1, 1) := dk_27 (dk_at dksX6_meet_0 10 rfl rfl)
theorem dX6_meet_11 : decode cX6_meet 11 = .ok (.iconst 0, 1) := dk_3 (dk_at dksX6_meet_0 11 rfl rfl)
theorem dX6_meet_12 : decode cX6_meet 12 = .ok (.invokevirtual 284, 3) := dk_182 1 28 (dk_at dksX6_meet_0 12 rfl rfl)
theorem dX6_meet_15 : decode cX6_meet 15 = .ok (.ifCond .ne 6, 3) := dk_154 0 6 (dk_at dksX6_meet_0 15 rfl rfl)
theorem dX6_meet_18 : decode cX6_meet 18 = .ok (.bipush (-2), 2) := dk_16 254 (dk_at dksX6_meet_0 18 rfl rfl)
theorem dX6_meet_20 : decode cX6_meet 20 = .ok (.ireturn, 1) := dk_172 (dk_at dksX6_meet_0 20 rfl rfl)
theorem dX6_meet_21 : decode cX6_meet 21 = .ok (.iconst 0, 1) := dk_3 (dk_at dksX6_meet_0 21 rfl rfl)
theorem dX6_meet_22 : decode cX6_meet 22 = .ok (.istore_n 3, 1) := dk_62 (dk_at dksX6_meet_0 22 rfl rfl)
theorem dX6_meet_23 : decode cX6_meet 23 = .ok (.iload_n 3, 1) := dk_29 (dk_at dksX6_meet_0 23 rfl rfl)
theorem dX6_meet_24 : decode cX6_meet 24 = .ok (.bipush 60, 2) := dk_16 60 (dk_at dksX6_meet_1 0 rfl rfl)
theorem dX6_meet_26 : decode cX6_meet 26 = .ok (.if_icmp .gt 21, 3) := dk_163 0 21 (dk_at dksX6_meet_1 2 rfl rfl)
theorem dX6_meet_29 : decode cX6_meet 29 = .ok (.aload_n 0, 1) := dk_42 (dk_at dksX6_meet_1 5 rfl rfl)
theorem dX6_meet_30 : decode cX6_meet 30 = .ok (.getfield 55, 3) := dk_180 0 55 (dk_at dksX6_meet_1 6 rfl rfl)
theorem dX6_meet_33 : decode cX6_meet 33 = .ok (.iload_n 3, 1) := dk_29 (dk_at dksX6_meet_1 9 rfl rfl)
theorem dX6_meet_34 : decode cX6_meet 34 = .ok (.aload_n 0, 1) := dk_42 (dk_at dksX6_meet_1 10 rfl rfl)
theorem dX6_meet_35 : decode cX6_meet 35 = .ok (.getfield 49, 3) := dk_180 0 49 (dk_at dksX6_meet_1 11 rfl rfl)
theorem dX6_meet_38 : decode cX6_meet 38 = .ok (.iload_n 3, 1) := dk_29 (dk_at dksX6_meet_1 14 rfl rfl)
theorem dX6_meet_39 : decode cX6_meet 39 = .ok (.iaload, 1) := dk_46 (dk_at dksX6_meet_1 15 rfl rfl)
theorem dX6_meet_40 : decode cX6_meet 40 = .ok (.iastore, 1) := dk_79 (dk_at dksX6_meet_1 16 rfl rfl)
theorem dX6_meet_41 : decode cX6_meet 41 = .ok (.iinc 3 1, 3) := dk_132 3 1 (dk_at dksX6_meet_1 17 rfl rfl)
theorem dX6_meet_44 : decode cX6_meet 44 = .ok (.goto (-21), 3) := dk_167 255 235 (dk_at dksX6_meet_1 20 rfl rfl)
theorem dX6_meet_47 : decode cX6_meet 47 = .ok (.aload_n 0, 1) := dk_42 (dk_at dksX6_meet_1 23 rfl rfl)
theorem dX6_meet_48 : decode cX6_meet 48 = .ok (.iload_n 2, 1) := dk_28 (dk_at dksX6_meet_2 0 rfl rfl)
theorem dX6_meet_49 : decode cX6_meet 49 = .ok (.iconst 0, 1) := dk_3 (dk_at dksX6_meet_2 1 rfl rfl)
theorem dX6_meet_50 : decode cX6_meet 50 = .ok (.invokevirtual 280, 3) := dk_182 1 24 (dk_at dksX6_meet_2 2 rfl rfl)
theorem dX6_meet_53 : decode cX6_meet 53 = .ok (.iconst 0, 1) := dk_3 (dk_at dksX6_meet_2 5 rfl rfl)
theorem dX6_meet_54 : decode cX6_meet 54 = .ok (.istore_n 3, 1) := dk_62 (dk_at dksX6_meet_2 6 rfl rfl)
theorem dX6_meet_55 : decode cX6_meet 55 = .ok (.iload_n 3, 1) := dk_29 (dk_at dksX6_meet_2 7 rfl rfl)
theorem dX6_meet_56 : decode cX6_meet 56 = .ok (.bipush 60, 2) := dk_16 60 (dk_at dksX6_meet_2 8 rfl rfl)
theorem dX6_meet_58 : decode cX6_meet 58 = .ok (.if_icmp .gt 35, 3) := dk_163 0 35 (dk_at dksX6_meet_2 10 rfl rfl)
theorem dX6_meet_61 : decode cX6_meet 61 = .ok (.aload_n 0, 1) := dk_42 (dk_at dksX6_meet_2 13 rfl rfl)
theorem dX6_meet_62 : decode cX6_meet 62 = .ok (.getfield 49, 3) := dk_180 0 49 (dk_at dksX6_meet_2 14 rfl rfl)
theorem dX6_meet_65 : decode cX6_meet 65 = .ok (.iload_n 3, 1) := dk_29 (dk_at dksX6_meet_2 17 rfl rfl)
theorem dX6_meet_66 : decode cX6_meet 66 = .ok (.iaload, 1) := dk_46 (dk_at dksX6_meet_2 18 rfl rfl)
theorem dX6_meet_67 : decode cX6_meet 67 = .ok (.ifCond .lt 20, 3) := dk_155 0 20 (dk_at dksX6_meet_2 19 rfl rfl)
theorem dX6_meet_70 : decode cX6_meet 70 = .ok (.aload_n 0, 1) := dk_42 (dk_at dksX6_meet_2 22 rfl rfl)
theorem dX6_meet_71 : decode cX6_meet 71 = .ok (.getfield 49, 3) := dk_180 0 49 (dk_at dksX6_meet_3 0 rfl rfl)
theorem dX6_meet_74 : decode cX6_meet 74 = .ok (.iload_n 3, 1) := dk_29 (dk_at dksX6_meet_3 3 rfl rfl)
theorem dX6_meet_75 : decode cX6_meet 75 = .ok (.iaload, 1) := dk_46 (dk_at dksX6_meet_3 4 rfl rfl)
theorem dX6_meet_76 : decode cX6_meet 76 = .ok (.aload_n 0, 1) := dk_42 (dk_at dksX6_meet_3 5 rfl rfl)
theorem dX6_meet_77 : decode cX6_meet 77 = .ok (.getfield 55, 3) := dk_180 0 55 (dk_at dksX6_meet_3 6 rfl rfl)
theorem dX6_meet_80 : decode cX6_meet 80 = .ok (.iload_n 3, 1) := dk_29 (dk_at dksX6_meet_3 9 rfl rfl)
theorem dX6_meet_81 : decode cX6_meet 81 = .ok (.iaload, 1) := dk_46 (dk_at dksX6_meet_3 10 rfl rfl)
theorem dX6_meet_82 : decode cX6_meet 82 = .ok (.if_icmp .ne 5, 3) := dk_160 0 5 (dk_at dksX6_meet_3 11 rfl rfl)
theorem dX6_meet_85 : decode cX6_meet 85 = .ok (.iload_n 3, 1) := dk_29 (dk_at dksX6_meet_3 14 rfl rfl)
theorem dX6_meet_86 : decode cX6_meet 86 = .ok (.ireturn, 1) := dk_172 (dk_at dksX6_meet_3 15 rfl rfl)
theorem dX6_meet_87 : decode cX6_meet 87 = .ok (.iinc 3 1, 3) := dk_132 3 1 (dk_at dksX6_meet_3 16 rfl rfl)
theorem dX6_meet_90 : decode cX6_meet 90 = .ok (.goto (-35), 3) := dk_167 255 221 (dk_at dksX6_meet_3 19 rfl rfl)
theorem dX6_meet_93 : decode cX6_meet 93 = .ok (.iconst (-1), 1) := dk_2 (dk_at dksX6_meet_3 22 rfl rfl)
theorem dX6_meet_94 : decode cX6_meet 94 = .ok (.ireturn, 1) := dk_172 (dk_at dksX6_meet_3 23 rfl rfl)
abbrev cX6_alike : ByteArray := prog_14_method_74_code
def yX6_alike : MethodName := ⟨RX6, "alike", "(II)I"⟩
def dkwX6_alike_4 : List UInt8 := [167, 0, 4, 3, 96, 62, 132, 4, 1, 167, 255, 211, 29, 172]
abbrev dktX6_alike_4 : List UInt8 := dkwX6_alike_4 ++ []
def dkwX6_alike_3 : List UInt8 := [46, 155, 0, 24, 42, 180, 0, 49, 21, 4, 46, 42, 180, 0, 55, 21, 4, 46, 160, 0, 7, 4]
abbrev dktX6_alike_3 : List UInt8 := dkwX6_alike_3 ++ dktX6_alike_4
def dkwX6_alike_2 : List UInt8 := [28, 3, 182, 1, 24, 3, 62, 3, 54, 4, 21, 4, 16, 60, 163, 0, 44, 29, 42, 180, 0, 49, 21, 4]
abbrev dktX6_alike_2 : List UInt8 := dkwX6_alike_2 ++ dktX6_alike_3
def dkwX6_alike_1 : List UInt8 := [16, 60, 163, 0, 21, 42, 180, 0, 55, 29, 42, 180, 0, 49, 29, 46, 79, 132, 3, 1, 167, 255, 235, 42]
abbrev dktX6_alike_1 : List UInt8 := dkwX6_alike_1 ++ dktX6_alike_2
def dkwX6_alike_0 : List UInt8 := [42, 28, 133, 182, 0, 219, 153, 0, 12, 42, 27, 3, 182, 1, 28, 154, 0, 6, 16, 254, 172, 3, 62, 29]
abbrev dktX6_alike_0 : List UInt8 := dkwX6_alike_0 ++ dktX6_alike_1
theorem dksX6_alike_0 : cX6_alike.data.toList.drop 0 = dktX6_alike_0 := by decide +kernel
theorem dksX6_alike_1 : cX6_alike.data.toList.drop 24 = dktX6_alike_1 := dk_seg dksX6_alike_0 24 rfl rfl
theorem dksX6_alike_2 : cX6_alike.data.toList.drop 48 = dktX6_alike_2 := dk_seg dksX6_alike_1 24 rfl rfl
theorem dksX6_alike_3 : cX6_alike.data.toList.drop 72 = dktX6_alike_3 := dk_seg dksX6_alike_2 24 rfl rfl
theorem dksX6_alike_4 : cX6_alike.data.toList.drop 94 = dktX6_alike_4 := dk_seg dksX6_alike_3 22 rfl rfl
theorem dX6_alike_0 : decode cX6_alike 0 = .ok (.aload_n 0, 1) := dk_42 (dk_at dksX6_alike_0 0 rfl rfl)
theorem dX6_alike_1 : decode cX6_alike 1 = .ok (.iload_n 2, 1) := dk_28 (dk_at dksX6_alike_0 1 rfl rfl)
theorem dX6_alike_2 : decode cX6_alike 2 = .ok (.i2l, 1) := dk_133 (dk_at dksX6_alike_0 2 rfl rfl)
theorem dX6_alike_3 : decode cX6_alike 3 = .ok (.invokevirtual 219, 3) := dk_182 0 219 (dk_at dksX6_alike_0 3 rfl rfl)
theorem dX6_alike_6 : decode cX6_alike 6 = .ok (.ifCond .eq 12, 3) := dk_153 0 12 (dk_at dksX6_alike_0 6 rfl rfl)
theorem dX6_alike_9 : decode cX6_alike 9 = .ok (.aload_n 0, 1) := dk_42 (dk_at dksX6_alike_0 9 rfl rfl)
theorem dX6_alike_10 : decode cX6_alike 10 = .ok (.iload_n 1, 1) := dk_27 (dk_at dksX6_alike_0 10 rfl rfl)
theorem dX6_alike_11 : decode cX6_alike 11 = .ok (.iconst 0, 1) := dk_3 (dk_at dksX6_alike_0 11 rfl rfl)
theorem dX6_alike_12 : decode cX6_alike 12 = .ok (.invokevirtual 284, 3) := dk_182 1 28 (dk_at dksX6_alike_0 12 rfl rfl)
theorem dX6_alike_15 : decode cX6_alike 15 = .ok (.ifCond .ne 6, 3) := dk_154 0 6 (dk_at dksX6_alike_0 15 rfl rfl)
theorem dX6_alike_18 : decode cX6_alike 18 = .ok (.bipush (-2), 2) := dk_16 254 (dk_at dksX6_alike_0 18 rfl rfl)
theorem dX6_alike_20 : decode cX6_alike 20 = .ok (.ireturn, 1) := dk_172 (dk_at dksX6_alike_0 20 rfl rfl)
theorem dX6_alike_21 : decode cX6_alike 21 = .ok (.iconst 0, 1) := dk_3 (dk_at dksX6_alike_0 21 rfl rfl)
theorem dX6_alike_22 : decode cX6_alike 22 = .ok (.istore_n 3, 1) := dk_62 (dk_at dksX6_alike_0 22 rfl rfl)
theorem dX6_alike_23 : decode cX6_alike 23 = .ok (.iload_n 3, 1) := dk_29 (dk_at dksX6_alike_0 23 rfl rfl)
theorem dX6_alike_24 : decode cX6_alike 24 = .ok (.bipush 60, 2) := dk_16 60 (dk_at dksX6_alike_1 0 rfl rfl)
theorem dX6_alike_26 : decode cX6_alike 26 = .ok (.if_icmp .gt 21, 3) := dk_163 0 21 (dk_at dksX6_alike_1 2 rfl rfl)
theorem dX6_alike_29 : decode cX6_alike 29 = .ok (.aload_n 0, 1) := dk_42 (dk_at dksX6_alike_1 5 rfl rfl)
theorem dX6_alike_30 : decode cX6_alike 30 = .ok (.getfield 55, 3) := dk_180 0 55 (dk_at dksX6_alike_1 6 rfl rfl)
theorem dX6_alike_33 : decode cX6_alike 33 = .ok (.iload_n 3, 1) := dk_29 (dk_at dksX6_alike_1 9 rfl rfl)
theorem dX6_alike_34 : decode cX6_alike 34 = .ok (.aload_n 0, 1) := dk_42 (dk_at dksX6_alike_1 10 rfl rfl)
theorem dX6_alike_35 : decode cX6_alike 35 = .ok (.getfield 49, 3) := dk_180 0 49 (dk_at dksX6_alike_1 11 rfl rfl)
theorem dX6_alike_38 : decode cX6_alike 38 = .ok (.iload_n 3, 1) := dk_29 (dk_at dksX6_alike_1 14 rfl rfl)
theorem dX6_alike_39 : decode cX6_alike 39 = .ok (.iaload, 1) := dk_46 (dk_at dksX6_alike_1 15 rfl rfl)
theorem dX6_alike_40 : decode cX6_alike 40 = .ok (.iastore, 1) := dk_79 (dk_at dksX6_alike_1 16 rfl rfl)
theorem dX6_alike_41 : decode cX6_alike 41 = .ok (.iinc 3 1, 3) := dk_132 3 1 (dk_at dksX6_alike_1 17 rfl rfl)
theorem dX6_alike_44 : decode cX6_alike 44 = .ok (.goto (-21), 3) := dk_167 255 235 (dk_at dksX6_alike_1 20 rfl rfl)
theorem dX6_alike_47 : decode cX6_alike 47 = .ok (.aload_n 0, 1) := dk_42 (dk_at dksX6_alike_1 23 rfl rfl)
theorem dX6_alike_48 : decode cX6_alike 48 = .ok (.iload_n 2, 1) := dk_28 (dk_at dksX6_alike_2 0 rfl rfl)
theorem dX6_alike_49 : decode cX6_alike 49 = .ok (.iconst 0, 1) := dk_3 (dk_at dksX6_alike_2 1 rfl rfl)
theorem dX6_alike_50 : decode cX6_alike 50 = .ok (.invokevirtual 280, 3) := dk_182 1 24 (dk_at dksX6_alike_2 2 rfl rfl)
theorem dX6_alike_53 : decode cX6_alike 53 = .ok (.iconst 0, 1) := dk_3 (dk_at dksX6_alike_2 5 rfl rfl)
theorem dX6_alike_54 : decode cX6_alike 54 = .ok (.istore_n 3, 1) := dk_62 (dk_at dksX6_alike_2 6 rfl rfl)
theorem dX6_alike_55 : decode cX6_alike 55 = .ok (.iconst 0, 1) := dk_3 (dk_at dksX6_alike_2 7 rfl rfl)
theorem dX6_alike_56 : decode cX6_alike 56 = .ok (.istore 4, 2) := dk_54 4 (dk_at dksX6_alike_2 8 rfl rfl)
theorem dX6_alike_58 : decode cX6_alike 58 = .ok (.iload 4, 2) := dk_21 4 (dk_at dksX6_alike_2 10 rfl rfl)
theorem dX6_alike_60 : decode cX6_alike 60 = .ok (.bipush 60, 2) := dk_16 60 (dk_at dksX6_alike_2 12 rfl rfl)
theorem dX6_alike_62 : decode cX6_alike 62 = .ok (.if_icmp .gt 44, 3) := dk_163 0 44 (dk_at dksX6_alike_2 14 rfl rfl)
theorem dX6_alike_65 : decode cX6_alike 65 = .ok (.iload_n 3, 1) := dk_29 (dk_at dksX6_alike_2 17 rfl rfl)
theorem dX6_alike_66 : decode cX6_alike 66 = .ok (.aload_n 0, 1) := dk_42 (dk_at dksX6_alike_2 18 rfl rfl)
theorem dX6_alike_67 : decode cX6_alike 67 = .ok (.getfield 49, 3) := dk_180 0 49 (dk_at dksX6_alike_2 19 rfl rfl)
theorem dX6_alike_70 : decode cX6_alike 70 = .ok (.iload 4, 2) := dk_21 4 (dk_at dksX6_alike_2 22 rfl rfl)
theorem dX6_alike_72 : decode cX6_alike 72 = .ok (.iaload, 1) := dk_46 (dk_at dksX6_alike_3 0 rfl rfl)
theorem dX6_alike_73 : decode cX6_alike 73 = .ok (.ifCond .lt 24, 3) := dk_155 0 24 (dk_at dksX6_alike_3 1 rfl rfl)
theorem dX6_alike_76 : decode cX6_alike 76 = .ok (.aload_n 0, 1) := dk_42 (dk_at dksX6_alike_3 4 rfl rfl)
theorem dX6_alike_77 : decode cX6_alike 77 = .ok (.getfield 49, 3) := dk_180 0 49 (dk_at dksX6_alike_3 5 rfl rfl)
theorem dX6_alike_80 : decode cX6_alike 80 = .ok (.iload 4, 2) := dk_21 4 (dk_at dksX6_alike_3 8 rfl rfl)
theorem dX6_alike_82 : decode cX6_alike 82 = .ok (.iaload, 1) := dk_46 (dk_at dksX6_alike_3 10 rfl rfl)
theorem dX6_alike_83 : decode cX6_alike 83 = .ok (.aload_n 0, 1) := dk_42 (dk_at dksX6_alike_3 11 rfl rfl)
theorem dX6_alike_84 : decode cX6_alike 84 = .ok (.getfield 55, 3) := dk_180 0 55 (dk_at dksX6_alike_3 12 rfl rfl)
theorem dX6_alike_87 : decode cX6_alike 87 = .ok (.iload 4, 2) := dk_21 4 (dk_at dksX6_alike_3 15 rfl rfl)
theorem dX6_alike_89 : decode cX6_alike 89 = .ok (.iaload, 1) := dk_46 (dk_at dksX6_alike_3 17 rfl rfl)
theorem dX6_alike_90 : decode cX6_alike 90 = .ok (.if_icmp .ne 7, 3) := dk_160 0 7 (dk_at dksX6_alike_3 18 rfl rfl)
theorem dX6_alike_93 : decode cX6_alike 93 = .ok (.iconst 1, 1) := dk_4 (dk_at dksX6_alike_3 21 rfl rfl)
theorem dX6_alike_94 : decode cX6_alike 94 = .ok (.goto 4, 3) := dk_167 0 4 (dk_at dksX6_alike_4 0 rfl rfl)
theorem dX6_alike_97 : decode cX6_alike 97 = .ok (.iconst 0, 1) := dk_3 (dk_at dksX6_alike_4 3 rfl rfl)
theorem dX6_alike_98 : decode cX6_alike 98 = .ok (.iadd, 1) := dk_96 (dk_at dksX6_alike_4 4 rfl rfl)
theorem dX6_alike_99 : decode cX6_alike 99 = .ok (.istore_n 3, 1) := dk_62 (dk_at dksX6_alike_4 5 rfl rfl)
theorem dX6_alike_100 : decode cX6_alike 100 = .ok (.iinc 4 1, 3) := dk_132 4 1 (dk_at dksX6_alike_4 6 rfl rfl)
theorem dX6_alike_103 : decode cX6_alike 103 = .ok (.goto (-45), 3) := dk_167 255 211 (dk_at dksX6_alike_4 9 rfl rfl)
theorem dX6_alike_106 : decode cX6_alike 106 = .ok (.iload_n 3, 1) := dk_29 (dk_at dksX6_alike_4 12 rfl rfl)
theorem dX6_alike_107 : decode cX6_alike 107 = .ok (.ireturn, 1) := dk_172 (dk_at dksX6_alike_4 13 rfl rfl)
abbrev cX6_busy : ByteArray := prog_14_method_75_code
def yX6_busy : MethodName := ⟨RX6, "busy", "(I)I"⟩
def dkwX6_busy_5 : List UInt8 := [164, 0, 5, 29, 61, 132, 3, 1, 167, 255, 221, 28, 172]
abbrev dktX6_busy_5 : List UInt8 := dkwX6_busy_5 ++ []
def dkwX6_busy_4 : List UInt8 := [162, 0, 35, 42, 180, 0, 58, 29, 46, 28, 2, 160, 0, 7, 3, 167, 0, 9, 42, 180, 0, 58, 28, 46]
abbrev dktX6_busy_4 : List UInt8 := dkwX6_busy_4 ++ dktX6_busy_5
def dkwX6_busy_3 : List UInt8 := [180, 0, 49, 27, 46, 92, 46, 4, 96, 79, 132, 2, 1, 167, 255, 213, 2, 61, 3, 62, 29, 16, 10]
abbrev dktX6_busy_3 : List UInt8 := dkwX6_busy_3 ++ dktX6_busy_4
def dkwX6_busy_2 : List UInt8 := [46, 162, 0, 39, 42, 28, 3, 182, 1, 24, 42, 180, 0, 49, 27, 46, 155, 0, 18, 42, 180, 0, 58, 42]
abbrev dktX6_busy_2 : List UInt8 := dkwX6_busy_2 ++ dktX6_busy_3
def dkwX6_busy_1 : List UInt8 := [162, 0, 16, 42, 180, 0, 58, 28, 3, 79, 132, 2, 1, 167, 255, 240, 3, 61, 28, 42, 180, 0, 9, 6]
abbrev dktX6_busy_1 : List UInt8 := dkwX6_busy_1 ++ dktX6_busy_2
def dkwX6_busy_0 : List UInt8 := [42, 182, 0, 253, 153, 0, 11, 27, 133, 184, 1, 0, 154, 0, 6, 16, 254, 172, 3, 61, 28, 16, 10]
abbrev dktX6_busy_0 : List UInt8 := dkwX6_busy_0 ++ dktX6_busy_1
theorem dksX6_busy_0 : cX6_busy.data.toList.drop 0 = dktX6_busy_0 := by decide +kernel
theorem dksX6_busy_1 : cX6_busy.data.toList.drop 23 = dktX6_busy_1 := dk_seg dksX6_busy_0 23 rfl rfl
theorem dksX6_busy_2 : cX6_busy.data.toList.drop 47 = dktX6_busy_2 := dk_seg dksX6_busy_1 24 rfl rfl
theorem dksX6_busy_3 : cX6_busy.data.toList.drop 71 = dktX6_busy_3 := dk_seg dksX6_busy_2 24 rfl rfl
theorem dksX6_busy_4 : cX6_busy.data.toList.drop 94 = dktX6_busy_4 := dk_seg dksX6_busy_3 23 rfl rfl
theorem dksX6_busy_5 : cX6_busy.data.toList.drop 118 = dktX6_busy_5 := dk_seg dksX6_busy_4 24 rfl rfl
theorem dX6_busy_0 : decode cX6_busy 0 = .ok (.aload_n 0, 1) := dk_42 (dk_at dksX6_busy_0 0 rfl rfl)
theorem dX6_busy_1 : decode cX6_busy 1 = .ok (.invokevirtual 253, 3) := dk_182 0 253 (dk_at dksX6_busy_0 1 rfl rfl)
theorem dX6_busy_4 : decode cX6_busy 4 = .ok (.ifCond .eq 11, 3) := dk_153 0 11 (dk_at dksX6_busy_0 4 rfl rfl)
theorem dX6_busy_7 : decode cX6_busy 7 = .ok (.iload_n 1, 1) := dk_27 (dk_at dksX6_busy_0 7 rfl rfl)
theorem dX6_busy_8 : decode cX6_busy 8 = .ok (.i2l, 1) := dk_133 (dk_at dksX6_busy_0 8 rfl rfl)
theorem dX6_busy_9 : decode cX6_busy 9 = .ok (.invokestatic 256, 3) := dk_184 1 0 (dk_at dksX6_busy_0 9 rfl rfl)
theorem dX6_busy_12 : decode cX6_busy 12 = .ok (.ifCond .ne 6, 3) := dk_154 0 6 (dk_at dksX6_busy_0 12 rfl rfl)
theorem dX6_busy_15 : decode cX6_busy 15 = .ok (.bipush (-2), 2) := dk_16 254 (dk_at dksX6_busy_0 15 rfl rfl)
theorem dX6_busy_17 : decode cX6_busy 17 = .ok (.ireturn, 1) := dk_172 (dk_at dksX6_busy_0 17 rfl rfl)
theorem dX6_busy_18 : decode cX6_busy 18 = .ok (.iconst 0, 1) := dk_3 (dk_at dksX6_busy_0 18 rfl rfl)
theorem dX6_busy_19 : decode cX6_busy 19 = .ok (.istore_n 2, 1) := dk_61 (dk_at dksX6_busy_0 19 rfl rfl)
theorem dX6_busy_20 : decode cX6_busy 20 = .ok (.iload_n 2, 1) := dk_28 (dk_at dksX6_busy_0 20 rfl rfl)
theorem dX6_busy_21 : decode cX6_busy 21 = .ok (.bipush 10, 2) := dk_16 10 (dk_at dksX6_busy_0 21 rfl rfl)
theorem dX6_busy_23 : decode cX6_busy 23 = .ok (.if_icmp .ge 16, 3) := dk_162 0 16 (dk_at dksX6_busy_1 0 rfl rfl)
theorem dX6_busy_26 : decode cX6_busy 26 = .ok (.aload_n 0, 1) := dk_42 (dk_at dksX6_busy_1 3 rfl rfl)
theorem dX6_busy_27 : decode cX6_busy 27 = .ok (.getfield 58, 3) := dk_180 0 58 (dk_at dksX6_busy_1 4 rfl rfl)
theorem dX6_busy_30 : decode cX6_busy 30 = .ok (.iload_n 2, 1) := dk_28 (dk_at dksX6_busy_1 7 rfl rfl)
theorem dX6_busy_31 : decode cX6_busy 31 = .ok (.iconst 0, 1) := dk_3 (dk_at dksX6_busy_1 8 rfl rfl)
theorem dX6_busy_32 : decode cX6_busy 32 = .ok (.iastore, 1) := dk_79 (dk_at dksX6_busy_1 9 rfl rfl)
theorem dX6_busy_33 : decode cX6_busy 33 = .ok (.iinc 2 1, 3) := dk_132 2 1 (dk_at dksX6_busy_1 10 rfl rfl)
theorem dX6_busy_36 : decode cX6_busy 36 = .ok (.goto (-16), 3) := dk_167 255 240 (dk_at dksX6_busy_1 13 rfl rfl)
theorem dX6_busy_39 : decode cX6_busy 39 = .ok (.iconst 0, 1) := dk_3 (dk_at dksX6_busy_1 16 rfl rfl)
theorem dX6_busy_40 : decode cX6_busy 40 = .ok (.istore_n 2, 1) := dk_61 (dk_at dksX6_busy_1 17 rfl rfl)
theorem dX6_busy_41 : decode cX6_busy 41 = .ok (.iload_n 2, 1) := dk_28 (dk_at dksX6_busy_1 18 rfl rfl)
theorem dX6_busy_42 : decode cX6_busy 42 = .ok (.aload_n 0, 1) := dk_42 (dk_at dksX6_busy_1 19 rfl rfl)
theorem dX6_busy_43 : decode cX6_busy 43 = .ok (.getfield 9, 3) := dk_180 0 9 (dk_at dksX6_busy_1 20 rfl rfl)
theorem dX6_busy_46 : decode cX6_busy 46 = .ok (.iconst 3, 1) := dk_6 (dk_at dksX6_busy_1 23 rfl rfl)
theorem dX6_busy_47 : decode cX6_busy 47 = .ok (.iaload, 1) := dk_46 (dk_at dksX6_busy_2 0 rfl rfl)
theorem dX6_busy_48 : decode cX6_busy 48 = .ok (.if_icmp .ge 39, 3) := dk_162 0 39 (dk_at dksX6_busy_2 1 rfl rfl)
theorem dX6_busy_51 : decode cX6_busy 51 = .ok (.aload_n 0, 1) := dk_42 (dk_at dksX6_busy_2 4 rfl rfl)
theorem dX6_busy_52 : decode cX6_busy 52 = .ok (.iload_n 2, 1) := dk_28 (dk_at dksX6_busy_2 5 rfl rfl)
theorem dX6_busy_53 : decode cX6_busy 53 = .ok (.iconst 0, 1) := dk_3 (dk_at dksX6_busy_2 6 rfl rfl)
theorem dX6_busy_54 : decode cX6_busy 54 = .ok (.invokevirtual 280, 3) := dk_182 1 24 (dk_at dksX6_busy_2 7 rfl rfl)
theorem dX6_busy_57 : decode cX6_busy 57 = .ok (.aload_n 0, 1) := dk_42 (dk_at dksX6_busy_2 10 rfl rfl)
theorem dX6_busy_58 : decode cX6_busy 58 = .ok (.getfield 49, 3) := dk_180 0 49 (dk_at dksX6_busy_2 11 rfl rfl)
theorem dX6_busy_61 : decode cX6_busy 61 = .ok (.iload_n 1, 1) := dk_27 (dk_at dksX6_busy_2 14 rfl rfl)
theorem dX6_busy_62 : decode cX6_busy 62 = .ok (.iaload, 1) := dk_46 (dk_at dksX6_busy_2 15 rfl rfl)
theorem dX6_busy_63 : decode cX6_busy 63 = .ok (.ifCond .lt 18, 3) := dk_155 0 18 (dk_at dksX6_busy_2 16 rfl rfl)
theorem dX6_busy_66 : decode cX6_busy 66 = .ok (.aload_n 0, 1) := dk_42 (dk_at dksX6_busy_2 19 rfl rfl)
theorem dX6_busy_67 : decode cX6_busy 67 = .ok (.getfield 58, 3) := dk_180 0 58 (dk_at dksX6_busy_2 20 rfl rfl)
theorem dX6_busy_70 : decode cX6_busy 70 = .ok (.aload_n 0, 1) := dk_42 (dk_at dksX6_busy_2 23 rfl rfl)
theorem dX6_busy_71 : decode cX6_busy 71 = .ok (.getfield 49, 3) := dk_180 0 49 (dk_at dksX6_busy_3 0 rfl rfl)
theorem dX6_busy_74 : decode cX6_busy 74 = .ok (.iload_n 1, 1) := dk_27 (dk_at dksX6_busy_3 3 rfl rfl)
theorem dX6_busy_75 : decode cX6_busy 75 = .ok (.iaload, 1) := dk_46 (dk_at dksX6_busy_3 4 rfl rfl)
theorem dX6_busy_76 : decode cX6_busy 76 = .ok (.dup2, 1) := dk_92 (dk_at dksX6_busy_3 5 rfl rfl)
theorem dX6_busy_77 : decode cX6_busy 77 = .ok (.iaload, 1) := dk_46 (dk_at dksX6_busy_3 6 rfl rfl)
theorem dX6_busy_78 : decode cX6_busy 78 = .ok (.iconst 1, 1) := dk_4 (dk_at dksX6_busy_3 7 rfl rfl)
theorem dX6_busy_79 : decode cX6_busy 79 = .ok (.iadd, 1) := dk_96 (dk_at dksX6_busy_3 8 rfl rfl)
theorem dX6_busy_80 : decode cX6_busy 80 = .ok (.iastore, 1) := dk_79 (dk_at dksX6_busy_3 9 rfl rfl)
theorem dX6_busy_81 : decode cX6_busy 81 = .ok (.iinc 2 1, 3) := dk_132 2 1 (dk_at dksX6_busy_3 10 rfl rfl)
theorem dX6_busy_84 : decode cX6_busy 84 = .ok (.goto (-43), 3) := dk_167 255 213 (dk_at dksX6_busy_3 13 rfl rfl)
theorem dX6_busy_87 : decode cX6_busy 87 = .ok (.iconst (-1), 1) := dk_2 (dk_at dksX6_busy_3 16 rfl rfl)
theorem dX6_busy_88 : decode cX6_busy 88 = .ok (.istore_n 2, 1) := dk_61 (dk_at dksX6_busy_3 17 rfl rfl)
theorem dX6_busy_89 : decode cX6_busy 89 = .ok (.iconst 0, 1) := dk_3 (dk_at dksX6_busy_3 18 rfl rfl)
theorem dX6_busy_90 : decode cX6_busy 90 = .ok (.istore_n 3, 1) := dk_62 (dk_at dksX6_busy_3 19 rfl rfl)
theorem dX6_busy_91 : decode cX6_busy 91 = .ok (.iload_n 3, 1) := dk_29 (dk_at dksX6_busy_3 20 rfl rfl)
theorem dX6_busy_92 : decode cX6_busy 92 = .ok (.bipush 10, 2) := dk_16 10 (dk_at dksX6_busy_3 21 rfl rfl)
theorem dX6_busy_94 : decode cX6_busy 94 = .ok (.if_icmp .ge 35, 3) := dk_162 0 35 (dk_at dksX6_busy_4 0 rfl rfl)
theorem dX6_busy_97 : decode cX6_busy 97 = .ok (.aload_n 0, 1) := dk_42 (dk_at dksX6_busy_4 3 rfl rfl)
theorem dX6_busy_98 : decode cX6_busy 98 = .ok (.getfield 58, 3) := dk_180 0 58 (dk_at dksX6_busy_4 4 rfl rfl)
theorem dX6_busy_101 : decode cX6_busy 101 = .ok (.iload_n 3, 1) := dk_29 (dk_at dksX6_busy_4 7 rfl rfl)
theorem dX6_busy_102 : decode cX6_busy 102 = .ok (.iaload, 1) := dk_46 (dk_at dksX6_busy_4 8 rfl rfl)
theorem dX6_busy_103 : decode cX6_busy 103 = .ok (.iload_n 2, 1) := dk_28 (dk_at dksX6_busy_4 9 rfl rfl)
theorem dX6_busy_104 : decode cX6_busy 104 = .ok (.iconst (-1), 1) := dk_2 (dk_at dksX6_busy_4 10 rfl rfl)
theorem dX6_busy_105 : decode cX6_busy 105 = .ok (.if_icmp .ne 7, 3) := dk_160 0 7 (dk_at dksX6_busy_4 11 rfl rfl)
theorem dX6_busy_108 : decode cX6_busy 108 = .ok (.iconst 0, 1) := dk_3 (dk_at dksX6_busy_4 14 rfl rfl)
theorem dX6_busy_109 : decode cX6_busy 109 = .ok (.goto 9, 3) := dk_167 0 9 (dk_at dksX6_busy_4 15 rfl rfl)
theorem dX6_busy_112 : decode cX6_busy 112 = .ok (.aload_n 0, 1) := dk_42 (dk_at dksX6_busy_4 18 rfl rfl)
theorem dX6_busy_113 : decode cX6_busy 113 = .ok (.getfield 58, 3) := dk_180 0 58 (dk_at dksX6_busy_4 19 rfl rfl)
theorem dX6_busy_116 : decode cX6_busy 116 = .ok (.iload_n 2, 1) := dk_28 (dk_at dksX6_busy_4 22 rfl rfl)
theorem dX6_busy_117 : decode cX6_busy 117 = .ok (.iaload, 1) := dk_46 (dk_at dksX6_busy_4 23 rfl rfl)
theorem dX6_busy_118 : decode cX6_busy 118 = .ok (.if_icmp .le 5, 3) := dk_164 0 5 (dk_at dksX6_busy_5 0 rfl rfl)
theorem dX6_busy_121 : decode cX6_busy 121 = .ok (.iload_n 3, 1) := dk_29 (dk_at dksX6_busy_5 3 rfl rfl)
theorem dX6_busy_122 : decode cX6_busy 122 = .ok (.istore_n 2, 1) := dk_61 (dk_at dksX6_busy_5 4 rfl rfl)
theorem dX6_busy_123 : decode cX6_busy 123 = .ok (.iinc 3 1, 3) := dk_132 3 1 (dk_at dksX6_busy_5 5 rfl rfl)
theorem dX6_busy_126 : decode cX6_busy 126 = .ok (.goto (-35), 3) := dk_167 255 221 (dk_at dksX6_busy_5 8 rfl rfl)
theorem dX6_busy_129 : decode cX6_busy 129 = .ok (.iload_n 2, 1) := dk_28 (dk_at dksX6_busy_5 11 rfl rfl)
theorem dX6_busy_130 : decode cX6_busy 130 = .ok (.ireturn, 1) := dk_172 (dk_at dksX6_busy_5 12 rfl rfl)
abbrev cX6_soon : ByteArray := prog_14_method_77_code
def yX6_soon : MethodName := ⟨RX6, "soon", "(II)I"⟩
def dkwX6_soon_3 : List UInt8 := [167, 255, 207, 29, 172]
abbrev dktX6_soon_3 : List UInt8 := dkwX6_soon_3 ++ []
def dkwX6_soon_2 : List UInt8 := [159, 0, 20, 21, 6, 21, 4, 164, 0, 6, 167, 0, 10, 21, 6, 54, 4, 21, 5, 62, 132, 5, 1]
abbrev dktX6_soon_2 : List UInt8 := dkwX6_soon_2 ++ dktX6_soon_3
def dkwX6_soon_1 : List UInt8 := [16, 60, 163, 0, 48, 42, 27, 21, 5, 182, 1, 24, 42, 21, 5, 28, 182, 1, 32, 54, 6, 21, 6, 2]
abbrev dktX6_soon_1 : List UInt8 := dkwX6_soon_1 ++ dktX6_soon_2
def dkwX6_soon_0 : List UInt8 := [42, 27, 28, 182, 1, 38, 154, 0, 6, 16, 254, 172, 2, 62, 19, 1, 41, 54, 4, 3, 54, 5, 21, 5]
abbrev dktX6_soon_0 : List UInt8 := dkwX6_soon_0 ++ dktX6_soon_1
theorem dksX6_soon_0 : cX6_soon.data.toList.drop 0 = dktX6_soon_0 := by decide +kernel
theorem dksX6_soon_1 : cX6_soon.data.toList.drop 24 = dktX6_soon_1 := dk_seg dksX6_soon_0 24 rfl rfl
theorem dksX6_soon_2 : cX6_soon.data.toList.drop 48 = dktX6_soon_2 := dk_seg dksX6_soon_1 24 rfl rfl
theorem dksX6_soon_3 : cX6_soon.data.toList.drop 71 = dktX6_soon_3 := dk_seg dksX6_soon_2 23 rfl rfl
theorem dX6_soon_0 : decode cX6_soon 0 = .ok (.aload_n 0, 1) := dk_42 (dk_at dksX6_soon_0 0 rfl rfl)
theorem dX6_soon_1 : decode cX6_soon 1 = .ok (.iload_n 1, 1) := dk_27 (dk_at dksX6_soon_0 1 rfl rfl)
theorem dX6_soon_2 : decode cX6_soon 2 = .ok (.iload_n 2, 1) := dk_28 (dk_at dksX6_soon_0 2 rfl rfl)
theorem dX6_soon_3 : decode cX6_soon 3 = .ok (.invokevirtual 294, 3) := dk_182 1 38 (dk_at dksX6_soon_0 3 rfl rfl)
theorem dX6_soon_6 : decode cX6_soon 6 = .ok (.ifCond .ne 6, 3) := dk_154 0 6 (dk_at dksX6_soon_0 6 rfl rfl)
theorem dX6_soon_9 : decode cX6_soon 9 = .ok (.bipush (-2), 2) := dk_16 254 (dk_at dksX6_soon_0 9 rfl rfl)
theorem dX6_soon_11 : decode cX6_soon 11 = .ok (.ireturn, 1) := dk_172 (dk_at dksX6_soon_0 11 rfl rfl)
theorem dX6_soon_12 : decode cX6_soon 12 = .ok (.iconst (-1), 1) := dk_2 (dk_at dksX6_soon_0 12 rfl rfl)
theorem dX6_soon_13 : decode cX6_soon 13 = .ok (.istore_n 3, 1) := dk_62 (dk_at dksX6_soon_0 13 rfl rfl)
theorem dX6_soon_14 : decode cX6_soon 14 = .ok (.ldc_w 297, 3) := dk_19 1 41 (dk_at dksX6_soon_0 14 rfl rfl)
theorem dX6_soon_17 : decode cX6_soon 17 = .ok (.istore 4, 2) := dk_54 4 (dk_at dksX6_soon_0 17 rfl rfl)
theorem dX6_soon_19 : decode cX6_soon 19 = .ok (.iconst 0, 1) := dk_3 (dk_at dksX6_soon_0 19 rfl rfl)
theorem dX6_soon_20 : decode cX6_soon 20 = .ok (.istore 5, 2) := dk_54 5 (dk_at dksX6_soon_0 20 rfl rfl)
theorem dX6_soon_22 : decode cX6_soon 22 = .ok (.iload 5, 2) := dk_21 5 (dk_at dksX6_soon_0 22 rfl rfl)
theorem dX6_soon_24 : decode cX6_soon 24 = .ok (.bipush 60, 2) := dk_16 60 (dk_at dksX6_soon_1 0 rfl rfl)
theorem dX6_soon_26 : decode cX6_soon 26 = .ok (.if_icmp .gt 48, 3) := dk_163 0 48 (dk_at dksX6_soon_1 2 rfl rfl)
theorem dX6_soon_29 : decode cX6_soon 29 = .ok (.aload_n 0, 1) := dk_42 (dk_at dksX6_soon_1 5 rfl rfl)
theorem dX6_soon_30 : decode cX6_soon 30 = .ok (.iload_n 1, 1) := dk_27 (dk_at dksX6_soon_1 6 rfl rfl)
theorem dX6_soon_31 : decode cX6_soon 31 = .ok (.iload 5, 2) := dk_21 5 (dk_at dksX6_soon_1 7 rfl rfl)
theorem dX6_soon_33 : decode cX6_soon 33 = .ok (.invokevirtual 280, 3) := dk_182 1 24 (dk_at dksX6_soon_1 9 rfl rfl)
theorem dX6_soon_36 : decode cX6_soon 36 = .ok (.aload_n 0, 1) := dk_42 (dk_at dksX6_soon_1 12 rfl rfl)
theorem dX6_soon_37 : decode cX6_soon 37 = .ok (.iload 5, 2) := dk_21 5 (dk_at dksX6_soon_1 13 rfl rfl)
theorem dX6_soon_39 : decode cX6_soon 39 = .ok (.iload_n 2, 1) := dk_28 (dk_at dksX6_soon_1 15 rfl rfl)
theorem dX6_soon_40 : decode cX6_soon 40 = .ok (.invokevirtual 288, 3) := dk_182 1 32 (dk_at dksX6_soon_1 16 rfl rfl)
theorem dX6_soon_43 : decode cX6_soon 43 = .ok (.istore 6, 2) := dk_54 6 (dk_at dksX6_soon_1 19 rfl rfl)
theorem dX6_soon_45 : decode cX6_soon 45 = .ok (.iload 6, 2) := dk_21 6 (dk_at dksX6_soon_1 21 rfl rfl)
theorem dX6_soon_47 : decode cX6_soon 47 = .ok (.iconst (-1), 1) := dk_2 (dk_at dksX6_soon_1 23 rfl rfl)
theorem dX6_soon_48 : decode cX6_soon 48 = .ok (.if_icmp .eq 20, 3) := dk_159 0 20 (dk_at dksX6_soon_2 0 rfl rfl)
theorem dX6_soon_51 : decode cX6_soon 51 = .ok (.iload 6, 2) := dk_21 6 (dk_at dksX6_soon_2 3 rfl rfl)
theorem dX6_soon_53 : decode cX6_soon 53 = .ok (.iload 4, 2) := dk_21 4 (dk_at dksX6_soon_2 5 rfl rfl)
theorem dX6_soon_55 : decode cX6_soon 55 = .ok (.if_icmp .le 6, 3) := dk_164 0 6 (dk_at dksX6_soon_2 7 rfl rfl)
theorem dX6_soon_58 : decode cX6_soon 58 = .ok (.goto 10, 3) := dk_167 0 10 (dk_at dksX6_soon_2 10 rfl rfl)
theorem dX6_soon_61 : decode cX6_soon 61 = .ok (.iload 6, 2) := dk_21 6 (dk_at dksX6_soon_2 13 rfl rfl)
theorem dX6_soon_63 : decode cX6_soon 63 = .ok (.istore 4, 2) := dk_54 4 (dk_at dksX6_soon_2 15 rfl rfl)
theorem dX6_soon_65 : decode cX6_soon 65 = .ok (.iload 5, 2) := dk_21 5 (dk_at dksX6_soon_2 17 rfl rfl)
theorem dX6_soon_67 : decode cX6_soon 67 = .ok (.istore_n 3, 1) := dk_62 (dk_at dksX6_soon_2 19 rfl rfl)
theorem dX6_soon_68 : decode cX6_soon 68 = .ok (.iinc 5 1, 3) := dk_132 5 1 (dk_at dksX6_soon_2 20 rfl rfl)
theorem dX6_soon_71 : decode cX6_soon 71 = .ok (.goto (-49), 3) := dk_167 255 207 (dk_at dksX6_soon_3 0 rfl rfl)
theorem dX6_soon_74 : decode cX6_soon 74 = .ok (.iload_n 3, 1) := dk_29 (dk_at dksX6_soon_3 3 rfl rfl)
theorem dX6_soon_75 : decode cX6_soon 75 = .ok (.ireturn, 1) := dk_172 (dk_at dksX6_soon_3 4 rfl rfl)
abbrev cX6_areTwo : ByteArray := prog_14_method_76_code
def yX6_areTwo : MethodName := ⟨RX6, "areTwo", "(II)Z"⟩
def dkwX6_areTwo_0 : List UInt8 := [42, 27, 182, 1, 3, 153, 0, 16, 42, 28, 133, 182, 0, 219, 153, 0, 7, 4, 167, 0, 4, 3, 172]
abbrev dktX6_areTwo_0 : List UInt8 := dkwX6_areTwo_0 ++ []
theorem dksX6_areTwo_0 : cX6_areTwo.data.toList.drop 0 = dktX6_areTwo_0 := by decide +kernel
theorem dX6_areTwo_0 : decode cX6_areTwo 0 = .ok (.aload_n 0, 1) := dk_42 (dk_at dksX6_areTwo_0 0 rfl rfl)
theorem dX6_areTwo_1 : decode cX6_areTwo 1 = .ok (.iload_n 1, 1) := dk_27 (dk_at dksX6_areTwo_0 1 rfl rfl)
theorem dX6_areTwo_2 : decode cX6_areTwo 2 = .ok (.invokevirtual 259, 3) := dk_182 1 3 (dk_at dksX6_areTwo_0 2 rfl rfl)
theorem dX6_areTwo_5 : decode cX6_areTwo 5 = .ok (.ifCond .eq 16, 3) := dk_153 0 16 (dk_at dksX6_areTwo_0 5 rfl rfl)
theorem dX6_areTwo_8 : decode cX6_areTwo 8 = .ok (.aload_n 0, 1) := dk_42 (dk_at dksX6_areTwo_0 8 rfl rfl)
theorem dX6_areTwo_9 : decode cX6_areTwo 9 = .ok (.iload_n 2, 1) := dk_28 (dk_at dksX6_areTwo_0 9 rfl rfl)
theorem dX6_areTwo_10 : decode cX6_areTwo 10 = .ok (.i2l, 1) := dk_133 (dk_at dksX6_areTwo_0 10 rfl rfl)
theorem dX6_areTwo_11 : decode cX6_areTwo 11 = .ok (.invokevirtual 219, 3) := dk_182 0 219 (dk_at dksX6_areTwo_0 11 rfl rfl)
theorem dX6_areTwo_14 : decode cX6_areTwo 14 = .ok (.ifCond .eq 7, 3) := dk_153 0 7 (dk_at dksX6_areTwo_0 14 rfl rfl)
theorem dX6_areTwo_17 : decode cX6_areTwo 17 = .ok (.iconst 1, 1) := dk_4 (dk_at dksX6_areTwo_0 17 rfl rfl)
theorem dX6_areTwo_18 : decode cX6_areTwo 18 = .ok (.goto 4, 3) := dk_167 0 4 (dk_at dksX6_areTwo_0 18 rfl rfl)
theorem dX6_areTwo_21 : decode cX6_areTwo 21 = .ok (.iconst 0, 1) := dk_3 (dk_at dksX6_areTwo_0 21 rfl rfl)
theorem dX6_areTwo_22 : decode cX6_areTwo 22 = .ok (.ireturn, 1) := dk_172 (dk_at dksX6_areTwo_0 22 rfl rfl)
abbrev cX6_quick : ByteArray := prog_14_method_79_code
def yX6_quick : MethodName := ⟨RX6, "quick", "(II)I"⟩
def dkwX6_quick_0 : List UInt8 := [42, 27, 28, 182, 1, 38, 153, 0, 12, 42, 27, 28, 182, 1, 45, 167, 0, 5, 16, 254, 172]
abbrev dktX6_quick_0 : List UInt8 := dkwX6_quick_0 ++ []
theorem dksX6_quick_0 : cX6_quick.data.toList.drop 0 = dktX6_quick_0 := by decide +kernel
theorem dX6_quick_0 : decode cX6_quick 0 = .ok (.aload_n 0, 1) := dk_42 (dk_at dksX6_quick_0 0 rfl rfl)
theorem dX6_quick_1 : decode cX6_quick 1 = .ok (.iload_n 1, 1) := dk_27 (dk_at dksX6_quick_0 1 rfl rfl)
theorem dX6_quick_2 : decode cX6_quick 2 = .ok (.iload_n 2, 1) := dk_28 (dk_at dksX6_quick_0 2 rfl rfl)
theorem dX6_quick_3 : decode cX6_quick 3 = .ok (.invokevirtual 294, 3) := dk_182 1 38 (dk_at dksX6_quick_0 3 rfl rfl)
theorem dX6_quick_6 : decode cX6_quick 6 = .ok (.ifCond .eq 12, 3) := dk_153 0 12 (dk_at dksX6_quick_0 6 rfl rfl)
theorem dX6_quick_9 : decode cX6_quick 9 = .ok (.aload_n 0, 1) := dk_42 (dk_at dksX6_quick_0 9 rfl rfl)
theorem dX6_quick_10 : decode cX6_quick 10 = .ok (.iload_n 1, 1) := dk_27 (dk_at dksX6_quick_0 10 rfl rfl)
theorem dX6_quick_11 : decode cX6_quick 11 = .ok (.iload_n 2, 1) := dk_28 (dk_at dksX6_quick_0 11 rfl rfl)
theorem dX6_quick_12 : decode cX6_quick 12 = .ok (.invokevirtual 301, 3) := dk_182 1 45 (dk_at dksX6_quick_0 12 rfl rfl)
theorem dX6_quick_15 : decode cX6_quick 15 = .ok (.goto 5, 3) := dk_167 0 5 (dk_at dksX6_quick_0 15 rfl rfl)
theorem dX6_quick_18 : decode cX6_quick 18 = .ok (.bipush (-2), 2) := dk_16 254 (dk_at dksX6_quick_0 18 rfl rfl)
theorem dX6_quick_20 : decode cX6_quick 20 = .ok (.ireturn, 1) := dk_172 (dk_at dksX6_quick_0 20 rfl rfl)
abbrev cX6_quickOf : ByteArray := prog_14_method_78_code
def yX6_quickOf : MethodName := ⟨RX6, "quickOf", "(II)I"⟩
def dkwX6_quickOf_3 : List UInt8 := [29, 19, 1, 41, 160, 0, 7, 2, 167, 0, 4, 29, 172]
abbrev dktX6_quickOf_3 : List UInt8 := dkwX6_quickOf_3 ++ []
def dkwX6_quickOf_2 : List UInt8 := [161, 0, 6, 167, 0, 15, 21, 5, 21, 4, 100, 62, 42, 21, 4, 181, 1, 42, 132, 4, 1, 167, 255, 200]
abbrev dktX6_quickOf_2 : List UInt8 := dkwX6_quickOf_2 ++ dktX6_quickOf_3
def dkwX6_quickOf_1 : List UInt8 := [182, 1, 24, 42, 21, 4, 28, 182, 1, 32, 54, 5, 21, 5, 2, 159, 0, 27, 21, 5, 21, 4, 100, 29]
abbrev dktX6_quickOf_1 : List UInt8 := dkwX6_quickOf_1 ++ dktX6_quickOf_2
def dkwX6_quickOf_0 : List UInt8 := [19, 1, 41, 62, 42, 2, 181, 1, 42, 3, 54, 4, 21, 4, 16, 60, 163, 0, 55, 42, 27, 21, 4]
abbrev dktX6_quickOf_0 : List UInt8 := dkwX6_quickOf_0 ++ dktX6_quickOf_1
theorem dksX6_quickOf_0 : cX6_quickOf.data.toList.drop 0 = dktX6_quickOf_0 := by decide +kernel
theorem dksX6_quickOf_1 : cX6_quickOf.data.toList.drop 23 = dktX6_quickOf_1 := dk_seg dksX6_quickOf_0 23 rfl rfl
theorem dksX6_quickOf_2 : cX6_quickOf.data.toList.drop 47 = dktX6_quickOf_2 := dk_seg dksX6_quickOf_1 24 rfl rfl
theorem dksX6_quickOf_3 : cX6_quickOf.data.toList.drop 71 = dktX6_quickOf_3 := dk_seg dksX6_quickOf_2 24 rfl rfl
theorem dX6_quickOf_0 : decode cX6_quickOf 0 = .ok (.ldc_w 297, 3) := dk_19 1 41 (dk_at dksX6_quickOf_0 0 rfl rfl)
theorem dX6_quickOf_3 : decode cX6_quickOf 3 = .ok (.istore_n 3, 1) := dk_62 (dk_at dksX6_quickOf_0 3 rfl rfl)
theorem dX6_quickOf_4 : decode cX6_quickOf 4 = .ok (.aload_n 0, 1) := dk_42 (dk_at dksX6_quickOf_0 4 rfl rfl)
theorem dX6_quickOf_5 : decode cX6_quickOf 5 = .ok (.iconst (-1), 1) := dk_2 (dk_at dksX6_quickOf_0 5 rfl rfl)
theorem dX6_quickOf_6 : decode cX6_quickOf 6 = .ok (.putfield 298, 3) := dk_181 1 42 (dk_at dksX6_quickOf_0 6 rfl rfl)
theorem dX6_quickOf_9 : decode cX6_quickOf 9 = .ok (.iconst 0, 1) := dk_3 (dk_at dksX6_quickOf_0 9 rfl rfl)
theorem dX6_quickOf_10 : decode cX6_quickOf 10 = .ok (.istore 4, 2) := dk_54 4 (dk_at dksX6_quickOf_0 10 rfl rfl)
theorem dX6_quickOf_12 : decode cX6_quickOf 12 = .ok (.iload 4, 2) := dk_21 4 (dk_at dksX6_quickOf_0 12 rfl rfl)
theorem dX6_quickOf_14 : decode cX6_quickOf 14 = .ok (.bipush 60, 2) := dk_16 60 (dk_at dksX6_quickOf_0 14 rfl rfl)
theorem dX6_quickOf_16 : decode cX6_quickOf 16 = .ok (.if_icmp .gt 55, 3) := dk_163 0 55 (dk_at dksX6_quickOf_0 16 rfl rfl)
theorem dX6_quickOf_19 : decode cX6_quickOf 19 = .ok (.aload_n 0, 1) := dk_42 (dk_at dksX6_quickOf_0 19 rfl rfl)
theorem dX6_quickOf_20 : decode cX6_quickOf 20 = .ok (.iload_n 1, 1) := dk_27 (dk_at dksX6_quickOf_0 20 rfl rfl)
theorem dX6_quickOf_21 : decode cX6_quickOf 21 = .ok (.iload 4, 2) := dk_21 4 (dk_at dksX6_quickOf_0 21 rfl rfl)
theorem dX6_quickOf_23 : decode cX6_quickOf 23 = .ok (.invokevirtual 280, 3) := dk_182 1 24 (dk_at dksX6_quickOf_1 0 rfl rfl)
theorem dX6_quickOf_26 : decode cX6_quickOf 26 = .ok (.aload_n 0, 1) := dk_42 (dk_at dksX6_quickOf_1 3 rfl rfl)
theorem dX6_quickOf_27 : decode cX6_quickOf 27 = .ok (.iload 4, 2) := dk_21 4 (dk_at dksX6_quickOf_1 4 rfl rfl)
theorem dX6_quickOf_29 : decode cX6_quickOf 29 = .ok (.iload_n 2, 1) := dk_28 (dk_at dksX6_quickOf_1 6 rfl rfl)
theorem dX6_quickOf_30 : decode cX6_quickOf 30 = .ok (.invokevirtual 288, 3) := dk_182 1 32 (dk_at dksX6_quickOf_1 7 rfl rfl)
theorem dX6_quickOf_33 : decode cX6_quickOf 33 = .ok (.istore 5, 2) := dk_54 5 (dk_at dksX6_quickOf_1 10 rfl rfl)
theorem dX6_quickOf_35 : decode cX6_quickOf 35 = .ok (.iload 5, 2) := dk_21 5 (dk_at dksX6_quickOf_1 12 rfl rfl)
theorem dX6_quickOf_37 : decode cX6_quickOf 37 = .ok (.iconst (-1), 1) := dk_2 (dk_at dksX6_quickOf_1 14 rfl rfl)
theorem dX6_quickOf_38 : decode cX6_quickOf 38 = .ok (.if_icmp .eq 27, 3) := dk_159 0 27 (dk_at dksX6_quickOf_1 15 rfl rfl)
theorem dX6_quickOf_41 : decode cX6_quickOf 41 = .ok (.iload 5, 2) := dk_21 5 (dk_at dksX6_quickOf_1 18 rfl rfl)
theorem dX6_quickOf_43 : decode cX6_quickOf 43 = .ok (.iload 4, 2) := dk_21 4 (dk_at dksX6_quickOf_1 20 rfl rfl)
theorem dX6_quickOf_45 : decode cX6_quickOf 45 = .ok (.isub, 1) := dk_100 (dk_at dksX6_quickOf_1 22 rfl rfl)
theorem dX6_quickOf_46 : decode cX6_quickOf 46 = .ok (.iload_n 3, 1) := dk_29 (dk_at dksX6_quickOf_1 23 rfl rfl)
theorem dX6_quickOf_47 : decode cX6_quickOf 47 = .ok (.if_icmp .lt 6, 3) := dk_161 0 6 (dk_at dksX6_quickOf_2 0 rfl rfl)
theorem dX6_quickOf_50 : decode cX6_quickOf 50 = .ok (.goto 15, 3) := dk_167 0 15 (dk_at dksX6_quickOf_2 3 rfl rfl)
theorem dX6_quickOf_53 : decode cX6_quickOf 53 = .ok (.iload 5, 2) := dk_21 5 (dk_at dksX6_quickOf_2 6 rfl rfl)
theorem dX6_quickOf_55 : decode cX6_quickOf 55 = .ok (.iload 4, 2) := dk_21 4 (dk_at dksX6_quickOf_2 8 rfl rfl)
theorem dX6_quickOf_57 : decode cX6_quickOf 57 = .ok (.isub, 1) := dk_100 (dk_at dksX6_quickOf_2 10 rfl rfl)
theorem dX6_quickOf_58 : decode cX6_quickOf 58 = .ok (.istore_n 3, 1) := dk_62 (dk_at dksX6_quickOf_2 11 rfl rfl)
theorem dX6_quickOf_59 : decode cX6_quickOf 59 = .ok (.aload_n 0, 1) := dk_42 (dk_at dksX6_quickOf_2 12 rfl rfl)
theorem dX6_quickOf_60 : decode cX6_quickOf 60 = .ok (.iload 4, 2) := dk_21 4 (dk_at dksX6_quickOf_2 13 rfl rfl)
theorem dX6_quickOf_62 : decode cX6_quickOf 62 = .ok (.putfield 298, 3) := dk_181 1 42 (dk_at dksX6_quickOf_2 15 rfl rfl)
theorem dX6_quickOf_65 : decode cX6_quickOf 65 = .ok (.iinc 4 1, 3) := dk_132 4 1 (dk_at dksX6_quickOf_2 18 rfl rfl)
theorem dX6_quickOf_68 : decode cX6_quickOf 68 = .ok (.goto (-56), 3) := dk_167 255 200 (dk_at dksX6_quickOf_2 21 rfl rfl)
theorem dX6_quickOf_71 : decode cX6_quickOf 71 = .ok (.iload_n 3, 1) := dk_29 (dk_at dksX6_quickOf_3 0 rfl rfl)
theorem dX6_quickOf_72 : decode cX6_quickOf 72 = .ok (.ldc_w 297, 3) := dk_19 1 41 (dk_at dksX6_quickOf_3 1 rfl rfl)
theorem dX6_quickOf_75 : decode cX6_quickOf 75 = .ok (.if_icmp .ne 7, 3) := dk_160 0 7 (dk_at dksX6_quickOf_3 4 rfl rfl)
theorem dX6_quickOf_78 : decode cX6_quickOf 78 = .ok (.iconst (-1), 1) := dk_2 (dk_at dksX6_quickOf_3 7 rfl rfl)
theorem dX6_quickOf_79 : decode cX6_quickOf 79 = .ok (.goto 4, 3) := dk_167 0 4 (dk_at dksX6_quickOf_3 8 rfl rfl)
theorem dX6_quickOf_82 : decode cX6_quickOf 82 = .ok (.iload_n 3, 1) := dk_29 (dk_at dksX6_quickOf_3 11 rfl rfl)
theorem dX6_quickOf_83 : decode cX6_quickOf 83 = .ok (.ireturn, 1) := dk_172 (dk_at dksX6_quickOf_3 12 rfl rfl)
abbrev cX6_quickly : ByteArray := prog_14_method_80_code
def yX6_quickly : MethodName := ⟨RX6, "quickly", "(II)I"⟩
def dkwX6_quickly_0 : List UInt8 := [42, 27, 28, 182, 1, 38, 154, 0, 6, 16, 254, 172, 42, 27, 28, 182, 1, 45, 87, 42, 180, 1, 42, 172]
abbrev dktX6_quickly_0 : List UInt8 := dkwX6_quickly_0 ++ []
theorem dksX6_quickly_0 : cX6_quickly.data.toList.drop 0 = dktX6_quickly_0 := by decide +kernel
theorem dX6_quickly_0 : decode cX6_quickly 0 = .ok (.aload_n 0, 1) := dk_42 (dk_at dksX6_quickly_0 0 rfl rfl)
theorem dX6_quickly_1 : decode cX6_quickly 1 = .ok (.iload_n 1, 1) := dk_27 (dk_at dksX6_quickly_0 1 rfl rfl)
theorem dX6_quickly_2 : decode cX6_quickly 2 = .ok (.iload_n 2, 1) := dk_28 (dk_at dksX6_quickly_0 2 rfl rfl)
theorem dX6_quickly_3 : decode cX6_quickly 3 = .ok (.invokevirtual 294, 3) := dk_182 1 38 (dk_at dksX6_quickly_0 3 rfl rfl)
theorem dX6_quickly_6 : decode cX6_quickly 6 = .ok (.ifCond .ne 6, 3) := dk_154 0 6 (dk_at dksX6_quickly_0 6 rfl rfl)
theorem dX6_quickly_9 : decode cX6_quickly 9 = .ok (.bipush (-2), 2) := dk_16 254 (dk_at dksX6_quickly_0 9 rfl rfl)
theorem dX6_quickly_11 : decode cX6_quickly 11 = .ok (.ireturn, 1) := dk_172 (dk_at dksX6_quickly_0 11 rfl rfl)
theorem dX6_quickly_12 : decode cX6_quickly 12 = .ok (.aload_n 0, 1) := dk_42 (dk_at dksX6_quickly_0 12 rfl rfl)
theorem dX6_quickly_13 : decode cX6_quickly 13 = .ok (.iload_n 1, 1) := dk_27 (dk_at dksX6_quickly_0 13 rfl rfl)
theorem dX6_quickly_14 : decode cX6_quickly 14 = .ok (.iload_n 2, 1) := dk_28 (dk_at dksX6_quickly_0 14 rfl rfl)
theorem dX6_quickly_15 : decode cX6_quickly 15 = .ok (.invokevirtual 301, 3) := dk_182 1 45 (dk_at dksX6_quickly_0 15 rfl rfl)
theorem dX6_quickly_18 : decode cX6_quickly 18 = .ok (.pop, 1) := dk_87 (dk_at dksX6_quickly_0 18 rfl rfl)
theorem dX6_quickly_19 : decode cX6_quickly 19 = .ok (.aload_n 0, 1) := dk_42 (dk_at dksX6_quickly_0 19 rfl rfl)
theorem dX6_quickly_20 : decode cX6_quickly 20 = .ok (.getfield 298, 3) := dk_180 1 42 (dk_at dksX6_quickly_0 20 rfl rfl)
theorem dX6_quickly_23 : decode cX6_quickly 23 = .ok (.ireturn, 1) := dk_172 (dk_at dksX6_quickly_0 23 rfl rfl)
abbrev cX6_slowly : ByteArray := prog_14_method_81_code
def yX6_slowly : MethodName := ⟨RX6, "slowly", "(II)I"⟩
def dkwX6_slowly_2 : List UInt8 := [167, 0, 12, 29, 21, 5, 21, 4, 100, 184, 0, 235, 62, 132, 4, 1, 167, 255, 210, 29, 172]
abbrev dktX6_slowly_2 : List UInt8 := dkwX6_slowly_2 ++ []
def dkwX6_slowly_1 : List UInt8 := [42, 27, 21, 4, 182, 1, 24, 42, 21, 4, 28, 182, 1, 32, 54, 5, 21, 5, 2, 160, 0, 7, 29]
abbrev dktX6_slowly_1 : List UInt8 := dkwX6_slowly_1 ++ dktX6_slowly_2
def dkwX6_slowly_0 : List UInt8 := [42, 27, 28, 182, 1, 38, 154, 0, 6, 16, 254, 172, 2, 62, 3, 54, 4, 21, 4, 16, 60, 163, 0, 45]
abbrev dktX6_slowly_0 : List UInt8 := dkwX6_slowly_0 ++ dktX6_slowly_1
theorem dksX6_slowly_0 : cX6_slowly.data.toList.drop 0 = dktX6_slowly_0 := by decide +kernel
theorem dksX6_slowly_1 : cX6_slowly.data.toList.drop 24 = dktX6_slowly_1 := dk_seg dksX6_slowly_0 24 rfl rfl
theorem dksX6_slowly_2 : cX6_slowly.data.toList.drop 47 = dktX6_slowly_2 := dk_seg dksX6_slowly_1 23 rfl rfl
theorem dX6_slowly_0 : decode cX6_slowly 0 = .ok (.aload_n 0, 1) := dk_42 (dk_at dksX6_slowly_0 0 rfl rfl)
theorem dX6_slowly_1 : decode cX6_slowly 1 = .ok (.iload_n 1, 1) := dk_27 (dk_at dksX6_slowly_0 1 rfl rfl)
theorem dX6_slowly_2 : decode cX6_slowly 2 = .ok (.iload_n 2, 1) := dk_28 (dk_at dksX6_slowly_0 2 rfl rfl)
theorem dX6_slowly_3 : decode cX6_slowly 3 = .ok (.invokevirtual 294, 3) := dk_182 1 38 (dk_at dksX6_slowly_0 3 rfl rfl)
theorem dX6_slowly_6 : decode cX6_slowly 6 = .ok (.ifCond .ne 6, 3) := dk_154 0 6 (dk_at dksX6_slowly_0 6 rfl rfl)
theorem dX6_slowly_9 : decode cX6_slowly 9 = .ok (.bipush (-2), 2) := dk_16 254 (dk_at dksX6_slowly_0 9 rfl rfl)
theorem dX6_slowly_11 : decode cX6_slowly 11 = .ok (.ireturn, 1) := dk_172 (dk_at dksX6_slowly_0 11 rfl rfl)
theorem dX6_slowly_12 : decode cX6_slowly 12 = .ok (.iconst (-1), 1) := dk_2 (dk_at dksX6_slowly_0 12 rfl rfl)
theorem dX6_slowly_13 : decode cX6_slowly 13 = .ok (.istore_n 3, 1) := dk_62 (dk_at dksX6_slowly_0 13 rfl rfl)
theorem dX6_slowly_14 : decode cX6_slowly 14 = .ok (.iconst 0, 1) := dk_3 (dk_at dksX6_slowly_0 14 rfl rfl)
theorem dX6_slowly_15 : decode cX6_slowly 15 = .ok (.istore 4, 2) := dk_54 4 (dk_at dksX6_slowly_0 15 rfl rfl)
theorem dX6_slowly_17 : decode cX6_slowly 17 = .ok (.iload 4, 2) := dk_21 4 (dk_at dksX6_slowly_0 17 rfl rfl)
theorem dX6_slowly_19 : decode cX6_slowly 19 = .ok (.bipush 60, 2) := dk_16 60 (dk_at dksX6_slowly_0 19 rfl rfl)
theorem dX6_slowly_21 : decode cX6_slowly 21 = .ok (.if_icmp .gt 45, 3) := dk_163 0 45 (dk_at dksX6_slowly_0 21 rfl rfl)
theorem dX6_slowly_24 : decode cX6_slowly 24 = .ok (.aload_n 0, 1) := dk_42 (dk_at dksX6_slowly_1 0 rfl rfl)
theorem dX6_slowly_25 : decode cX6_slowly 25 = .ok (.iload_n 1, 1) := dk_27 (dk_at dksX6_slowly_1 1 rfl rfl)
theorem dX6_slowly_26 : decode cX6_slowly 26 = .ok (.iload 4, 2) := dk_21 4 (dk_at dksX6_slowly_1 2 rfl rfl)
theorem dX6_slowly_28 : decode cX6_slowly 28 = .ok (.invokevirtual 280, 3) := dk_182 1 24 (dk_at dksX6_slowly_1 4 rfl rfl)
theorem dX6_slowly_31 : decode cX6_slowly 31 = .ok (.aload_n 0, 1) := dk_42 (dk_at dksX6_slowly_1 7 rfl rfl)
theorem dX6_slowly_32 : decode cX6_slowly 32 = .ok (.iload 4, 2) := dk_21 4 (dk_at dksX6_slowly_1 8 rfl rfl)
theorem dX6_slowly_34 : decode cX6_slowly 34 = .ok (.iload_n 2, 1) := dk_28 (dk_at dksX6_slowly_1 10 rfl rfl)
theorem dX6_slowly_35 : decode cX6_slowly 35 = .ok (.invokevirtual 288, 3) := dk_182 1 32 (dk_at dksX6_slowly_1 11 rfl rfl)
theorem dX6_slowly_38 : decode cX6_slowly 38 = .ok (.istore 5, 2) := dk_54 5 (dk_at dksX6_slowly_1 14 rfl rfl)
theorem dX6_slowly_40 : decode cX6_slowly 40 = .ok (.iload 5, 2) := dk_21 5 (dk_at dksX6_slowly_1 16 rfl rfl)
theorem dX6_slowly_42 : decode cX6_slowly 42 = .ok (.iconst (-1), 1) := dk_2 (dk_at dksX6_slowly_1 18 rfl rfl)
theorem dX6_slowly_43 : decode cX6_slowly 43 = .ok (.if_icmp .ne 7, 3) := dk_160 0 7 (dk_at dksX6_slowly_1 19 rfl rfl)
theorem dX6_slowly_46 : decode cX6_slowly 46 = .ok (.iload_n 3, 1) := dk_29 (dk_at dksX6_slowly_1 22 rfl rfl)
theorem dX6_slowly_47 : decode cX6_slowly 47 = .ok (.goto 12, 3) := dk_167 0 12 (dk_at dksX6_slowly_2 0 rfl rfl)
theorem dX6_slowly_50 : decode cX6_slowly 50 = .ok (.iload_n 3, 1) := dk_29 (dk_at dksX6_slowly_2 3 rfl rfl)
theorem dX6_slowly_51 : decode cX6_slowly 51 = .ok (.iload 5, 2) := dk_21 5 (dk_at dksX6_slowly_2 4 rfl rfl)
theorem dX6_slowly_53 : decode cX6_slowly 53 = .ok (.iload 4, 2) := dk_21 4 (dk_at dksX6_slowly_2 6 rfl rfl)
theorem dX6_slowly_55 : decode cX6_slowly 55 = .ok (.isub, 1) := dk_100 (dk_at dksX6_slowly_2 8 rfl rfl)
theorem dX6_slowly_56 : decode cX6_slowly 56 = .ok (.invokestatic 235, 3) := dk_184 0 235 (dk_at dksX6_slowly_2 9 rfl rfl)
theorem dX6_slowly_59 : decode cX6_slowly 59 = .ok (.istore_n 3, 1) := dk_62 (dk_at dksX6_slowly_2 12 rfl rfl)
theorem dX6_slowly_60 : decode cX6_slowly 60 = .ok (.iinc 4 1, 3) := dk_132 4 1 (dk_at dksX6_slowly_2 13 rfl rfl)
theorem dX6_slowly_63 : decode cX6_slowly 63 = .ok (.goto (-46), 3) := dk_167 255 210 (dk_at dksX6_slowly_2 16 rfl rfl)
theorem dX6_slowly_66 : decode cX6_slowly 66 = .ok (.iload_n 3, 1) := dk_29 (dk_at dksX6_slowly_2 19 rfl rfl)
theorem dX6_slowly_67 : decode cX6_slowly 67 = .ok (.ireturn, 1) := dk_172 (dk_at dksX6_slowly_2 20 rfl rfl)
abbrev cX6_late : ByteArray := prog_14_method_82_code
def yX6_late : MethodName := ⟨RX6, "late", "(III)I"⟩
def dkwX6_late_2 : List UInt8 := [172, 132, 4, 255, 167, 255, 228, 2, 172]
abbrev dktX6_late_2 : List UInt8 := dkwX6_late_2 ++ []
def dkwX6_late_1 : List UInt8 := [21, 4, 155, 0, 29, 42, 27, 21, 4, 182, 1, 24, 42, 180, 0, 49, 29, 46, 28, 160, 0, 6, 21, 4]
abbrev dktX6_late_1 : List UInt8 := dkwX6_late_1 ++ dktX6_late_2
def dkwX6_late_0 : List UInt8 := [42, 27, 28, 182, 1, 38, 153, 0, 11, 29, 133, 184, 1, 0, 154, 0, 6, 16, 254, 172, 29, 54, 4]
abbrev dktX6_late_0 : List UInt8 := dkwX6_late_0 ++ dktX6_late_1
theorem dksX6_late_0 : cX6_late.data.toList.drop 0 = dktX6_late_0 := by decide +kernel
theorem dksX6_late_1 : cX6_late.data.toList.drop 23 = dktX6_late_1 := dk_seg dksX6_late_0 23 rfl rfl
theorem dksX6_late_2 : cX6_late.data.toList.drop 47 = dktX6_late_2 := dk_seg dksX6_late_1 24 rfl rfl
theorem dX6_late_0 : decode cX6_late 0 = .ok (.aload_n 0, 1) := dk_42 (dk_at dksX6_late_0 0 rfl rfl)
theorem dX6_late_1 : decode cX6_late 1 = .ok (.iload_n 1, 1) := dk_27 (dk_at dksX6_late_0 1 rfl rfl)
theorem dX6_late_2 : decode cX6_late 2 = .ok (.iload_n 2, 1) := dk_28 (dk_at dksX6_late_0 2 rfl rfl)
theorem dX6_late_3 : decode cX6_late 3 = .ok (.invokevirtual 294, 3) := dk_182 1 38 (dk_at dksX6_late_0 3 rfl rfl)
theorem dX6_late_6 : decode cX6_late 6 = .ok (.ifCond .eq 11, 3) := dk_153 0 11 (dk_at dksX6_late_0 6 rfl rfl)
theorem dX6_late_9 : decode cX6_late 9 = .ok (.iload_n 3, 1) := dk_29 (dk_at dksX6_late_0 9 rfl rfl)
theorem dX6_late_10 : decode cX6_late 10 = .ok (.i2l, 1) := dk_133 (dk_at dksX6_late_0 10 rfl rfl)
theorem dX6_late_11 : decode cX6_late 11 = .ok (.invokestatic 256, 3) := dk_184 1 0 (dk_at dksX6_late_0 11 rfl rfl)
theorem dX6_late_14 : decode cX6_late 14 = .ok (.ifCond .ne 6, 3) := dk_154 0 6 (dk_at dksX6_late_0 14 rfl rfl)
theorem dX6_late_17 : decode cX6_late 17 = .ok (.bipush (-2), 2) := dk_16 254 (dk_at dksX6_late_0 17 rfl rfl)
theorem dX6_late_19 : decode cX6_late 19 = .ok (.ireturn, 1) := dk_172 (dk_at dksX6_late_0 19 rfl rfl)
theorem dX6_late_20 : decode cX6_late 20 = .ok (.iload_n 3, 1) := dk_29 (dk_at dksX6_late_0 20 rfl rfl)
theorem dX6_late_21 : decode cX6_late 21 = .ok (.istore 4, 2) := dk_54 4 (dk_at dksX6_late_0 21 rfl rfl)
theorem dX6_late_23 : decode cX6_late 23 = .ok (.iload 4, 2) := dk_21 4 (dk_at dksX6_late_1 0 rfl rfl)
theorem dX6_late_25 : decode cX6_late 25 = .ok (.ifCond .lt 29, 3) := dk_155 0 29 (dk_at dksX6_late_1 2 rfl rfl)
theorem dX6_late_28 : decode cX6_late 28 = .ok (.aload_n 0, 1) := dk_42 (dk_at dksX6_late_1 5 rfl rfl)
theorem dX6_late_29 : decode cX6_late 29 = .ok (.iload_n 1, 1) := dk_27 (dk_at dksX6_late_1 6 rfl rfl)
theorem dX6_late_30 : decode cX6_late 30 = .ok (.iload 4, 2) := dk_21 4 (dk_at dksX6_late_1 7 rfl rfl)
theorem dX6_late_32 : decode cX6_late 32 = .ok (.invokevirtual 280, 3) := dk_182 1 24 (dk_at dksX6_late_1 9 rfl rfl)
theorem dX6_late_35 : decode cX6_late 35 = .ok (.aload_n 0, 1) := dk_42 (dk_at dksX6_late_1 12 rfl rfl)
theorem dX6_late_36 : decode cX6_late 36 = .ok (.getfield 49, 3) := dk_180 0 49 (dk_at dksX6_late_1 13 rfl rfl)
theorem dX6_late_39 : decode cX6_late 39 = .ok (.iload_n 3, 1) := dk_29 (dk_at dksX6_late_1 16 rfl rfl)
theorem dX6_late_40 : decode cX6_late 40 = .ok (.iaload, 1) := dk_46 (dk_at dksX6_late_1 17 rfl rfl)
theorem dX6_late_41 : decode cX6_late 41 = .ok (.iload_n 2, 1) := dk_28 (dk_at dksX6_late_1 18 rfl rfl)
theorem dX6_late_42 : decode cX6_late 42 = .ok (.if_icmp .ne 6, 3) := dk_160 0 6 (dk_at dksX6_late_1 19 rfl rfl)
theorem dX6_late_45 : decode cX6_late 45 = .ok (.iload 4, 2) := dk_21 4 (dk_at dksX6_late_1 22 rfl rfl)
theorem dX6_late_47 : decode cX6_late 47 = .ok (.ireturn, 1) := dk_172 (dk_at dksX6_late_2 0 rfl rfl)
theorem dX6_late_48 : decode cX6_late 48 = .ok (.iinc 4 (-1), 3) := dk_132 4 255 (dk_at dksX6_late_2 1 rfl rfl)
theorem dX6_late_51 : decode cX6_late 51 = .ok (.goto (-28), 3) := dk_167 255 228 (dk_at dksX6_late_2 4 rfl rfl)
theorem dX6_late_54 : decode cX6_late 54 = .ok (.iconst (-1), 1) := dk_2 (dk_at dksX6_late_2 7 rfl rfl)
theorem dX6_late_55 : decode cX6_late 55 = .ok (.ireturn, 1) := dk_172 (dk_at dksX6_late_2 8 rfl rfl)
abbrev cX6_often : ByteArray := prog_14_method_84_code
def yX6_often : MethodName := ⟨RX6, "often", "(II)I"⟩
def dkwX6_often_0 : List UInt8 := [42, 27, 28, 182, 1, 38, 153, 0, 12, 42, 27, 28, 182, 1, 48, 167, 0, 5, 16, 254, 172]
abbrev dktX6_often_0 : List UInt8 := dkwX6_often_0 ++ []
theorem dksX6_often_0 : cX6_often.data.toList.drop 0 = dktX6_often_0 := by decide +kernel
theorem dX6_often_0 : decode cX6_often 0 = .ok (.aload_n 0, 1) := dk_42 (dk_at dksX6_often_0 0 rfl rfl)
theorem dX6_often_1 : decode cX6_often 1 = .ok (.iload_n 1, 1) := dk_27 (dk_at dksX6_often_0 1 rfl rfl)
theorem dX6_often_2 : decode cX6_often 2 = .ok (.iload_n 2, 1) := dk_28 (dk_at dksX6_often_0 2 rfl rfl)
theorem dX6_often_3 : decode cX6_often 3 = .ok (.invokevirtual 294, 3) := dk_182 1 38 (dk_at dksX6_often_0 3 rfl rfl)
theorem dX6_often_6 : decode cX6_often 6 = .ok (.ifCond .eq 12, 3) := dk_153 0 12 (dk_at dksX6_often_0 6 rfl rfl)
theorem dX6_often_9 : decode cX6_often 9 = .ok (.aload_n 0, 1) := dk_42 (dk_at dksX6_often_0 9 rfl rfl)
theorem dX6_often_10 : decode cX6_often 10 = .ok (.iload_n 1, 1) := dk_27 (dk_at dksX6_often_0 10 rfl rfl)
theorem dX6_often_11 : decode cX6_often 11 = .ok (.iload_n 2, 1) := dk_28 (dk_at dksX6_often_0 11 rfl rfl)
theorem dX6_often_12 : decode cX6_often 12 = .ok (.invokevirtual 304, 3) := dk_182 1 48 (dk_at dksX6_often_0 12 rfl rfl)
theorem dX6_often_15 : decode cX6_often 15 = .ok (.goto 5, 3) := dk_167 0 5 (dk_at dksX6_often_0 15 rfl rfl)
theorem dX6_often_18 : decode cX6_often 18 = .ok (.bipush (-2), 2) := dk_16 254 (dk_at dksX6_often_0 18 rfl rfl)
theorem dX6_often_20 : decode cX6_often 20 = .ok (.ireturn, 1) := dk_172 (dk_at dksX6_often_0 20 rfl rfl)
abbrev cX6_oftenOf : ByteArray := prog_14_method_83_code
def yX6_oftenOf : MethodName := ⟨RX6, "oftenOf", "(II)I"⟩
def dkwX6_oftenOf_1 : List UInt8 := [182, 1, 32, 2, 160, 0, 7, 3, 167, 0, 4, 4, 96, 62, 132, 4, 1, 167, 255, 220, 29, 172]
abbrev dktX6_oftenOf_1 : List UInt8 := dkwX6_oftenOf_1 ++ []
def dkwX6_oftenOf_0 : List UInt8 := [3, 62, 3, 54, 4, 21, 4, 16, 60, 163, 0, 35, 42, 27, 21, 4, 182, 1, 24, 29, 42, 21, 4, 28]
abbrev dktX6_oftenOf_0 : List UInt8 := dkwX6_oftenOf_0 ++ dktX6_oftenOf_1
theorem dksX6_oftenOf_0 : cX6_oftenOf.data.toList.drop 0 = dktX6_oftenOf_0 := by decide +kernel
theorem dksX6_oftenOf_1 : cX6_oftenOf.data.toList.drop 24 = dktX6_oftenOf_1 := dk_seg dksX6_oftenOf_0 24 rfl rfl
theorem dX6_oftenOf_0 : decode cX6_oftenOf 0 = .ok (.iconst 0, 1) := dk_3 (dk_at dksX6_oftenOf_0 0 rfl rfl)
theorem dX6_oftenOf_1 : decode cX6_oftenOf 1 = .ok (.istore_n 3, 1) := dk_62 (dk_at dksX6_oftenOf_0 1 rfl rfl)
theorem dX6_oftenOf_2 : decode cX6_oftenOf 2 = .ok (.iconst 0, 1) := dk_3 (dk_at dksX6_oftenOf_0 2 rfl rfl)
theorem dX6_oftenOf_3 : decode cX6_oftenOf 3 = .ok (.istore 4, 2) := dk_54 4 (dk_at dksX6_oftenOf_0 3 rfl rfl)
theorem dX6_oftenOf_5 : decode cX6_oftenOf 5 = .ok (.iload 4, 2) := dk_21 4 (dk_at dksX6_oftenOf_0 5 rfl rfl)
theorem dX6_oftenOf_7 : decode cX6_oftenOf 7 = .ok (.bipush 60, 2) := dk_16 60 (dk_at dksX6_oftenOf_0 7 rfl rfl)
theorem dX6_oftenOf_9 : decode cX6_oftenOf 9 = .ok (.if_icmp .gt 35, 3) := dk_163 0 35 (dk_at dksX6_oftenOf_0 9 rfl rfl)
theorem dX6_oftenOf_12 : decode cX6_oftenOf 12 = .ok (.aload_n 0, 1) := dk_42 (dk_at dksX6_oftenOf_0 12 rfl rfl)
theorem dX6_oftenOf_13 : decode cX6_oftenOf 13 = .ok (.iload_n 1, 1) := dk_27 (dk_at dksX6_oftenOf_0 13 rfl rfl)
theorem dX6_oftenOf_14 : decode cX6_oftenOf 14 = .ok (.iload 4, 2) := dk_21 4 (dk_at dksX6_oftenOf_0 14 rfl rfl)
theorem dX6_oftenOf_16 : decode cX6_oftenOf 16 = .ok (.invokevirtual 280, 3) := dk_182 1 24 (dk_at dksX6_oftenOf_0 16 rfl rfl)
theorem dX6_oftenOf_19 : decode cX6_oftenOf 19 = .ok (.iload_n 3, 1) := dk_29 (dk_at dksX6_oftenOf_0 19 rfl rfl)
theorem dX6_oftenOf_20 : decode cX6_oftenOf 20 = .ok (.aload_n 0, 1) := dk_42 (dk_at dksX6_oftenOf_0 20 rfl rfl)
theorem dX6_oftenOf_21 : decode cX6_oftenOf 21 = .ok (.iload 4, 2) := dk_21 4 (dk_at dksX6_oftenOf_0 21 rfl rfl)
theorem dX6_oftenOf_23 : decode cX6_oftenOf 23 = .ok (.iload_n 2, 1) := dk_28 (dk_at dksX6_oftenOf_0 23 rfl rfl)
theorem dX6_oftenOf_24 : decode cX6_oftenOf 24 = .ok (.invokevirtual 288, 3) := dk_182 1 32 (dk_at dksX6_oftenOf_1 0 rfl rfl)
theorem dX6_oftenOf_27 : decode cX6_oftenOf 27 = .ok (.iconst (-1), 1) := dk_2 (dk_at dksX6_oftenOf_1 3 rfl rfl)
theorem dX6_oftenOf_28 : decode cX6_oftenOf 28 = .ok (.if_icmp .ne 7, 3) := dk_160 0 7 (dk_at dksX6_oftenOf_1 4 rfl rfl)
theorem dX6_oftenOf_31 : decode cX6_oftenOf 31 = .ok (.iconst 0, 1) := dk_3 (dk_at dksX6_oftenOf_1 7 rfl rfl)
theorem dX6_oftenOf_32 : decode cX6_oftenOf 32 = .ok (.goto 4, 3) := dk_167 0 4 (dk_at dksX6_oftenOf_1 8 rfl rfl)
theorem dX6_oftenOf_35 : decode cX6_oftenOf 35 = .ok (.iconst 1, 1) := dk_4 (dk_at dksX6_oftenOf_1 11 rfl rfl)
theorem dX6_oftenOf_36 : decode cX6_oftenOf 36 = .ok (.iadd, 1) := dk_96 (dk_at dksX6_oftenOf_1 12 rfl rfl)
theorem dX6_oftenOf_37 : decode cX6_oftenOf 37 = .ok (.istore_n 3, 1) := dk_62 (dk_at dksX6_oftenOf_1 13 rfl rfl)
theorem dX6_oftenOf_38 : decode cX6_oftenOf 38 = .ok (.iinc 4 1, 3) := dk_132 4 1 (dk_at dksX6_oftenOf_1 14 rfl rfl)
theorem dX6_oftenOf_41 : decode cX6_oftenOf 41 = .ok (.goto (-36), 3) := dk_167 255 220 (dk_at dksX6_oftenOf_1 17 rfl rfl)
theorem dX6_oftenOf_44 : decode cX6_oftenOf 44 = .ok (.iload_n 3, 1) := dk_29 (dk_at dksX6_oftenOf_1 20 rfl rfl)
theorem dX6_oftenOf_45 : decode cX6_oftenOf 45 = .ok (.ireturn, 1) := dk_172 (dk_at dksX6_oftenOf_1 21 rfl rfl)
abbrev cX6_stop : ByteArray := prog_14_method_86_code
def yX6_stop : MethodName := ⟨RX6, "stop", "(II)I"⟩
def dkwX6_stop_1 : List UInt8 := [2, 167, 0, 7, 29, 184, 1, 51, 172]
abbrev dktX6_stop_1 : List UInt8 := dkwX6_stop_1 ++ []
def dkwX6_stop_0 : List UInt8 := [42, 27, 28, 182, 1, 38, 154, 0, 6, 16, 254, 172, 42, 27, 28, 182, 1, 54, 62, 29, 2, 160, 0, 7]
abbrev dktX6_stop_0 : List UInt8 := dkwX6_stop_0 ++ dktX6_stop_1
theorem dksX6_stop_0 : cX6_stop.data.toList.drop 0 = dktX6_stop_0 := by decide +kernel
theorem dksX6_stop_1 : cX6_stop.data.toList.drop 24 = dktX6_stop_1 := dk_seg dksX6_stop_0 24 rfl rfl
theorem dX6_stop_0 : decode cX6_stop 0 = .ok (.aload_n 0, 1) := dk_42 (dk_at dksX6_stop_0 0 rfl rfl)
theorem dX6_stop_1 : decode cX6_stop 1 = .ok (.iload_n 1, 1) := dk_27 (dk_at dksX6_stop_0 1 rfl rfl)
theorem dX6_stop_2 : decode cX6_stop 2 = .ok (.iload_n 2, 1) := dk_28 (dk_at dksX6_stop_0 2 rfl rfl)
theorem dX6_stop_3 : decode cX6_stop 3 = .ok (.invokevirtual 294, 3) := dk_182 1 38 (dk_at dksX6_stop_0 3 rfl rfl)
theorem dX6_stop_6 : decode cX6_stop 6 = .ok (.ifCond .ne 6, 3) := dk_154 0 6 (dk_at dksX6_stop_0 6 rfl rfl)
theorem dX6_stop_9 : decode cX6_stop 9 = .ok (.bipush (-2), 2) := dk_16 254 (dk_at dksX6_stop_0 9 rfl rfl)
theorem dX6_stop_11 : decode cX6_stop 11 = .ok (.ireturn, 1) := dk_172 (dk_at dksX6_stop_0 11 rfl rfl)
theorem dX6_stop_12 : decode cX6_stop 12 = .ok (.aload_n 0, 1) := dk_42 (dk_at dksX6_stop_0 12 rfl rfl)
theorem dX6_stop_13 : decode cX6_stop 13 = .ok (.iload_n 1, 1) := dk_27 (dk_at dksX6_stop_0 13 rfl rfl)
theorem dX6_stop_14 : decode cX6_stop 14 = .ok (.iload_n 2, 1) := dk_28 (dk_at dksX6_stop_0 14 rfl rfl)
theorem dX6_stop_15 : decode cX6_stop 15 = .ok (.invokevirtual 310, 3) := dk_182 1 54 (dk_at dksX6_stop_0 15 rfl rfl)
theorem dX6_stop_18 : decode cX6_stop 18 = .ok (.istore_n 3, 1) := dk_62 (dk_at dksX6_stop_0 18 rfl rfl)
theorem dX6_stop_19 : decode cX6_stop 19 = .ok (.iload_n 3, 1) := dk_29 (dk_at dksX6_stop_0 19 rfl rfl)
theorem dX6_stop_20 : decode cX6_stop 20 = .ok (.iconst (-1), 1) := dk_2 (dk_at dksX6_stop_0 20 rfl rfl)
theorem dX6_stop_21 : decode cX6_stop 21 = .ok (.if_icmp .ne 7, 3) := dk_160 0 7 (dk_at dksX6_stop_0 21 rfl rfl)
theorem dX6_stop_24 : decode cX6_stop 24 = .ok (.iconst (-1), 1) := dk_2 (dk_at dksX6_stop_1 0 rfl rfl)
theorem dX6_stop_25 : decode cX6_stop 25 = .ok (.goto 7, 3) := dk_167 0 7 (dk_at dksX6_stop_1 1 rfl rfl)
theorem dX6_stop_28 : decode cX6_stop 28 = .ok (.iload_n 3, 1) := dk_29 (dk_at dksX6_stop_1 4 rfl rfl)
theorem dX6_stop_29 : decode cX6_stop 29 = .ok (.invokestatic 307, 3) := dk_184 1 51 (dk_at dksX6_stop_1 5 rfl rfl)
theorem dX6_stop_32 : decode cX6_stop 32 = .ok (.ireturn, 1) := dk_172 (dk_at dksX6_stop_1 8 rfl rfl)
abbrev cX6_stopsOf : ByteArray := prog_14_method_85_code
def yX6_stopsOf : MethodName := ⟨RX6, "stopsOf", "(II)I"⟩
def dkwX6_stopsOf_3 : List UInt8 := [154, 0, 6, 21, 4, 62, 132, 4, 1, 167, 255, 182, 42, 3, 181, 0, 241, 29, 172]
abbrev dktX6_stopsOf_3 : List UInt8 := dkwX6_stopsOf_3 ++ []
def dkwX6_stopsOf_2 : List UInt8 := [29, 184, 1, 51, 161, 0, 6, 167, 0, 21, 42, 21, 4, 181, 0, 241, 42, 27, 28, 182, 1, 48]
abbrev dktX6_stopsOf_2 : List UInt8 := dkwX6_stopsOf_2 ++ dktX6_stopsOf_3
def dkwX6_stopsOf_1 : List UInt8 := [4, 159, 0, 51, 21, 4, 28, 184, 1, 6, 4, 159, 0, 41, 29, 2, 159, 0, 18, 21, 4, 184, 1, 51]
abbrev dktX6_stopsOf_1 : List UInt8 := dkwX6_stopsOf_1 ++ dktX6_stopsOf_2
def dkwX6_stopsOf_0 : List UInt8 := [2, 62, 3, 54, 4, 21, 4, 4, 42, 180, 0, 9, 6, 46, 120, 162, 0, 67, 21, 4, 27, 184, 1, 6]
abbrev dktX6_stopsOf_0 : List UInt8 := dkwX6_stopsOf_0 ++ dktX6_stopsOf_1
theorem dksX6_stopsOf_0 : cX6_stopsOf.data.toList.drop 0 = dktX6_stopsOf_0 := by decide +kernel
theorem dksX6_stopsOf_1 : cX6_stopsOf.data.toList.drop 24 = dktX6_stopsOf_1 := dk_seg dksX6_stopsOf_0 24 rfl rfl
theorem dksX6_stopsOf_2 : cX6_stopsOf.data.toList.drop 48 = dktX6_stopsOf_2 := dk_seg dksX6_stopsOf_1 24 rfl rfl
theorem dksX6_stopsOf_3 : cX6_stopsOf.data.toList.drop 70 = dktX6_stopsOf_3 := dk_seg dksX6_stopsOf_2 22 rfl rfl
theorem dX6_stopsOf_0 : decode cX6_stopsOf 0 = .ok (.iconst (-1), 1) := dk_2 (dk_at dksX6_stopsOf_0 0 rfl rfl)
theorem dX6_stopsOf_1 : decode cX6_stopsOf 1 = .ok (.istore_n 3, 1) := dk_62 (dk_at dksX6_stopsOf_0 1 rfl rfl)
theorem dX6_stopsOf_2 : decode cX6_stopsOf 2 = .ok (.iconst 0, 1) := dk_3 (dk_at dksX6_stopsOf_0 2 rfl rfl)
theorem dX6_stopsOf_3 : decode cX6_stopsOf 3 = .ok (.istore 4, 2) := dk_54 4 (dk_at dksX6_stopsOf_0 3 rfl rfl)
theorem dX6_stopsOf_5 : decode cX6_stopsOf 5 = .ok (.iload 4, 2) := dk_21 4 (dk_at dksX6_stopsOf_0 5 rfl rfl)
theorem dX6_stopsOf_7 : decode cX6_stopsOf 7 = .ok (.iconst 1, 1) := dk_4 (dk_at dksX6_stopsOf_0 7 rfl rfl)
theorem dX6_stopsOf_8 : decode cX6_stopsOf 8 = .ok (.aload_n 0, 1) := dk_42 (dk_at dksX6_stopsOf_0 8 rfl rfl)
theorem dX6_stopsOf_9 : decode cX6_stopsOf 9 = .ok (.getfield 9, 3) := dk_180 0 9 (dk_at dksX6_stopsOf_0 9 rfl rfl)
theorem dX6_stopsOf_12 : decode cX6_stopsOf 12 = .ok (.iconst 3, 1) := dk_6 (dk_at dksX6_stopsOf_0 12 rfl rfl)
theorem dX6_stopsOf_13 : decode cX6_stopsOf 13 = .ok (.iaload, 1) := dk_46 (dk_at dksX6_stopsOf_0 13 rfl rfl)
theorem dX6_stopsOf_14 : decode cX6_stopsOf 14 = .ok (.ishl, 1) := dk_120 (dk_at dksX6_stopsOf_0 14 rfl rfl)
theorem dX6_stopsOf_15 : decode cX6_stopsOf 15 = .ok (.if_icmp .ge 67, 3) := dk_162 0 67 (dk_at dksX6_stopsOf_0 15 rfl rfl)
theorem dX6_stopsOf_18 : decode cX6_stopsOf 18 = .ok (.iload 4, 2) := dk_21 4 (dk_at dksX6_stopsOf_0 18 rfl rfl)
theorem dX6_stopsOf_20 : decode cX6_stopsOf 20 = .ok (.iload_n 1, 1) := dk_27 (dk_at dksX6_stopsOf_0 20 rfl rfl)
theorem dX6_stopsOf_21 : decode cX6_stopsOf 21 = .ok (.invokestatic 262, 3) := dk_184 1 6 (dk_at dksX6_stopsOf_0 21 rfl rfl)
theorem dX6_stopsOf_24 : decode cX6_stopsOf 24 = .ok (.iconst 1, 1) := dk_4 (dk_at dksX6_stopsOf_1 0 rfl rfl)
theorem dX6_stopsOf_25 : decode cX6_stopsOf 25 = .ok (.if_icmp .eq 51, 3) := dk_159 0 51 (dk_at dksX6_stopsOf_1 1 rfl rfl)
theorem dX6_stopsOf_28 : decode cX6_stopsOf 28 = .ok (.iload 4, 2) := dk_21 4 (dk_at dksX6_stopsOf_1 4 rfl rfl)
theorem dX6_stopsOf_30 : decode cX6_stopsOf 30 = .ok (.iload_n 2, 1) := dk_28 (dk_at dksX6_stopsOf_1 6 rfl rfl)
theorem dX6_stopsOf_31 : decode cX6_stopsOf 31 = .ok (.invokestatic 262, 3) := dk_184 1 6 (dk_at dksX6_stopsOf_1 7 rfl rfl)
theorem dX6_stopsOf_34 : decode cX6_stopsOf 34 = .ok (.iconst 1, 1) := dk_4 (dk_at dksX6_stopsOf_1 10 rfl rfl)
theorem dX6_stopsOf_35 : decode cX6_stopsOf 35 = .ok (.if_icmp .eq 41, 3) := dk_159 0 41 (dk_at dksX6_stopsOf_1 11 rfl rfl)
theorem dX6_stopsOf_38 : decode cX6_stopsOf 38 = .ok (.iload_n 3, 1) := dk_29 (dk_at dksX6_stopsOf_1 14 rfl rfl)
theorem dX6_stopsOf_39 : decode cX6_stopsOf 39 = .ok (.iconst (-1), 1) := dk_2 (dk_at dksX6_stopsOf_1 15 rfl rfl)
theorem dX6_stopsOf_40 : decode cX6_stopsOf 40 = .ok (.if_icmp .eq 18, 3) := dk_159 0 18 (dk_at dksX6_stopsOf_1 16 rfl rfl)
theorem dX6_stopsOf_43 : decode cX6_stopsOf 43 = .ok (.iload 4, 2) := dk_21 4 (dk_at dksX6_stopsOf_1 19 rfl rfl)
theorem dX6_stopsOf_45 : decode cX6_stopsOf 45 = .ok (.invokestatic 307, 3) := dk_184 1 51 (dk_at dksX6_stopsOf_1 21 rfl rfl)
theorem dX6_stopsOf_48 : decode cX6_stopsOf 48 = .ok (.iload_n 3, 1) := dk_29 (dk_at dksX6_stopsOf_2 0 rfl rfl)
theorem dX6_stopsOf_49 : decode cX6_stopsOf 49 = .ok (.invokestatic 307, 3) := dk_184 1 51 (dk_at dksX6_stopsOf_2 1 rfl rfl)
theorem dX6_stopsOf_52 : decode cX6_stopsOf 52 = .ok (.if_icmp .lt 6, 3) := dk_161 0 6 (dk_at dksX6_stopsOf_2 4 rfl rfl)
theorem dX6_stopsOf_55 : decode cX6_stopsOf 55 = .ok (.goto 21, 3) := dk_167 0 21 (dk_at dksX6_stopsOf_2 7 rfl rfl)
theorem dX6_stopsOf_58 : decode cX6_stopsOf 58 = .ok (.aload_n 0, 1) := dk_42 (dk_at dksX6_stopsOf_2 10 rfl rfl)
theorem dX6_stopsOf_59 : decode cX6_stopsOf 59 = .ok (.iload 4, 2) := dk_21 4 (dk_at dksX6_stopsOf_2 11 rfl rfl)
theorem dX6_stopsOf_61 : decode cX6_stopsOf 61 = .ok (.putfield 241, 3) := dk_181 0 241 (dk_at dksX6_stopsOf_2 13 rfl rfl)
theorem dX6_stopsOf_64 : decode cX6_stopsOf 64 = .ok (.aload_n 0, 1) := dk_42 (dk_at dksX6_stopsOf_2 16 rfl rfl)
theorem dX6_stopsOf_65 : decode cX6_stopsOf 65 = .ok (.iload_n 1, 1) := dk_27 (dk_at dksX6_stopsOf_2 17 rfl rfl)
theorem dX6_stopsOf_66 : decode cX6_stopsOf 66 = .ok (.iload_n 2, 1) := dk_28 (dk_at dksX6_stopsOf_2 18 rfl rfl)
theorem dX6_stopsOf_67 : decode cX6_stopsOf 67 = .ok (.invokevirtual 304, 3) := dk_182 1 48 (dk_at dksX6_stopsOf_2 19 rfl rfl)
theorem dX6_stopsOf_70 : decode cX6_stopsOf 70 = .ok (.ifCond .ne 6, 3) := dk_154 0 6 (dk_at dksX6_stopsOf_3 0 rfl rfl)
theorem dX6_stopsOf_73 : decode cX6_stopsOf 73 = .ok (.iload 4, 2) := dk_21 4 (dk_at dksX6_stopsOf_3 3 rfl rfl)
theorem dX6_stopsOf_75 : decode cX6_stopsOf 75 = .ok (.istore_n 3, 1) := dk_62 (dk_at dksX6_stopsOf_3 5 rfl rfl)
theorem dX6_stopsOf_76 : decode cX6_stopsOf 76 = .ok (.iinc 4 1, 3) := dk_132 4 1 (dk_at dksX6_stopsOf_3 6 rfl rfl)
theorem dX6_stopsOf_79 : decode cX6_stopsOf 79 = .ok (.goto (-74), 3) := dk_167 255 182 (dk_at dksX6_stopsOf_3 9 rfl rfl)
theorem dX6_stopsOf_82 : decode cX6_stopsOf 82 = .ok (.aload_n 0, 1) := dk_42 (dk_at dksX6_stopsOf_3 12 rfl rfl)
theorem dX6_stopsOf_83 : decode cX6_stopsOf 83 = .ok (.iconst 0, 1) := dk_3 (dk_at dksX6_stopsOf_3 13 rfl rfl)
theorem dX6_stopsOf_84 : decode cX6_stopsOf 84 = .ok (.putfield 241, 3) := dk_181 0 241 (dk_at dksX6_stopsOf_3 14 rfl rfl)
theorem dX6_stopsOf_87 : decode cX6_stopsOf 87 = .ok (.iload_n 3, 1) := dk_29 (dk_at dksX6_stopsOf_3 17 rfl rfl)
theorem dX6_stopsOf_88 : decode cX6_stopsOf 88 = .ok (.ireturn, 1) := dk_172 (dk_at dksX6_stopsOf_3 18 rfl rfl)
abbrev cX6_bits : ByteArray := prog_14_method_4_code
def yX6_bits : MethodName := ⟨RX6, "bits", "(I)I"⟩
def dkwX6_bits_1 : List UInt8 := [27, 172]
abbrev dktX6_bits_1 : List UInt8 := dkwX6_bits_1 ++ []
def dkwX6_bits_0 : List UInt8 := [3, 60, 3, 61, 28, 16, 10, 162, 0, 17, 27, 26, 28, 122, 4, 126, 96, 60, 132, 2, 1, 167, 255, 239]
abbrev dktX6_bits_0 : List UInt8 := dkwX6_bits_0 ++ dktX6_bits_1
theorem dksX6_bits_0 : cX6_bits.data.toList.drop 0 = dktX6_bits_0 := by decide +kernel
theorem dksX6_bits_1 : cX6_bits.data.toList.drop 24 = dktX6_bits_1 := dk_seg dksX6_bits_0 24 rfl rfl
theorem dX6_bits_0 : decode cX6_bits 0 = .ok (.iconst 0, 1) := dk_3 (dk_at dksX6_bits_0 0 rfl rfl)
theorem dX6_bits_1 : decode cX6_bits 1 = .ok (.istore_n 1, 1) := dk_60 (dk_at dksX6_bits_0 1 rfl rfl)
theorem dX6_bits_2 : decode cX6_bits 2 = .ok (.iconst 0, 1) := dk_3 (dk_at dksX6_bits_0 2 rfl rfl)
theorem dX6_bits_3 : decode cX6_bits 3 = .ok (.istore_n 2, 1) := dk_61 (dk_at dksX6_bits_0 3 rfl rfl)
theorem dX6_bits_4 : decode cX6_bits 4 = .ok (.iload_n 2, 1) := dk_28 (dk_at dksX6_bits_0 4 rfl rfl)
theorem dX6_bits_5 : decode cX6_bits 5 = .ok (.bipush 10, 2) := dk_16 10 (dk_at dksX6_bits_0 5 rfl rfl)
theorem dX6_bits_7 : decode cX6_bits 7 = .ok (.if_icmp .ge 17, 3) := dk_162 0 17 (dk_at dksX6_bits_0 7 rfl rfl)
theorem dX6_bits_10 : decode cX6_bits 10 = .ok (.iload_n 1, 1) := dk_27 (dk_at dksX6_bits_0 10 rfl rfl)
theorem dX6_bits_11 : decode cX6_bits 11 = .ok (.iload_n 0, 1) := dk_26 (dk_at dksX6_bits_0 11 rfl rfl)
theorem dX6_bits_12 : decode cX6_bits 12 = .ok (.iload_n 2, 1) := dk_28 (dk_at dksX6_bits_0 12 rfl rfl)
theorem dX6_bits_13 : decode cX6_bits 13 = .ok (.ishr, 1) := dk_122 (dk_at dksX6_bits_0 13 rfl rfl)
theorem dX6_bits_14 : decode cX6_bits 14 = .ok (.iconst 1, 1) := dk_4 (dk_at dksX6_bits_0 14 rfl rfl)
theorem dX6_bits_15 : decode cX6_bits 15 = .ok (.iand, 1) := dk_126 (dk_at dksX6_bits_0 15 rfl rfl)
theorem dX6_bits_16 : decode cX6_bits 16 = .ok (.iadd, 1) := dk_96 (dk_at dksX6_bits_0 16 rfl rfl)
theorem dX6_bits_17 : decode cX6_bits 17 = .ok (.istore_n 1, 1) := dk_60 (dk_at dksX6_bits_0 17 rfl rfl)
theorem dX6_bits_18 : decode cX6_bits 18 = .ok (.iinc 2 1, 3) := dk_132 2 1 (dk_at dksX6_bits_0 18 rfl rfl)
theorem dX6_bits_21 : decode cX6_bits 21 = .ok (.goto (-17), 3) := dk_167 255 239 (dk_at dksX6_bits_0 21 rfl rfl)
theorem dX6_bits_24 : decode cX6_bits 24 = .ok (.iload_n 1, 1) := dk_27 (dk_at dksX6_bits_1 0 rfl rfl)
theorem dX6_bits_25 : decode cX6_bits 25 = .ok (.ireturn, 1) := dk_172 (dk_at dksX6_bits_1 1 rfl rfl)
abbrev cX6_stops : ByteArray := prog_14_method_87_code
def yX6_stops : MethodName := ⟨RX6, "stops", "(II)I"⟩
def dkwX6_stops_0 : List UInt8 := [42, 27, 28, 182, 1, 38, 153, 0, 12, 42, 27, 28, 182, 1, 54, 167, 0, 5, 16, 254, 172]
abbrev dktX6_stops_0 : List UInt8 := dkwX6_stops_0 ++ []
theorem dksX6_stops_0 : cX6_stops.data.toList.drop 0 = dktX6_stops_0 := by decide +kernel
theorem dX6_stops_0 : decode cX6_stops 0 = .ok (.aload_n 0, 1) := dk_42 (dk_at dksX6_stops_0 0 rfl rfl)
theorem dX6_stops_1 : decode cX6_stops 1 = .ok (.iload_n 1, 1) := dk_27 (dk_at dksX6_stops_0 1 rfl rfl)
theorem dX6_stops_2 : decode cX6_stops 2 = .ok (.iload_n 2, 1) := dk_28 (dk_at dksX6_stops_0 2 rfl rfl)
theorem dX6_stops_3 : decode cX6_stops 3 = .ok (.invokevirtual 294, 3) := dk_182 1 38 (dk_at dksX6_stops_0 3 rfl rfl)
theorem dX6_stops_6 : decode cX6_stops 6 = .ok (.ifCond .eq 12, 3) := dk_153 0 12 (dk_at dksX6_stops_0 6 rfl rfl)
theorem dX6_stops_9 : decode cX6_stops 9 = .ok (.aload_n 0, 1) := dk_42 (dk_at dksX6_stops_0 9 rfl rfl)
theorem dX6_stops_10 : decode cX6_stops 10 = .ok (.iload_n 1, 1) := dk_27 (dk_at dksX6_stops_0 10 rfl rfl)
theorem dX6_stops_11 : decode cX6_stops 11 = .ok (.iload_n 2, 1) := dk_28 (dk_at dksX6_stops_0 11 rfl rfl)
theorem dX6_stops_12 : decode cX6_stops 12 = .ok (.invokevirtual 310, 3) := dk_182 1 54 (dk_at dksX6_stops_0 12 rfl rfl)
theorem dX6_stops_15 : decode cX6_stops 15 = .ok (.goto 5, 3) := dk_167 0 5 (dk_at dksX6_stops_0 15 rfl rfl)
theorem dX6_stops_18 : decode cX6_stops 18 = .ok (.bipush (-2), 2) := dk_16 254 (dk_at dksX6_stops_0 18 rfl rfl)
theorem dX6_stops_20 : decode cX6_stops 20 = .ok (.ireturn, 1) := dk_172 (dk_at dksX6_stops_0 20 rfl rfl)
abbrev cX6_shut : ByteArray := prog_14_method_89_code
def yX6_shut : MethodName := ⟨RX6, "shut", "(II)I"⟩
def dkwX6_shut_3 : List UInt8 := [21, 4, 161, 0, 6, 167, 0, 10, 21, 7, 54, 4, 21, 6, 62, 132, 6, 1, 167, 255, 206, 29, 172]
abbrev dktX6_shut_3 : List UInt8 := dkwX6_shut_3 ++ []
def dkwX6_shut_2 : List UInt8 := [162, 0, 45, 42, 21, 5, 4, 21, 6, 120, 128, 181, 0, 238, 42, 27, 28, 182, 1, 57, 54, 7, 21, 7]
abbrev dktX6_shut_2 : List UInt8 := dkwX6_shut_2 ++ dktX6_shut_3
def dkwX6_shut_1 : List UInt8 := [182, 1, 57, 54, 4, 42, 180, 0, 238, 54, 5, 3, 54, 6, 21, 6, 42, 180, 0, 9, 7, 46]
abbrev dktX6_shut_1 : List UInt8 := dkwX6_shut_1 ++ dktX6_shut_2
def dkwX6_shut_0 : List UInt8 := [42, 27, 182, 1, 3, 153, 0, 11, 28, 133, 184, 1, 0, 154, 0, 6, 16, 254, 172, 2, 62, 42, 27, 28]
abbrev dktX6_shut_0 : List UInt8 := dkwX6_shut_0 ++ dktX6_shut_1
theorem dksX6_shut_0 : cX6_shut.data.toList.drop 0 = dktX6_shut_0 := by decide +kernel
theorem dksX6_shut_1 : cX6_shut.data.toList.drop 24 = dktX6_shut_1 := dk_seg dksX6_shut_0 24 rfl rfl
theorem dksX6_shut_2 : cX6_shut.data.toList.drop 46 = dktX6_shut_2 := dk_seg dksX6_shut_1 22 rfl rfl
theorem dksX6_shut_3 : cX6_shut.data.toList.drop 70 = dktX6_shut_3 := dk_seg dksX6_shut_2 24 rfl rfl
theorem dX6_shut_0 : decode cX6_shut 0 = .ok (.aload_n 0, 1) := dk_42 (dk_at dksX6_shut_0 0 rfl rfl)
theorem dX6_shut_1 : decode cX6_shut 1 = .ok (.iload_n 1, 1) := dk_27 (dk_at dksX6_shut_0 1 rfl rfl)
theorem dX6_shut_2 : decode cX6_shut 2 = .ok (.invokevirtual 259, 3) := dk_182 1 3 (dk_at dksX6_shut_0 2 rfl rfl)
theorem dX6_shut_5 : decode cX6_shut 5 = .ok (.ifCond .eq 11, 3) := dk_153 0 11 (dk_at dksX6_shut_0 5 rfl rfl)
theorem dX6_shut_8 : decode cX6_shut 8 = .ok (.iload_n 2, 1) := dk_28 (dk_at dksX6_shut_0 8 rfl rfl)
theorem dX6_shut_9 : decode cX6_shut 9 = .ok (.i2l, 1) := dk_133 (dk_at dksX6_shut_0 9 rfl rfl)
theorem dX6_shut_10 : decode cX6_shut 10 = .ok (.invokestatic 256, 3) := dk_184 1 0 (dk_at dksX6_shut_0 10 rfl rfl)
theorem dX6_shut_13 : decode cX6_shut 13 = .ok (.ifCond .ne 6, 3) := dk_154 0 6 (dk_at dksX6_shut_0 13 rfl rfl)
theorem dX6_shut_16 : decode cX6_shut 16 = .ok (.bipush (-2), 2) := dk_16 254 (dk_at dksX6_shut_0 16 rfl rfl)
theorem dX6_shut_18 : decode cX6_shut 18 = .ok (.ireturn, 1) := dk_172 (dk_at dksX6_shut_0 18 rfl rfl)
theorem dX6_shut_19 : decode cX6_shut 19 = .ok (.iconst (-1), 1) := dk_2 (dk_at dksX6_shut_0 19 rfl rfl)
theorem dX6_shut_20 : decode cX6_shut 20 = .ok (.istore_n 3, 1) := dk_62 (dk_at dksX6_shut_0 20 rfl rfl)
theorem dX6_shut_21 : decode cX6_shut 21 = .ok (.aload_n 0, 1) := dk_42 (dk_at dksX6_shut_0 21 rfl rfl)
theorem dX6_shut_22 : decode cX6_shut 22 = .ok (.iload_n 1, 1) := dk_27 (dk_at dksX6_shut_0 22 rfl rfl)
theorem dX6_shut_23 : decode cX6_shut 23 = .ok (.iload_n 2, 1) := dk_28 (dk_at dksX6_shut_0 23 rfl rfl)
theorem dX6_shut_24 : decode cX6_shut 24 = .ok (.invokevirtual 313, 3) := dk_182 1 57 (dk_at dksX6_shut_1 0 rfl rfl)
theorem dX6_shut_27 : decode cX6_shut 27 = .ok (.istore 4, 2) := dk_54 4 (dk_at dksX6_shut_1 3 rfl rfl)
theorem dX6_shut_29 : decode cX6_shut 29 = .ok (.aload_n 0, 1) := dk_42 (dk_at dksX6_shut_1 5 rfl rfl)
theorem dX6_shut_30 : decode cX6_shut 30 = .ok (.getfield 238, 3) := dk_180 0 238 (dk_at dksX6_shut_1 6 rfl rfl)
theorem dX6_shut_33 : decode cX6_shut 33 = .ok (.istore 5, 2) := dk_54 5 (dk_at dksX6_shut_1 9 rfl rfl)
theorem dX6_shut_35 : decode cX6_shut 35 = .ok (.iconst 0, 1) := dk_3 (dk_at dksX6_shut_1 11 rfl rfl)
theorem dX6_shut_36 : decode cX6_shut 36 = .ok (.istore 6, 2) := dk_54 6 (dk_at dksX6_shut_1 12 rfl rfl)
theorem dX6_shut_38 : decode cX6_shut 38 = .ok (.iload 6, 2) := dk_21 6 (dk_at dksX6_shut_1 14 rfl rfl)
theorem dX6_shut_40 : decode cX6_shut 40 = .ok (.aload_n 0, 1) := dk_42 (dk_at dksX6_shut_1 16 rfl rfl)
theorem dX6_shut_41 : decode cX6_shut 41 = .ok (.getfield 9, 3) := dk_180 0 9 (dk_at dksX6_shut_1 17 rfl rfl)
theorem dX6_shut_44 : decode cX6_shut 44 = .ok (.iconst 4, 1) := dk_7 (dk_at dksX6_shut_1 20 rfl rfl)
theorem dX6_shut_45 : decode cX6_shut 45 = .ok (.iaload, 1) := dk_46 (dk_at dksX6_shut_1 21 rfl rfl)
theorem dX6_shut_46 : decode cX6_shut 46 = .ok (.if_icmp .ge 45, 3) := dk_162 0 45 (dk_at dksX6_shut_2 0 rfl rfl)
theorem dX6_shut_49 : decode cX6_shut 49 = .ok (.aload_n 0, 1) := dk_42 (dk_at dksX6_shut_2 3 rfl rfl)
theorem dX6_shut_50 : decode cX6_shut 50 = .ok (.iload 5, 2) := dk_21 5 (dk_at dksX6_shut_2 4 rfl rfl)
theorem dX6_shut_52 : decode cX6_shut 52 = .ok (.iconst 1, 1) := dk_4 (dk_at dksX6_shut_2 6 rfl rfl)
theorem dX6_shut_53 : decode cX6_shut 53 = .ok (.iload 6, 2) := dk_21 6 (dk_at dksX6_shut_2 7 rfl rfl)
theorem dX6_shut_55 : decode cX6_shut 55 = .ok (.ishl, 1) := dk_120 (dk_at dksX6_shut_2 9 rfl rfl)
theorem dX6_shut_56 : decode cX6_shut 56 = .ok (.ior, 1) := dk_128 (dk_at dksX6_shut_2 10 rfl rfl)
theorem dX6_shut_57 : decode cX6_shut 57 = .ok (.putfield 238, 3) := dk_181 0 238 (dk_at dksX6_shut_2 11 rfl rfl)
theorem dX6_shut_60 : decode cX6_shut 60 = .ok (.aload_n 0, 1) := dk_42 (dk_at dksX6_shut_2 14 rfl rfl)
theorem dX6_shut_61 : decode cX6_shut 61 = .ok (.iload_n 1, 1) := dk_27 (dk_at dksX6_shut_2 15 rfl rfl)
theorem dX6_shut_62 : decode cX6_shut 62 = .ok (.iload_n 2, 1) := dk_28 (dk_at dksX6_shut_2 16 rfl rfl)
theorem dX6_shut_63 : decode cX6_shut 63 = .ok (.invokevirtual 313, 3) := dk_182 1 57 (dk_at dksX6_shut_2 17 rfl rfl)
theorem dX6_shut_66 : decode cX6_shut 66 = .ok (.istore 7, 2) := dk_54 7 (dk_at dksX6_shut_2 20 rfl rfl)
theorem dX6_shut_68 : decode cX6_shut 68 = .ok (.iload 7, 2) := dk_21 7 (dk_at dksX6_shut_2 22 rfl rfl)
theorem dX6_shut_70 : decode cX6_shut 70 = .ok (.iload 4, 2) := dk_21 4 (dk_at dksX6_shut_3 0 rfl rfl)
theorem dX6_shut_72 : decode cX6_shut 72 = .ok (.if_icmp .lt 6, 3) := dk_161 0 6 (dk_at dksX6_shut_3 2 rfl rfl)
theorem dX6_shut_75 : decode cX6_shut 75 = .ok (.goto 10, 3) := dk_167 0 10 (dk_at dksX6_shut_3 5 rfl rfl)
theorem dX6_shut_78 : decode cX6_shut 78 = .ok (.iload 7, 2) := dk_21 7 (dk_at dksX6_shut_3 8 rfl rfl)
theorem dX6_shut_80 : decode cX6_shut 80 = .ok (.istore 4, 2) := dk_54 4 (dk_at dksX6_shut_3 10 rfl rfl)
theorem dX6_shut_82 : decode cX6_shut 82 = .ok (.iload 6, 2) := dk_21 6 (dk_at dksX6_shut_3 12 rfl rfl)
theorem dX6_shut_84 : decode cX6_shut 84 = .ok (.istore_n 3, 1) := dk_62 (dk_at dksX6_shut_3 14 rfl rfl)
theorem dX6_shut_85 : decode cX6_shut 85 = .ok (.iinc 6 1, 3) := dk_132 6 1 (dk_at dksX6_shut_3 15 rfl rfl)
theorem dX6_shut_88 : decode cX6_shut 88 = .ok (.goto (-50), 3) := dk_167 255 206 (dk_at dksX6_shut_3 18 rfl rfl)
theorem dX6_shut_91 : decode cX6_shut 91 = .ok (.iload_n 3, 1) := dk_29 (dk_at dksX6_shut_3 21 rfl rfl)
theorem dX6_shut_92 : decode cX6_shut 92 = .ok (.ireturn, 1) := dk_172 (dk_at dksX6_shut_3 22 rfl rfl)
abbrev cX6_seaOf : ByteArray := prog_14_method_88_code
def yX6_seaOf : MethodName := ⟨RX6, "seaOf", "(II)I"⟩
def dkwX6_seaOf_1 : List UInt8 := [29, 172]
abbrev dktX6_seaOf_1 : List UInt8 := dkwX6_seaOf_1 ++ []
def dkwX6_seaOf_0 : List UInt8 := [42, 27, 28, 182, 1, 24, 42, 28, 2, 182, 1, 32, 62, 29, 2, 160, 0, 9, 19, 1, 41, 167, 0, 4]
abbrev dktX6_seaOf_0 : List UInt8 := dkwX6_seaOf_0 ++ dktX6_seaOf_1
theorem dksX6_seaOf_0 : cX6_seaOf.data.toList.drop 0 = dktX6_seaOf_0 := by decide +kernel
theorem dksX6_seaOf_1 : cX6_seaOf.data.toList.drop 24 = dktX6_seaOf_1 := dk_seg dksX6_seaOf_0 24 rfl rfl
theorem dX6_seaOf_0 : decode cX6_seaOf 0 = .ok (.aload_n 0, 1) := dk_42 (dk_at dksX6_seaOf_0 0 rfl rfl)
theorem dX6_seaOf_1 : decode cX6_seaOf 1 = .ok (.iload_n 1, 1) := dk_27 (dk_at dksX6_seaOf_0 1 rfl rfl)
theorem dX6_seaOf_2 : decode cX6_seaOf 2 = .ok (.iload_n 2, 1) := dk_28 (dk_at dksX6_seaOf_0 2 rfl rfl)
theorem dX6_seaOf_3 : decode cX6_seaOf 3 = .ok (.invokevirtual 280, 3) := dk_182 1 24 (dk_at dksX6_seaOf_0 3 rfl rfl)
theorem dX6_seaOf_6 : decode cX6_seaOf 6 = .ok (.aload_n 0, 1) := dk_42 (dk_at dksX6_seaOf_0 6 rfl rfl)
theorem dX6_seaOf_7 : decode cX6_seaOf 7 = .ok (.iload_n 2, 1) := dk_28 (dk_at dksX6_seaOf_0 7 rfl rfl)
theorem dX6_seaOf_8 : decode cX6_seaOf 8 = .ok (.iconst (-1), 1) := dk_2 (dk_at dksX6_seaOf_0 8 rfl rfl)
theorem dX6_seaOf_9 : decode cX6_seaOf 9 = .ok (.invokevirtual 288, 3) := dk_182 1 32 (dk_at dksX6_seaOf_0 9 rfl rfl)
theorem dX6_seaOf_12 : decode cX6_seaOf 12 = .ok (.istore_n 3, 1) := dk_62 (dk_at dksX6_seaOf_0 12 rfl rfl)
theorem dX6_seaOf_13 : decode cX6_seaOf 13 = .ok (.iload_n 3, 1) := dk_29 (dk_at dksX6_seaOf_0 13 rfl rfl)
theorem dX6_seaOf_14 : decode cX6_seaOf 14 = .ok (.iconst (-1), 1) := dk_2 (dk_at dksX6_seaOf_0 14 rfl rfl)
theorem dX6_seaOf_15 : decode cX6_seaOf 15 = .ok (.if_icmp .ne 9, 3) := dk_160 0 9 (dk_at dksX6_seaOf_0 15 rfl rfl)
theorem dX6_seaOf_18 : decode cX6_seaOf 18 = .ok (.ldc_w 297, 3) := dk_19 1 41 (dk_at dksX6_seaOf_0 18 rfl rfl)
theorem dX6_seaOf_21 : decode cX6_seaOf 21 = .ok (.goto 4, 3) := dk_167 0 4 (dk_at dksX6_seaOf_0 21 rfl rfl)
theorem dX6_seaOf_24 : decode cX6_seaOf 24 = .ok (.iload_n 3, 1) := dk_29 (dk_at dksX6_seaOf_1 0 rfl rfl)
theorem dX6_seaOf_25 : decode cX6_seaOf 25 = .ok (.ireturn, 1) := dk_172 (dk_at dksX6_seaOf_1 1 rfl rfl)
abbrev cX6_pour : ByteArray := prog_14_method_90_code
def yX6_pour : MethodName := ⟨RX6, "pour", "(III)I"⟩
def dkwX6_pour_3 : List UInt8 := [162, 0, 6, 21, 5, 172, 132, 5, 1, 167, 255, 216, 2, 172]
abbrev dktX6_pour_3 : List UInt8 := dkwX6_pour_3 ++ []
def dkwX6_pour_2 : List UInt8 := [180, 0, 34, 29, 21, 4, 21, 5, 96, 79, 42, 182, 0, 244, 42, 27, 28, 182, 1, 57, 19, 1, 41]
abbrev dktX6_pour_2 : List UInt8 := dkwX6_pour_2 ++ dktX6_pour_3
def dkwX6_pour_1 : List UInt8 := [16, 254, 172, 42, 180, 0, 34, 29, 46, 54, 4, 3, 54, 5, 21, 5, 16, 60, 163, 0, 39, 42]
abbrev dktX6_pour_1 : List UInt8 := dkwX6_pour_1 ++ dktX6_pour_2
def dkwX6_pour_0 : List UInt8 := [42, 27, 182, 1, 3, 153, 0, 19, 28, 133, 184, 1, 0, 153, 0, 11, 29, 133, 184, 1, 0, 154, 0, 6]
abbrev dktX6_pour_0 : List UInt8 := dkwX6_pour_0 ++ dktX6_pour_1
theorem dksX6_pour_0 : cX6_pour.data.toList.drop 0 = dktX6_pour_0 := by decide +kernel
theorem dksX6_pour_1 : cX6_pour.data.toList.drop 24 = dktX6_pour_1 := dk_seg dksX6_pour_0 24 rfl rfl
theorem dksX6_pour_2 : cX6_pour.data.toList.drop 46 = dktX6_pour_2 := dk_seg dksX6_pour_1 22 rfl rfl
theorem dksX6_pour_3 : cX6_pour.data.toList.drop 69 = dktX6_pour_3 := dk_seg dksX6_pour_2 23 rfl rfl
theorem dX6_pour_0 : decode cX6_pour 0 = .ok (.aload_n 0, 1) := dk_42 (dk_at dksX6_pour_0 0 rfl rfl)
theorem dX6_pour_1 : decode cX6_pour 1 = .ok (.iload_n 1, 1) := dk_27 (dk_at dksX6_pour_0 1 rfl rfl)
theorem dX6_pour_2 : decode cX6_pour 2 = .ok (.invokevirtual 259, 3) := dk_182 1 3 (dk_at dksX6_pour_0 2 rfl rfl)
theorem dX6_pour_5 : decode cX6_pour 5 = .ok (.ifCond .eq 19, 3) := dk_153 0 19 (dk_at dksX6_pour_0 5 rfl rfl)
theorem dX6_pour_8 : decode cX6_pour 8 = .ok (.iload_n 2, 1) := dk_28 (dk_at dksX6_pour_0 8 rfl rfl)
theorem dX6_pour_9 : decode cX6_pour 9 = .ok (.i2l, 1) := dk_133 (dk_at dksX6_pour_0 9 rfl rfl)
theorem dX6_pour_10 : decode cX6_pour 10 = .ok (.invokestatic 256, 3) := dk_184 1 0 (dk_at dksX6_pour_0 10 rfl rfl)
theorem dX6_pour_13 : decode cX6_pour 13 = .ok (.ifCond .eq 11, 3) := dk_153 0 11 (dk_at dksX6_pour_0 13 rfl rfl)
theorem dX6_pour_16 : decode cX6_pour 16 = .ok (.iload_n 3, 1) := dk_29 (dk_at dksX6_pour_0 16 rfl rfl)
theorem dX6_pour_17 : decode cX6_pour 17 = .ok (.i2l, 1) := dk_133 (dk_at dksX6_pour_0 17 rfl rfl)
theorem dX6_pour_18 : decode cX6_pour 18 = .ok (.invokestatic 256, 3) := dk_184 1 0 (dk_at dksX6_pour_0 18 rfl rfl)
theorem dX6_pour_21 : decode cX6_pour 21 = .ok (.ifCond .ne 6, 3) := dk_154 0 6 (dk_at dksX6_pour_0 21 rfl rfl)
theorem dX6_pour_24 : decode cX6_pour 24 = .ok (.bipush (-2), 2) := dk_16 254 (dk_at dksX6_pour_1 0 rfl rfl)
theorem dX6_pour_26 : decode cX6_pour 26 = .ok (.ireturn, 1) := dk_172 (dk_at dksX6_pour_1 2 rfl rfl)
theorem dX6_pour_27 : decode cX6_pour 27 = .ok (.aload_n 0, 1) := dk_42 (dk_at dksX6_pour_1 3 rfl rfl)
theorem dX6_pour_28 : decode cX6_pour 28 = .ok (.getfield 34, 3) := dk_180 0 34 (dk_at dksX6_pour_1 4 rfl rfl)
theorem dX6_pour_31 : decode cX6_pour 31 = .ok (.iload_n 3, 1) := dk_29 (dk_at dksX6_pour_1 7 rfl rfl)
theorem dX6_pour_32 : decode cX6_pour 32 = .ok (.iaload, 1) := dk_46 (dk_at dksX6_pour_1 8 rfl rfl)
theorem dX6_pour_33 : decode cX6_pour 33 = .ok (.istore 4, 2) := dk_54 4 (dk_at dksX6_pour_1 9 rfl rfl)
theorem dX6_pour_35 : decode cX6_pour 35 = .ok (.iconst 0, 1) := dk_3 (dk_at dksX6_pour_1 11 rfl rfl)
theorem dX6_pour_36 : decode cX6_pour 36 = .ok (.istore 5, 2) := dk_54 5 (dk_at dksX6_pour_1 12 rfl rfl)
theorem dX6_pour_38 : decode cX6_pour 38 = .ok (.iload 5, 2) := dk_21 5 (dk_at dksX6_pour_1 14 rfl rfl)
theorem dX6_pour_40 : decode cX6_pour 40 = .ok (.bipush 60, 2) := dk_16 60 (dk_at dksX6_pour_1 16 rfl rfl)
theorem dX6_pour_42 : decode cX6_pour 42 = .ok (.if_icmp .gt 39, 3) := dk_163 0 39 (dk_at dksX6_pour_1 18 rfl rfl)
theorem dX6_pour_45 : decode cX6_pour 45 = .ok (.aload_n 0, 1) := dk_42 (dk_at dksX6_pour_1 21 rfl rfl)
theorem dX6_pour_46 : decode cX6_pour 46 = .ok (.getfield 34, 3) := dk_180 0 34 (dk_at dksX6_pour_2 0 rfl rfl)
theorem dX6_pour_49 : decode cX6_pour 49 = .ok (.iload_n 3, 1) := dk_29 (dk_at dksX6_pour_2 3 rfl rfl)
theorem dX6_pour_50 : decode cX6_pour 50 = .ok (.iload 4, 2) := dk_21 4 (dk_at dksX6_pour_2 4 rfl rfl)
theorem dX6_pour_52 : decode cX6_pour 52 = .ok (.iload 5, 2) := dk_21 5 (dk_at dksX6_pour_2 6 rfl rfl)
theorem dX6_pour_54 : decode cX6_pour 54 = .ok (.iadd, 1) := dk_96 (dk_at dksX6_pour_2 8 rfl rfl)
theorem dX6_pour_55 : decode cX6_pour 55 = .ok (.iastore, 1) := dk_79 (dk_at dksX6_pour_2 9 rfl rfl)
theorem dX6_pour_56 : decode cX6_pour 56 = .ok (.aload_n 0, 1) := dk_42 (dk_at dksX6_pour_2 10 rfl rfl)
theorem dX6_pour_57 : decode cX6_pour 57 = .ok (.invokevirtual 244, 3) := dk_182 0 244 (dk_at dksX6_pour_2 11 rfl rfl)
theorem dX6_pour_60 : decode cX6_pour 60 = .ok (.aload_n 0, 1) := dk_42 (dk_at dksX6_pour_2 14 rfl rfl)
theorem dX6_pour_61 : decode cX6_pour 61 = .ok (.iload_n 1, 1) := dk_27 (dk_at dksX6_pour_2 15 rfl rfl)
theorem dX6_pour_62 : decode cX6_pour 62 = .ok (.iload_n 2, 1) := dk_28 (dk_at dksX6_pour_2 16 rfl rfl)
theorem dX6_pour_63 : decode cX6_pour 63 = .ok (.invokevirtual 313, 3) := dk_182 1 57 (dk_at dksX6_pour_2 17 rfl rfl)
theorem dX6_pour_66 : decode cX6_pour 66 = .ok (.ldc_w 297, 3) := dk_19 1 41 (dk_at dksX6_pour_2 20 rfl rfl)
theorem dX6_pour_69 : decode cX6_pour 69 = .ok (.if_icmp .ge 6, 3) := dk_162 0 6 (dk_at dksX6_pour_3 0 rfl rfl)
theorem dX6_pour_72 : decode cX6_pour 72 = .ok (.iload 5, 2) := dk_21 5 (dk_at dksX6_pour_3 3 rfl rfl)
theorem dX6_pour_74 : decode cX6_pour 74 = .ok (.ireturn, 1) := dk_172 (dk_at dksX6_pour_3 5 rfl rfl)
theorem dX6_pour_75 : decode cX6_pour 75 = .ok (.iinc 5 1, 3) := dk_132 5 1 (dk_at dksX6_pour_3 6 rfl rfl)
theorem dX6_pour_78 : decode cX6_pour 78 = .ok (.goto (-40), 3) := dk_167 255 216 (dk_at dksX6_pour_3 9 rfl rfl)
theorem dX6_pour_81 : decode cX6_pour 81 = .ok (.iconst (-1), 1) := dk_2 (dk_at dksX6_pour_3 12 rfl rfl)
theorem dX6_pour_82 : decode cX6_pour 82 = .ok (.ireturn, 1) := dk_172 (dk_at dksX6_pour_3 13 rfl rfl)
abbrev cX6_fits : ByteArray := prog_14_method_95_code
def yX6_fits : MethodName := ⟨RX6, "fits", "(I)I"⟩
def dkwX6_fits_0 : List UInt8 := [42, 27, 182, 1, 77, 61, 28, 156, 0, 7, 28, 167, 0, 7, 42, 180, 1, 71, 172]
abbrev dktX6_fits_0 : List UInt8 := dkwX6_fits_0 ++ []
theorem dksX6_fits_0 : cX6_fits.data.toList.drop 0 = dktX6_fits_0 := by decide +kernel
theorem dX6_fits_0 : decode cX6_fits 0 = .ok (.aload_n 0, 1) := dk_42 (dk_at dksX6_fits_0 0 rfl rfl)
theorem dX6_fits_1 : decode cX6_fits 1 = .ok (.iload_n 1, 1) := dk_27 (dk_at dksX6_fits_0 1 rfl rfl)
theorem dX6_fits_2 : decode cX6_fits 2 = .ok (.invokevirtual 333, 3) := dk_182 1 77 (dk_at dksX6_fits_0 2 rfl rfl)
theorem dX6_fits_5 : decode cX6_fits 5 = .ok (.istore_n 2, 1) := dk_61 (dk_at dksX6_fits_0 5 rfl rfl)
theorem dX6_fits_6 : decode cX6_fits 6 = .ok (.iload_n 2, 1) := dk_28 (dk_at dksX6_fits_0 6 rfl rfl)
theorem dX6_fits_7 : decode cX6_fits 7 = .ok (.ifCond .ge 7, 3) := dk_156 0 7 (dk_at dksX6_fits_0 7 rfl rfl)
theorem dX6_fits_10 : decode cX6_fits 10 = .ok (.iload_n 2, 1) := dk_28 (dk_at dksX6_fits_0 10 rfl rfl)
theorem dX6_fits_11 : decode cX6_fits 11 = .ok (.goto 7, 3) := dk_167 0 7 (dk_at dksX6_fits_0 11 rfl rfl)
theorem dX6_fits_14 : decode cX6_fits 14 = .ok (.aload_n 0, 1) := dk_42 (dk_at dksX6_fits_0 14 rfl rfl)
theorem dX6_fits_15 : decode cX6_fits 15 = .ok (.getfield 327, 3) := dk_180 1 71 (dk_at dksX6_fits_0 15 rfl rfl)
theorem dX6_fits_18 : decode cX6_fits 18 = .ok (.ireturn, 1) := dk_172 (dk_at dksX6_fits_0 18 rfl rfl)
abbrev cX6_layPairs : ByteArray := prog_14_method_94_code
def yX6_layPairs : MethodName := ⟨RX6, "layPairs", "(I)I"⟩
def dkwX6_layPairs_5 : List UInt8 := [181, 1, 71, 132, 4, 1, 167, 255, 163, 132, 3, 1, 167, 255, 140, 28, 172]
abbrev dktX6_layPairs_5 : List UInt8 := dkwX6_layPairs_5 ++ []
def dkwX6_layPairs_4 : List UInt8 := [96, 42, 180, 0, 49, 21, 5, 46, 145, 84, 132, 5, 1, 167, 255, 223, 42, 89, 180, 1, 71, 4, 96]
abbrev dktX6_layPairs_4 : List UInt8 := dkwX6_layPairs_4 ++ dktX6_layPairs_5
def dkwX6_layPairs_3 : List UInt8 := [79, 3, 54, 5, 21, 5, 16, 60, 163, 0, 32, 42, 180, 0, 65, 16, 61, 42, 180, 1, 71, 104, 21, 5]
abbrev dktX6_layPairs_3 : List UInt8 := dkwX6_layPairs_3 ++ dktX6_layPairs_4
def dkwX6_layPairs_2 : List UInt8 := [182, 1, 74, 154, 0, 6, 167, 0, 68, 42, 180, 0, 61, 42, 180, 1, 71, 16, 100, 29, 104, 21, 4, 96]
abbrev dktX6_layPairs_2 : List UInt8 := dkwX6_layPairs_2 ++ dktX6_layPairs_3
def dkwX6_layPairs_1 : List UInt8 := [28, 154, 0, 108, 3, 54, 4, 21, 4, 16, 60, 163, 0, 92, 42, 29, 21, 4, 182, 1, 24, 42, 27]
abbrev dktX6_layPairs_1 : List UInt8 := dkwX6_layPairs_1 ++ dktX6_layPairs_2
def dkwX6_layPairs_0 : List UInt8 := [42, 27, 4, 182, 1, 67, 61, 42, 3, 181, 1, 71, 3, 62, 29, 42, 180, 0, 9, 6, 46, 162, 0, 112]
abbrev dktX6_layPairs_0 : List UInt8 := dkwX6_layPairs_0 ++ dktX6_layPairs_1
theorem dksX6_layPairs_0 : cX6_layPairs.data.toList.drop 0 = dktX6_layPairs_0 := by decide +kernel
theorem dksX6_layPairs_1 : cX6_layPairs.data.toList.drop 24 = dktX6_layPairs_1 := dk_seg dksX6_layPairs_0 24 rfl rfl
theorem dksX6_layPairs_2 : cX6_layPairs.data.toList.drop 47 = dktX6_layPairs_2 := dk_seg dksX6_layPairs_1 23 rfl rfl
theorem dksX6_layPairs_3 : cX6_layPairs.data.toList.drop 71 = dktX6_layPairs_3 := dk_seg dksX6_layPairs_2 24 rfl rfl
theorem dksX6_layPairs_4 : cX6_layPairs.data.toList.drop 95 = dktX6_layPairs_4 := dk_seg dksX6_layPairs_3 24 rfl rfl
theorem dksX6_layPairs_5 : cX6_layPairs.data.toList.drop 118 = dktX6_layPairs_5 := dk_seg dksX6_layPairs_4 23 rfl rfl
theorem dX6_layPairs_0 : decode cX6_layPairs 0 = .ok (.aload_n 0, 1) := dk_42 (dk_at dksX6_layPairs_0 0 rfl rfl)
theorem dX6_layPairs_1 : decode cX6_layPairs 1 = .ok (.iload_n 1, 1) := dk_27 (dk_at dksX6_layPairs_0 1 rfl rfl)
theorem dX6_layPairs_2 : decode cX6_layPairs 2 = .ok (.iconst 1, 1) := dk_4 (dk_at dksX6_layPairs_0 2 rfl rfl)
theorem dX6_layPairs_3 : decode cX6_layPairs 3 = .ok (.invokevirtual 323, 3) := dk_182 1 67 (dk_at dksX6_layPairs_0 3 rfl rfl)
theorem dX6_layPairs_6 : decode cX6_layPairs 6 = .ok (.istore_n 2, 1) := dk_61 (dk_at dksX6_layPairs_0 6 rfl rfl)
theorem dX6_layPairs_7 : decode cX6_layPairs 7 = .ok (.aload_n 0, 1) := dk_42 (dk_at dksX6_layPairs_0 7 rfl rfl)
theorem dX6_layPairs_8 : decode cX6_layPairs 8 = .ok (.iconst 0, 1) := dk_3 (dk_at dksX6_layPairs_0 8 rfl rfl)
theorem dX6_layPairs_9 : decode cX6_layPairs 9 = .ok (.putfield 327, 3) := dk_181 1 71 (dk_at dksX6_layPairs_0 9 rfl rfl)
theorem dX6_layPairs_12 : decode cX6_layPairs 12 = .ok (.iconst 0, 1) := dk_3 (dk_at dksX6_layPairs_0 12 rfl rfl)
theorem dX6_layPairs_13 : decode cX6_layPairs 13 = .ok (.istore_n 3, 1) := dk_62 (dk_at dksX6_layPairs_0 13 rfl rfl)
theorem dX6_layPairs_14 : decode cX6_layPairs 14 = .ok (.iload_n 3, 1) := dk_29 (dk_at dksX6_layPairs_0 14 rfl rfl)
theorem dX6_layPairs_15 : decode cX6_layPairs 15 = .ok (.aload_n 0, 1) := dk_42 (dk_at dksX6_layPairs_0 15 rfl rfl)
theorem dX6_layPairs_16 : decode cX6_layPairs 16 = .ok (.getfield 9, 3) := dk_180 0 9 (dk_at dksX6_layPairs_0 16 rfl rfl)
theorem dX6_layPairs_19 : decode cX6_layPairs 19 = .ok (.iconst 3, 1) := dk_6 (dk_at dksX6_layPairs_0 19 rfl rfl)
theorem dX6_layPairs_20 : decode cX6_layPairs 20 = .ok (.iaload, 1) := dk_46 (dk_at dksX6_layPairs_0 20 rfl rfl)
theorem dX6_layPairs_21 : decode cX6_layPairs 21 = .ok (.if_icmp .ge 112, 3) := dk_162 0 112 (dk_at dksX6_layPairs_0 21 rfl rfl)
theorem dX6_layPairs_24 : decode cX6_layPairs 24 = .ok (.iload_n 2, 1) := dk_28 (dk_at dksX6_layPairs_1 0 rfl rfl)
theorem dX6_layPairs_25 : decode cX6_layPairs 25 = .ok (.ifCond .ne 108, 3) := dk_154 0 108 (dk_at dksX6_layPairs_1 1 rfl rfl)
theorem dX6_layPairs_28 : decode cX6_layPairs 28 = .ok (.iconst 0, 1) := dk_3 (dk_at dksX6_layPairs_1 4 rfl rfl)
theorem dX6_layPairs_29 : decode cX6_layPairs 29 = .ok (.istore 4, 2) := dk_54 4 (dk_at dksX6_layPairs_1 5 rfl rfl)
theorem dX6_layPairs_31 : decode cX6_layPairs 31 = .ok (.iload 4, 2) := dk_21 4 (dk_at dksX6_layPairs_1 7 rfl rfl)
theorem dX6_layPairs_33 : decode cX6_layPairs 33 = .ok (.bipush 60, 2) := dk_16 60 (dk_at dksX6_layPairs_1 9 rfl rfl)
theorem dX6_layPairs_35 : decode cX6_layPairs 35 = .ok (.if_icmp .gt 92, 3) := dk_163 0 92 (dk_at dksX6_layPairs_1 11 rfl rfl)
theorem dX6_layPairs_38 : decode cX6_layPairs 38 = .ok (.aload_n 0, 1) := dk_42 (dk_at dksX6_layPairs_1 14 rfl rfl)
theorem dX6_layPairs_39 : decode cX6_layPairs 39 = .ok (.iload_n 3, 1) := dk_29 (dk_at dksX6_layPairs_1 15 rfl rfl)
theorem dX6_layPairs_40 : decode cX6_layPairs 40 = .ok (.iload 4, 2) := dk_21 4 (dk_at dksX6_layPairs_1 16 rfl rfl)
theorem dX6_layPairs_42 : decode cX6_layPairs 42 = .ok (.invokevirtual 280, 3) := dk_182 1 24 (dk_at dksX6_layPairs_1 18 rfl rfl)
theorem dX6_layPairs_45 : decode cX6_layPairs 45 = .ok (.aload_n 0, 1) := dk_42 (dk_at dksX6_layPairs_1 21 rfl rfl)
theorem dX6_layPairs_46 : decode cX6_layPairs 46 = .ok (.iload_n 1, 1) := dk_27 (dk_at dksX6_layPairs_1 22 rfl rfl)
theorem dX6_layPairs_47 : decode cX6_layPairs 47 = .ok (.invokevirtual 330, 3) := dk_182 1 74 (dk_at dksX6_layPairs_2 0 rfl rfl)
theorem dX6_layPairs_50 : decode cX6_layPairs 50 = .ok (.ifCond .ne 6, 3) := dk_154 0 6 (dk_at dksX6_layPairs_2 3 rfl rfl)
theorem dX6_layPairs_53 : decode cX6_layPairs 53 = .ok (.goto 68, 3) := dk_167 0 68 (dk_at dksX6_layPairs_2 6 rfl rfl)
theorem dX6_layPairs_56 : decode cX6_layPairs 56 = .ok (.aload_n 0, 1) := dk_42 (dk_at dksX6_layPairs_2 9 rfl rfl)
theorem dX6_layPairs_57 : decode cX6_layPairs 57 = .ok (.getfield 61, 3) := dk_180 0 61 (dk_at dksX6_layPairs_2 10 rfl rfl)
theorem dX6_layPairs_60 : decode cX6_layPairs 60 = .ok (.aload_n 0, 1) := dk_42 (dk_at dksX6_layPairs_2 13 rfl rfl)
theorem dX6_layPairs_61 : decode cX6_layPairs 61 = .ok (.getfield 327, 3) := dk_180 1 71 (dk_at dksX6_layPairs_2 14 rfl rfl)
theorem dX6_layPairs_64 : decode cX6_layPairs 64 = .ok (.bipush 100, 2) := dk_16 100 (dk_at dksX6_layPairs_2 17 rfl rfl)
theorem dX6_layPairs_66 : decode cX6_layPairs 66 = .ok (.iload_n 3, 1) := dk_29 (dk_at dksX6_layPairs_2 19 rfl rfl)
theorem dX6_layPairs_67 : decode cX6_layPairs 67 = .ok (.imul, 1) := dk_104 (dk_at dksX6_layPairs_2 20 rfl rfl)
theorem dX6_layPairs_68 : decode cX6_layPairs 68 = .ok (.iload 4, 2) := dk_21 4 (dk_at dksX6_layPairs_2 21 rfl rfl)
theorem dX6_layPairs_70 : decode cX6_layPairs 70 = .ok (.iadd, 1) := dk_96 (dk_at dksX6_layPairs_2 23 rfl rfl)
theorem dX6_layPairs_71 : decode cX6_layPairs 71 = .ok (.iastore, 1) := dk_79 (dk_at dksX6_layPairs_3 0 rfl rfl)
theorem dX6_layPairs_72 : decode cX6_layPairs 72 = .ok (.iconst 0, 1) := dk_3 (dk_at dksX6_layPairs_3 1 rfl rfl)
theorem dX6_layPairs_73 : decode cX6_layPairs 73 = .ok (.istore 5, 2) := dk_54 5 (dk_at dksX6_layPairs_3 2 rfl rfl)
theorem dX6_layPairs_75 : decode cX6_layPairs 75 = .ok (.iload 5, 2) := dk_21 5 (dk_at dksX6_layPairs_3 4 rfl rfl)
theorem dX6_layPairs_77 : decode cX6_layPairs 77 = .ok (.bipush 60, 2) := dk_16 60 (dk_at dksX6_layPairs_3 6 rfl rfl)
theorem dX6_layPairs_79 : decode cX6_layPairs 79 = .ok (.if_icmp .gt 32, 3) := dk_163 0 32 (dk_at dksX6_layPairs_3 8 rfl rfl)
theorem dX6_layPairs_82 : decode cX6_layPairs 82 = .ok (.aload_n 0, 1) := dk_42 (dk_at dksX6_layPairs_3 11 rfl rfl)
theorem dX6_layPairs_83 : decode cX6_layPairs 83 = .ok (.getfield 65, 3) := dk_180 0 65 (dk_at dksX6_layPairs_3 12 rfl rfl)
theorem dX6_layPairs_86 : decode cX6_layPairs 86 = .ok (.bipush 61, 2) := dk_16 61 (dk_at dksX6_layPairs_3 15 rfl rfl)
theorem dX6_layPairs_88 : decode cX6_layPairs 88 = .ok (.aload_n 0, 1) := dk_42 (dk_at dksX6_layPairs_3 17 rfl rfl)
theorem dX6_layPairs_89 : decode cX6_layPairs 89 = .ok (.getfield 327, 3) := dk_180 1 71 (dk_at dksX6_layPairs_3 18 rfl rfl)
theorem dX6_layPairs_92 : decode cX6_layPairs 92 = .ok (.imul, 1) := dk_104 (dk_at dksX6_layPairs_3 21 rfl rfl)
theorem dX6_layPairs_93 : decode cX6_layPairs 93 = .ok (.iload 5, 2) := dk_21 5 (dk_at dksX6_layPairs_3 22 rfl rfl)
theorem dX6_layPairs_95 : decode cX6_layPairs 95 = .ok (.iadd, 1) := dk_96 (dk_at dksX6_layPairs_4 0 rfl rfl)
theorem dX6_layPairs_96 : decode cX6_layPairs 96 = .ok (.aload_n 0, 1) := dk_42 (dk_at dksX6_layPairs_4 1 rfl rfl)
theorem dX6_layPairs_97 : decode cX6_layPairs 97 = .ok (.getfield 49, 3) := dk_180 0 49 (dk_at dksX6_layPairs_4 2 rfl rfl)
theorem dX6_layPairs_100 : decode cX6_layPairs 100 = .ok (.iload 5, 2) := dk_21 5 (dk_at dksX6_layPairs_4 5 rfl rfl)
theorem dX6_layPairs_102 : decode cX6_layPairs 102 = .ok (.iaload, 1) := dk_46 (dk_at dksX6_layPairs_4 7 rfl rfl)
theorem dX6_layPairs_103 : decode cX6_layPairs 103 = .ok (.i2b, 1) := dk_145 (dk_at dksX6_layPairs_4 8 rfl rfl)
theorem dX6_layPairs_104 : decode cX6_layPairs 104 = .ok (.bastore, 1) := dk_84 (dk_at dksX6_layPairs_4 9 rfl rfl)
theorem dX6_layPairs_105 : decode cX6_layPairs 105 = .ok (.iinc 5 1, 3) := dk_132 5 1 (dk_at dksX6_layPairs_4 10 rfl rfl)
theorem dX6_layPairs_108 : decode cX6_layPairs 108 = .ok (.goto (-33), 3) := dk_167 255 223 (dk_at dksX6_layPairs_4 13 rfl rfl)
theorem dX6_layPairs_111 : decode cX6_layPairs 111 = .ok (.aload_n 0, 1) := dk_42 (dk_at dksX6_layPairs_4 16 rfl rfl)
theorem dX6_layPairs_112 : decode cX6_layPairs 112 = .ok (.dup, 1) := dk_89 (dk_at dksX6_layPairs_4 17 rfl rfl)
theorem dX6_layPairs_113 : decode cX6_layPairs 113 = .ok (.getfield 327, 3) := dk_180 1 71 (dk_at dksX6_layPairs_4 18 rfl rfl)
theorem dX6_layPairs_116 : decode cX6_layPairs 116 = .ok (.iconst 1, 1) := dk_4 (dk_at dksX6_layPairs_4 21 rfl rfl)
theorem dX6_layPairs_117 : decode cX6_layPairs 117 = .ok (.iadd, 1) := dk_96 (dk_at dksX6_layPairs_4 22 rfl rfl)
theorem dX6_layPairs_118 : decode cX6_layPairs 118 = .ok (.putfield 327, 3) := dk_181 1 71 (dk_at dksX6_layPairs_5 0 rfl rfl)
theorem dX6_layPairs_121 : decode cX6_layPairs 121 = .ok (.iinc 4 1, 3) := dk_132 4 1 (dk_at dksX6_layPairs_5 3 rfl rfl)
theorem dX6_layPairs_124 : decode cX6_layPairs 124 = .ok (.goto (-93), 3) := dk_167 255 163 (dk_at dksX6_layPairs_5 6 rfl rfl)
theorem dX6_layPairs_127 : decode cX6_layPairs 127 = .ok (.iinc 3 1, 3) := dk_132 3 1 (dk_at dksX6_layPairs_5 9 rfl rfl)
theorem dX6_layPairs_130 : decode cX6_layPairs 130 = .ok (.goto (-116), 3) := dk_167 255 140 (dk_at dksX6_layPairs_5 12 rfl rfl)
theorem dX6_layPairs_133 : decode cX6_layPairs 133 = .ok (.iload_n 2, 1) := dk_28 (dk_at dksX6_layPairs_5 15 rfl rfl)
theorem dX6_layPairs_134 : decode cX6_layPairs 134 = .ok (.ireturn, 1) := dk_172 (dk_at dksX6_layPairs_5 16 rfl rfl)
abbrev cX6_askSeen : ByteArray := prog_14_method_92_code
def yX6_askSeen : MethodName := ⟨RX6, "askSeen", "(IZ)I"⟩
def dkwX6_askSeen_4 : List UInt8 := [167, 255, 213, 42, 182, 0, 247, 3, 172]
abbrev dktX6_askSeen_4 : List UInt8 := dkwX6_askSeen_4 ++ []
def dkwX6_askSeen_3 : List UInt8 := [153, 0, 18, 42, 42, 27, 29, 4, 96, 182, 1, 63, 182, 0, 219, 154, 0, 6, 16, 254, 172, 132, 3, 2]
abbrev dktX6_askSeen_3 : List UInt8 := dkwX6_askSeen_3 ++ dktX6_askSeen_4
def dkwX6_askSeen_2 : List UInt8 := [16, 254, 172, 3, 62, 29, 42, 180, 0, 75, 27, 46, 162, 0, 39, 42, 27, 29, 182, 1, 63, 184, 1, 0]
abbrev dktX6_askSeen_2 : List UInt8 := dkwX6_askSeen_2 ++ dktX6_askSeen_3
def dkwX6_askSeen_1 : List UInt8 := [180, 0, 75, 27, 46, 2, 160, 0, 6, 16, 250, 172, 42, 180, 0, 75, 27, 46, 5, 112, 153, 0, 6]
abbrev dktX6_askSeen_1 : List UInt8 := dkwX6_askSeen_1 ++ dktX6_askSeen_2
def dkwX6_askSeen_0 : List UInt8 := [27, 184, 1, 60, 153, 0, 14, 42, 182, 0, 250, 153, 0, 7, 28, 154, 0, 6, 16, 254, 172, 42]
abbrev dktX6_askSeen_0 : List UInt8 := dkwX6_askSeen_0 ++ dktX6_askSeen_1
theorem dksX6_askSeen_0 : cX6_askSeen.data.toList.drop 0 = dktX6_askSeen_0 := by decide +kernel
theorem dksX6_askSeen_1 : cX6_askSeen.data.toList.drop 22 = dktX6_askSeen_1 := dk_seg dksX6_askSeen_0 22 rfl rfl
theorem dksX6_askSeen_2 : cX6_askSeen.data.toList.drop 45 = dktX6_askSeen_2 := dk_seg dksX6_askSeen_1 23 rfl rfl
theorem dksX6_askSeen_3 : cX6_askSeen.data.toList.drop 69 = dktX6_askSeen_3 := dk_seg dksX6_askSeen_2 24 rfl rfl
theorem dksX6_askSeen_4 : cX6_askSeen.data.toList.drop 93 = dktX6_askSeen_4 := dk_seg dksX6_askSeen_3 24 rfl rfl
theorem dX6_askSeen_0 : decode cX6_askSeen 0 = .ok (.iload_n 1, 1) := dk_27 (dk_at dksX6_askSeen_0 0 rfl rfl)
theorem dX6_askSeen_1 : decode cX6_askSeen 1 = .ok (.invokestatic 316, 3) := dk_184 1 60 (dk_at dksX6_askSeen_0 1 rfl rfl)
theorem dX6_askSeen_4 : decode cX6_askSeen 4 = .ok (.ifCond .eq 14, 3) := dk_153 0 14 (dk_at dksX6_askSeen_0 4 rfl rfl)
theorem dX6_askSeen_7 : decode cX6_askSeen 7 = .ok (.aload_n 0, 1) := dk_42 (dk_at dksX6_askSeen_0 7 rfl rfl)
theorem dX6_askSeen_8 : decode cX6_askSeen 8 = .ok (.invokevirtual 250, 3) := dk_182 0 250 (dk_at dksX6_askSeen_0 8 rfl rfl)
theorem dX6_askSeen_11 : decode cX6_askSeen 11 = .ok (.ifCond .eq 7, 3) := dk_153 0 7 (dk_at dksX6_askSeen_0 11 rfl rfl)
theorem dX6_askSeen_14 : decode cX6_askSeen 14 = .ok (.iload_n 2, 1) := dk_28 (dk_at dksX6_askSeen_0 14 rfl rfl)
theorem dX6_askSeen_15 : decode cX6_askSeen 15 = .ok (.ifCond .ne 6, 3) := dk_154 0 6 (dk_at dksX6_askSeen_0 15 rfl rfl)
theorem dX6_askSeen_18 : decode cX6_askSeen 18 = .ok (.bipush (-2), 2) := dk_16 254 (dk_at dksX6_askSeen_0 18 rfl rfl)
theorem dX6_askSeen_20 : decode cX6_askSeen 20 = .ok (.ireturn, 1) := dk_172 (dk_at dksX6_askSeen_0 20 rfl rfl)
theorem dX6_askSeen_21 : decode cX6_askSeen 21 = .ok (.aload_n 0, 1) := dk_42 (dk_at dksX6_askSeen_0 21 rfl rfl)
theorem dX6_askSeen_22 : decode cX6_askSeen 22 = .ok (.getfield 75, 3) := dk_180 0 75 (dk_at dksX6_askSeen_1 0 rfl rfl)
theorem dX6_askSeen_25 : decode cX6_askSeen 25 = .ok (.iload_n 1, 1) := dk_27 (dk_at dksX6_askSeen_1 3 rfl rfl)
theorem dX6_askSeen_26 : decode cX6_askSeen 26 = .ok (.iaload, 1) := dk_46 (dk_at dksX6_askSeen_1 4 rfl rfl)
theorem dX6_askSeen_27 : decode cX6_askSeen 27 = .ok (.iconst (-1), 1) := dk_2 (dk_at dksX6_askSeen_1 5 rfl rfl)
theorem dX6_askSeen_28 : decode cX6_askSeen 28 = .ok (.if_icmp .ne 6, 3) := dk_160 0 6 (dk_at dksX6_askSeen_1 6 rfl rfl)
theorem dX6_askSeen_31 : decode cX6_askSeen 31 = .ok (.bipush (-6), 2) := dk_16 250 (dk_at dksX6_askSeen_1 9 rfl rfl)
theorem dX6_askSeen_33 : decode cX6_askSeen 33 = .ok (.ireturn, 1) := dk_172 (dk_at dksX6_askSeen_1 11 rfl rfl)
theorem dX6_askSeen_34 : decode cX6_askSeen 34 = .ok (.aload_n 0, 1) := dk_42 (dk_at dksX6_askSeen_1 12 rfl rfl)
theorem dX6_askSeen_35 : decode cX6_askSeen 35 = .ok (.getfield 75, 3) := dk_180 0 75 (dk_at dksX6_askSeen_1 13 rfl rfl)
theorem dX6_askSeen_38 : decode cX6_askSeen 38 = .ok (.iload_n 1, 1) := dk_27 (dk_at dksX6_askSeen_1 16 rfl rfl)
theorem dX6_askSeen_39 : decode cX6_askSeen 39 = .ok (.iaload, 1) := dk_46 (dk_at dksX6_askSeen_1 17 rfl rfl)
theorem dX6_askSeen_40 : decode cX6_askSeen 40 = .ok (.iconst 2, 1) := dk_5 (dk_at dksX6_askSeen_1 18 rfl rfl)
theorem dX6_askSeen_41 : decode cX6_askSeen 41 = .ok (.irem, 1) := dk_112 (dk_at dksX6_askSeen_1 19 rfl rfl)
theorem dX6_askSeen_42 : decode cX6_askSeen 42 = .ok (.ifCond .eq 6, 3) := dk_153 0 6 (dk_at dksX6_askSeen_1 20 rfl rfl)
theorem dX6_askSeen_45 : decode cX6_askSeen 45 = .ok (.bipush (-2), 2) := dk_16 254 (dk_at dksX6_askSeen_2 0 rfl rfl)
theorem dX6_askSeen_47 : decode cX6_askSeen 47 = .ok (.ireturn, 1) := dk_172 (dk_at dksX6_askSeen_2 2 rfl rfl)
theorem dX6_askSeen_48 : decode cX6_askSeen 48 = .ok (.iconst 0, 1) := dk_3 (dk_at dksX6_askSeen_2 3 rfl rfl)
theorem dX6_askSeen_49 : decode cX6_askSeen 49 = .ok (.istore_n 3, 1) := dk_62 (dk_at dksX6_askSeen_2 4 rfl rfl)
theorem dX6_askSeen_50 : decode cX6_askSeen 50 = .ok (.iload_n 3, 1) := dk_29 (dk_at dksX6_askSeen_2 5 rfl rfl)
theorem dX6_askSeen_51 : decode cX6_askSeen 51 = .ok (.aload_n 0, 1) := dk_42 (dk_at dksX6_askSeen_2 6 rfl rfl)
theorem dX6_askSeen_52 : decode cX6_askSeen 52 = .ok (.getfield 75, 3) := dk_180 0 75 (dk_at dksX6_askSeen_2 7 rfl rfl)
theorem dX6_askSeen_55 : decode cX6_askSeen 55 = .ok (.iload_n 1, 1) := dk_27 (dk_at dksX6_askSeen_2 10 rfl rfl)
theorem dX6_askSeen_56 : decode cX6_askSeen 56 = .ok (.iaload, 1) := dk_46 (dk_at dksX6_askSeen_2 11 rfl rfl)
theorem dX6_askSeen_57 : decode cX6_askSeen 57 = .ok (.if_icmp .ge 39, 3) := dk_162 0 39 (dk_at dksX6_askSeen_2 12 rfl rfl)
theorem dX6_askSeen_60 : decode cX6_askSeen 60 = .ok (.aload_n 0, 1) := dk_42 (dk_at dksX6_askSeen_2 15 rfl rfl)
theorem dX6_askSeen_61 : decode cX6_askSeen 61 = .ok (.iload_n 1, 1) := dk_27 (dk_at dksX6_askSeen_2 16 rfl rfl)
theorem dX6_askSeen_62 : decode cX6_askSeen 62 = .ok (.iload_n 3, 1) := dk_29 (dk_at dksX6_askSeen_2 17 rfl rfl)
theorem dX6_askSeen_63 : decode cX6_askSeen 63 = .ok (.invokevirtual 319, 3) := dk_182 1 63 (dk_at dksX6_askSeen_2 18 rfl rfl)
theorem dX6_askSeen_66 : decode cX6_askSeen 66 = .ok (.invokestatic 256, 3) := dk_184 1 0 (dk_at dksX6_askSeen_2 21 rfl rfl)
theorem dX6_askSeen_69 : decode cX6_askSeen 69 = .ok (.ifCond .eq 18, 3) := dk_153 0 18 (dk_at dksX6_askSeen_3 0 rfl rfl)
theorem dX6_askSeen_72 : decode cX6_askSeen 72 = .ok (.aload_n 0, 1) := dk_42 (dk_at dksX6_askSeen_3 3 rfl rfl)
theorem dX6_askSeen_73 : decode cX6_askSeen 73 = .ok (.aload_n 0, 1) := dk_42 (dk_at dksX6_askSeen_3 4 rfl rfl)
theorem dX6_askSeen_74 : decode cX6_askSeen 74 = .ok (.iload_n 1, 1) := dk_27 (dk_at dksX6_askSeen_3 5 rfl rfl)
theorem dX6_askSeen_75 : decode cX6_askSeen 75 = .ok (.iload_n 3, 1) := dk_29 (dk_at dksX6_askSeen_3 6 rfl rfl)
theorem dX6_askSeen_76 : decode cX6_askSeen 76 = .ok (.iconst 1, 1) := dk_4 (dk_at dksX6_askSeen_3 7 rfl rfl)
theorem dX6_askSeen_77 : decode cX6_askSeen 77 = .ok (.iadd, 1) := dk_96 (dk_at dksX6_askSeen_3 8 rfl rfl)
theorem dX6_askSeen_78 : decode cX6_askSeen 78 = .ok (.invokevirtual 319, 3) := dk_182 1 63 (dk_at dksX6_askSeen_3 9 rfl rfl)
theorem dX6_askSeen_81 : decode cX6_askSeen 81 = .ok (.invokevirtual 219, 3) := dk_182 0 219 (dk_at dksX6_askSeen_3 12 rfl rfl)
theorem dX6_askSeen_84 : decode cX6_askSeen 84 = .ok (.ifCond .ne 6, 3) := dk_154 0 6 (dk_at dksX6_askSeen_3 15 rfl rfl)
theorem dX6_askSeen_87 : decode cX6_askSeen 87 = .ok (.bipush (-2), 2) := dk_16 254 (dk_at dksX6_askSeen_3 18 rfl rfl)
theorem dX6_askSeen_89 : decode cX6_askSeen 89 = .ok (.ireturn, 1) := dk_172 (dk_at dksX6_askSeen_3 20 rfl rfl)
theorem dX6_askSeen_90 : decode cX6_askSeen 90 = .ok (.iinc 3 2, 3) := dk_132 3 2 (dk_at dksX6_askSeen_3 21 rfl rfl)
theorem dX6_askSeen_93 : decode cX6_askSeen 93 = .ok (.goto (-43), 3) := dk_167 255 213 (dk_at dksX6_askSeen_4 0 rfl rfl)
theorem dX6_askSeen_96 : decode cX6_askSeen 96 = .ok (.aload_n 0, 1) := dk_42 (dk_at dksX6_askSeen_4 3 rfl rfl)
theorem dX6_askSeen_97 : decode cX6_askSeen 97 = .ok (.invokevirtual 247, 3) := dk_182 0 247 (dk_at dksX6_askSeen_4 4 rfl rfl)
theorem dX6_askSeen_100 : decode cX6_askSeen 100 = .ok (.iconst 0, 1) := dk_3 (dk_at dksX6_askSeen_4 7 rfl rfl)
theorem dX6_askSeen_101 : decode cX6_askSeen 101 = .ok (.ireturn, 1) := dk_172 (dk_at dksX6_askSeen_4 8 rfl rfl)
abbrev cX6_isSlot : ByteArray := prog_14_method_129_code
def yX6_isSlot : MethodName := ⟨RX6, "isSlot", "(I)Z"⟩
def dkwX6_isSlot_0 : List UInt8 := [26, 133, 9, 20, 0, 230, 184, 0, 92, 172]
abbrev dktX6_isSlot_0 : List UInt8 := dkwX6_isSlot_0 ++ []
theorem dksX6_isSlot_0 : cX6_isSlot.data.toList.drop 0 = dktX6_isSlot_0 := by decide +kernel
theorem dX6_isSlot_0 : decode cX6_isSlot 0 = .ok (.iload_n 0, 1) := dk_26 (dk_at dksX6_isSlot_0 0 rfl rfl)
theorem dX6_isSlot_1 : decode cX6_isSlot 1 = .ok (.i2l, 1) := dk_133 (dk_at dksX6_isSlot_0 1 rfl rfl)
theorem dX6_isSlot_2 : decode cX6_isSlot 2 = .ok (.lconst 0, 1) := dk_9 (dk_at dksX6_isSlot_0 2 rfl rfl)
theorem dX6_isSlot_3 : decode cX6_isSlot 3 = .ok (.ldc2_w 230, 3) := dk_20 0 230 (dk_at dksX6_isSlot_0 3 rfl rfl)
theorem dX6_isSlot_6 : decode cX6_isSlot 6 = .ok (.invokestatic 92, 3) := dk_184 0 92 (dk_at dksX6_isSlot_0 6 rfl rfl)
theorem dX6_isSlot_9 : decode cX6_isSlot 9 = .ok (.ireturn, 1) := dk_172 (dk_at dksX6_isSlot_0 9 rfl rfl)
abbrev cX6_numberAt : ByteArray := prog_14_method_91_code
def yX6_numberAt : MethodName := ⟨RX6, "numberAt", "(II)J"⟩
def dkwX6_numberAt_0 : List UInt8 := [42, 180, 0, 81, 16, 60, 27, 104, 28, 96, 47, 173]
abbrev dktX6_numberAt_0 : List UInt8 := dkwX6_numberAt_0 ++ []
theorem dksX6_numberAt_0 : cX6_numberAt.data.toList.drop 0 = dktX6_numberAt_0 := by decide +kernel
theorem dX6_numberAt_0 : decode cX6_numberAt 0 = .ok (.aload_n 0, 1) := dk_42 (dk_at dksX6_numberAt_0 0 rfl rfl)
theorem dX6_numberAt_1 : decode cX6_numberAt 1 = .ok (.getfield 81, 3) := dk_180 0 81 (dk_at dksX6_numberAt_0 1 rfl rfl)
theorem dX6_numberAt_4 : decode cX6_numberAt 4 = .ok (.bipush 60, 2) := dk_16 60 (dk_at dksX6_numberAt_0 4 rfl rfl)
theorem dX6_numberAt_6 : decode cX6_numberAt 6 = .ok (.iload_n 1, 1) := dk_27 (dk_at dksX6_numberAt_0 6 rfl rfl)
theorem dX6_numberAt_7 : decode cX6_numberAt 7 = .ok (.imul, 1) := dk_104 (dk_at dksX6_numberAt_0 7 rfl rfl)
theorem dX6_numberAt_8 : decode cX6_numberAt 8 = .ok (.iload_n 2, 1) := dk_28 (dk_at dksX6_numberAt_0 8 rfl rfl)
theorem dX6_numberAt_9 : decode cX6_numberAt 9 = .ok (.iadd, 1) := dk_96 (dk_at dksX6_numberAt_0 9 rfl rfl)
theorem dX6_numberAt_10 : decode cX6_numberAt 10 = .ok (.laload, 1) := dk_47 (dk_at dksX6_numberAt_0 10 rfl rfl)
theorem dX6_numberAt_11 : decode cX6_numberAt 11 = .ok (.lreturn, 1) := dk_173 (dk_at dksX6_numberAt_0 11 rfl rfl)
abbrev cX6_isSeen : ByteArray := prog_14_method_93_code
def yX6_isSeen : MethodName := ⟨RX6, "isSeen", "(I)Z"⟩
def dkwX6_isSeen_1 : List UInt8 := [133, 42, 27, 28, 4, 96, 182, 1, 63, 148, 153, 0, 5, 3, 172, 132, 2, 2, 167, 255, 216, 4, 172]
abbrev dktX6_isSeen_1 : List UInt8 := dkwX6_isSeen_1 ++ []
def dkwX6_isSeen_0 : List UInt8 := [3, 61, 28, 42, 180, 0, 75, 27, 46, 162, 0, 36, 42, 180, 0, 49, 42, 27, 28, 182, 1, 63, 136, 46]
abbrev dktX6_isSeen_0 : List UInt8 := dkwX6_isSeen_0 ++ dktX6_isSeen_1
theorem dksX6_isSeen_0 : cX6_isSeen.data.toList.drop 0 = dktX6_isSeen_0 := by decide +kernel
theorem dksX6_isSeen_1 : cX6_isSeen.data.toList.drop 24 = dktX6_isSeen_1 := dk_seg dksX6_isSeen_0 24 rfl rfl
theorem dX6_isSeen_0 : decode cX6_isSeen 0 = .ok (.iconst 0, 1) := dk_3 (dk_at dksX6_isSeen_0 0 rfl rfl)
theorem dX6_isSeen_1 : decode cX6_isSeen 1 = .ok (.istore_n 2, 1) := dk_61 (dk_at dksX6_isSeen_0 1 rfl rfl)
theorem dX6_isSeen_2 : decode cX6_isSeen 2 = .ok (.iload_n 2, 1) := dk_28 (dk_at dksX6_isSeen_0 2 rfl rfl)
theorem dX6_isSeen_3 : decode cX6_isSeen 3 = .ok (.aload_n 0, 1) := dk_42 (dk_at dksX6_isSeen_0 3 rfl rfl)
theorem dX6_isSeen_4 : decode cX6_isSeen 4 = .ok (.getfield 75, 3) := dk_180 0 75 (dk_at dksX6_isSeen_0 4 rfl rfl)
theorem dX6_isSeen_7 : decode cX6_isSeen 7 = .ok (.iload_n 1, 1) := dk_27 (dk_at dksX6_isSeen_0 7 rfl rfl)
theorem dX6_isSeen_8 : decode cX6_isSeen 8 = .ok (.iaload, 1) := dk_46 (dk_at dksX6_isSeen_0 8 rfl rfl)
theorem dX6_isSeen_9 : decode cX6_isSeen 9 = .ok (.if_icmp .ge 36, 3) := dk_162 0 36 (dk_at dksX6_isSeen_0 9 rfl rfl)
theorem dX6_isSeen_12 : decode cX6_isSeen 12 = .ok (.aload_n 0, 1) := dk_42 (dk_at dksX6_isSeen_0 12 rfl rfl)
theorem dX6_isSeen_13 : decode cX6_isSeen 13 = .ok (.getfield 49, 3) := dk_180 0 49 (dk_at dksX6_isSeen_0 13 rfl rfl)
theorem dX6_isSeen_16 : decode cX6_isSeen 16 = .ok (.aload_n 0, 1) := dk_42 (dk_at dksX6_isSeen_0 16 rfl rfl)
theorem dX6_isSeen_17 : decode cX6_isSeen 17 = .ok (.iload_n 1, 1) := dk_27 (dk_at dksX6_isSeen_0 17 rfl rfl)
theorem dX6_isSeen_18 : decode cX6_isSeen 18 = .ok (.iload_n 2, 1) := dk_28 (dk_at dksX6_isSeen_0 18 rfl rfl)
theorem dX6_isSeen_19 : decode cX6_isSeen 19 = .ok (.invokevirtual 319, 3) := dk_182 1 63 (dk_at dksX6_isSeen_0 19 rfl rfl)
theorem dX6_isSeen_22 : decode cX6_isSeen 22 = .ok (.l2i, 1) := dk_136 (dk_at dksX6_isSeen_0 22 rfl rfl)
theorem dX6_isSeen_23 : decode cX6_isSeen 23 = .ok (.iaload, 1) := dk_46 (dk_at dksX6_isSeen_0 23 rfl rfl)
theorem dX6_isSeen_24 : decode cX6_isSeen 24 = .ok (.i2l, 1) := dk_133 (dk_at dksX6_isSeen_1 0 rfl rfl)
theorem dX6_isSeen_25 : decode cX6_isSeen 25 = .ok (.aload_n 0, 1) := dk_42 (dk_at dksX6_isSeen_1 1 rfl rfl)
theorem dX6_isSeen_26 : decode cX6_isSeen 26 = .ok (.iload_n 1, 1) := dk_27 (dk_at dksX6_isSeen_1 2 rfl rfl)
theorem dX6_isSeen_27 : decode cX6_isSeen 27 = .ok (.iload_n 2, 1) := dk_28 (dk_at dksX6_isSeen_1 3 rfl rfl)
theorem dX6_isSeen_28 : decode cX6_isSeen 28 = .ok (.iconst 1, 1) := dk_4 (dk_at dksX6_isSeen_1 4 rfl rfl)
theorem dX6_isSeen_29 : decode cX6_isSeen 29 = .ok (.iadd, 1) := dk_96 (dk_at dksX6_isSeen_1 5 rfl rfl)
theorem dX6_isSeen_30 : decode cX6_isSeen 30 = .ok (.invokevirtual 319, 3) := dk_182 1 63 (dk_at dksX6_isSeen_1 6 rfl rfl)
theorem dX6_isSeen_33 : decode cX6_isSeen 33 = .ok (.lcmp, 1) := dk_148 (dk_at dksX6_isSeen_1 9 rfl rfl)
theorem dX6_isSeen_34 : decode cX6_isSeen 34 = .ok (.ifCond .eq 5, 3) := dk_153 0 5 (dk_at dksX6_isSeen_1 10 rfl rfl)
theorem dX6_isSeen_37 : decode cX6_isSeen 37 = .ok (.iconst 0, 1) := dk_3 (dk_at dksX6_isSeen_1 13 rfl rfl)
theorem dX6_isSeen_38 : decode cX6_isSeen 38 = .ok (.ireturn, 1) := dk_172 (dk_at dksX6_isSeen_1 14 rfl rfl)
theorem dX6_isSeen_39 : decode cX6_isSeen 39 = .ok (.iinc 2 2, 3) := dk_132 2 2 (dk_at dksX6_isSeen_1 15 rfl rfl)
theorem dX6_isSeen_42 : decode cX6_isSeen 42 = .ok (.goto (-40), 3) := dk_167 255 216 (dk_at dksX6_isSeen_1 18 rfl rfl)
theorem dX6_isSeen_45 : decode cX6_isSeen 45 = .ok (.iconst 1, 1) := dk_4 (dk_at dksX6_isSeen_1 21 rfl rfl)
theorem dX6_isSeen_46 : decode cX6_isSeen 46 = .ok (.ireturn, 1) := dk_172 (dk_at dksX6_isSeen_1 22 rfl rfl)
abbrev cX6_sources : ByteArray := prog_14_method_96_code
def yX6_sources : MethodName := ⟨RX6, "sources", "(I)I"⟩
def dkwX6_sources_2 : List UInt8 := [29, 172]
abbrev dktX6_sources_2 : List UInt8 := dkwX6_sources_2 ++ []
def dkwX6_sources_1 : List UInt8 := [162, 0, 24, 29, 4, 42, 180, 0, 61, 21, 4, 46, 16, 100, 108, 120, 128, 62, 132, 4, 1, 167, 255, 229]
abbrev dktX6_sources_1 : List UInt8 := dkwX6_sources_1 ++ dktX6_sources_2
def dkwX6_sources_0 : List UInt8 := [42, 27, 182, 1, 77, 61, 28, 156, 0, 5, 28, 172, 3, 62, 3, 54, 4, 21, 4, 42, 180, 1, 71]
abbrev dktX6_sources_0 : List UInt8 := dkwX6_sources_0 ++ dktX6_sources_1
theorem dksX6_sources_0 : cX6_sources.data.toList.drop 0 = dktX6_sources_0 := by decide +kernel
theorem dksX6_sources_1 : cX6_sources.data.toList.drop 23 = dktX6_sources_1 := dk_seg dksX6_sources_0 23 rfl rfl
theorem dksX6_sources_2 : cX6_sources.data.toList.drop 47 = dktX6_sources_2 := dk_seg dksX6_sources_1 24 rfl rfl
theorem dX6_sources_0 : decode cX6_sources 0 = .ok (.aload_n 0, 1) := dk_42 (dk_at dksX6_sources_0 0 rfl rfl)
theorem dX6_sources_1 : decode cX6_sources 1 = .ok (.iload_n 1, 1) := dk_27 (dk_at dksX6_sources_0 1 rfl rfl)
theorem dX6_sources_2 : decode cX6_sources 2 = .ok (.invokevirtual 333, 3) := dk_182 1 77 (dk_at dksX6_sources_0 2 rfl rfl)
theorem dX6_sources_5 : decode cX6_sources 5 = .ok (.istore_n 2, 1) := dk_61 (dk_at dksX6_sources_0 5 rfl rfl)
theorem dX6_sources_6 : decode cX6_sources 6 = .ok (.iload_n 2, 1) := dk_28 (dk_at dksX6_sources_0 6 rfl rfl)
theorem dX6_sources_7 : decode cX6_sources 7 = .ok (.ifCond .ge 5, 3) := dk_156 0 5 (dk_at dksX6_sources_0 7 rfl rfl)
theorem dX6_sources_10 : decode cX6_sources 10 = .ok (.iload_n 2, 1) := dk_28 (dk_at dksX6_sources_0 10 rfl rfl)
theorem dX6_sources_11 : decode cX6_sources 11 = .ok (.ireturn, 1) := dk_172 (dk_at dksX6_sources_0 11 rfl rfl)
theorem dX6_sources_12 : decode cX6_sources 12 = .ok (.iconst 0, 1) := dk_3 (dk_at dksX6_sources_0 12 rfl rfl)
theorem dX6_sources_13 : decode cX6_sources 13 = .ok (.istore_n 3, 1) := dk_62 (dk_at dksX6_sources_0 13 rfl rfl)
theorem dX6_sources_14 : decode cX6_sources 14 = .ok (.iconst 0, 1) := dk_3 (dk_at dksX6_sources_0 14 rfl rfl)
theorem dX6_sources_15 : decode cX6_sources 15 = .ok (.istore 4, 2) := dk_54 4 (dk_at dksX6_sources_0 15 rfl rfl)
theorem dX6_sources_17 : decode cX6_sources 17 = .ok (.iload 4, 2) := dk_21 4 (dk_at dksX6_sources_0 17 rfl rfl)
theorem dX6_sources_19 : decode cX6_sources 19 = .ok (.aload_n 0, 1) := dk_42 (dk_at dksX6_sources_0 19 rfl rfl)
theorem dX6_sources_20 : decode cX6_sources 20 = .ok (.getfield 327, 3) := dk_180 1 71 (dk_at dksX6_sources_0 20 rfl rfl)
theorem dX6_sources_23 : decode cX6_sources 23 = .ok (.if_icmp .ge 24, 3) := dk_162 0 24 (dk_at dksX6_sources_1 0 rfl rfl)
theorem dX6_sources_26 : decode cX6_sources 26 = .ok (.iload_n 3, 1) := dk_29 (dk_at dksX6_sources_1 3 rfl rfl)
theorem dX6_sources_27 : decode cX6_sources 27 = .ok (.iconst 1, 1) := dk_4 (dk_at dksX6_sources_1 4 rfl rfl)
theorem dX6_sources_28 : decode cX6_sources 28 = .ok (.aload_n 0, 1) := dk_42 (dk_at dksX6_sources_1 5 rfl rfl)
theorem dX6_sources_29 : decode cX6_sources 29 = .ok (.getfield 61, 3) := dk_180 0 61 (dk_at dksX6_sources_1 6 rfl rfl)
theorem dX6_sources_32 : decode cX6_sources 32 = .ok (.iload 4, 2) := dk_21 4 (dk_at dksX6_sources_1 9 rfl rfl)
theorem dX6_sources_34 : decode cX6_sources 34 = .ok (.iaload, 1) := dk_46 (dk_at dksX6_sources_1 11 rfl rfl)
theorem dX6_sources_35 : decode cX6_sources 35 = .ok (.bipush 100, 2) := dk_16 100 (dk_at dksX6_sources_1 12 rfl rfl)
theorem dX6_sources_37 : decode cX6_sources 37 = .ok (.idiv, 1) := dk_108 (dk_at dksX6_sources_1 14 rfl rfl)
theorem dX6_sources_38 : decode cX6_sources 38 = .ok (.ishl, 1) := dk_120 (dk_at dksX6_sources_1 15 rfl rfl)
theorem dX6_sources_39 : decode cX6_sources 39 = .ok (.ior, 1) := dk_128 (dk_at dksX6_sources_1 16 rfl rfl)
theorem dX6_sources_40 : decode cX6_sources 40 = .ok (.istore_n 3, 1) := dk_62 (dk_at dksX6_sources_1 17 rfl rfl)
theorem dX6_sources_41 : decode cX6_sources 41 = .ok (.iinc 4 1, 3) := dk_132 4 1 (dk_at dksX6_sources_1 18 rfl rfl)
theorem dX6_sources_44 : decode cX6_sources 44 = .ok (.goto (-27), 3) := dk_167 255 229 (dk_at dksX6_sources_1 21 rfl rfl)
theorem dX6_sources_47 : decode cX6_sources 47 = .ok (.iload_n 3, 1) := dk_29 (dk_at dksX6_sources_2 0 rfl rfl)
theorem dX6_sources_48 : decode cX6_sources 48 = .ok (.ireturn, 1) := dk_172 (dk_at dksX6_sources_2 1 rfl rfl)
abbrev cX6_source : ByteArray := prog_14_method_97_code
def yX6_source : MethodName := ⟨RX6, "source", "(I)I"⟩
def dkwX6_source_1 : List UInt8 := [180, 0, 61, 3, 46, 172]
abbrev dktX6_source_1 : List UInt8 := dkwX6_source_1 ++ []
def dkwX6_source_0 : List UInt8 := [42, 27, 182, 1, 77, 61, 28, 156, 0, 5, 28, 172, 42, 180, 1, 71, 154, 0, 7, 2, 167, 0, 9, 42]
abbrev dktX6_source_0 : List UInt8 := dkwX6_source_0 ++ dktX6_source_1
theorem dksX6_source_0 : cX6_source.data.toList.drop 0 = dktX6_source_0 := by decide +kernel
theorem dksX6_source_1 : cX6_source.data.toList.drop 24 = dktX6_source_1 := dk_seg dksX6_source_0 24 rfl rfl
theorem dX6_source_0 : decode cX6_source 0 = .ok (.aload_n 0, 1) := dk_42 (dk_at dksX6_source_0 0 rfl rfl)
theorem dX6_source_1 : decode cX6_source 1 = .ok (.iload_n 1, 1) := dk_27 (dk_at dksX6_source_0 1 rfl rfl)
theorem dX6_source_2 : decode cX6_source 2 = .ok (.invokevirtual 333, 3) := dk_182 1 77 (dk_at dksX6_source_0 2 rfl rfl)
theorem dX6_source_5 : decode cX6_source 5 = .ok (.istore_n 2, 1) := dk_61 (dk_at dksX6_source_0 5 rfl rfl)
theorem dX6_source_6 : decode cX6_source 6 = .ok (.iload_n 2, 1) := dk_28 (dk_at dksX6_source_0 6 rfl rfl)
theorem dX6_source_7 : decode cX6_source 7 = .ok (.ifCond .ge 5, 3) := dk_156 0 5 (dk_at dksX6_source_0 7 rfl rfl)
theorem dX6_source_10 : decode cX6_source 10 = .ok (.iload_n 2, 1) := dk_28 (dk_at dksX6_source_0 10 rfl rfl)
theorem dX6_source_11 : decode cX6_source 11 = .ok (.ireturn, 1) := dk_172 (dk_at dksX6_source_0 11 rfl rfl)
theorem dX6_source_12 : decode cX6_source 12 = .ok (.aload_n 0, 1) := dk_42 (dk_at dksX6_source_0 12 rfl rfl)
theorem dX6_source_13 : decode cX6_source 13 = .ok (.getfield 327, 3) := dk_180 1 71 (dk_at dksX6_source_0 13 rfl rfl)
theorem dX6_source_16 : decode cX6_source 16 = .ok (.ifCond .ne 7, 3) := dk_154 0 7 (dk_at dksX6_source_0 16 rfl rfl)
theorem dX6_source_19 : decode cX6_source 19 = .ok (.iconst (-1), 1) := dk_2 (dk_at dksX6_source_0 19 rfl rfl)
theorem dX6_source_20 : decode cX6_source 20 = .ok (.goto 9, 3) := dk_167 0 9 (dk_at dksX6_source_0 20 rfl rfl)
theorem dX6_source_23 : decode cX6_source 23 = .ok (.aload_n 0, 1) := dk_42 (dk_at dksX6_source_0 23 rfl rfl)
theorem dX6_source_24 : decode cX6_source 24 = .ok (.getfield 61, 3) := dk_180 0 61 (dk_at dksX6_source_1 0 rfl rfl)
theorem dX6_source_27 : decode cX6_source 27 = .ok (.iconst 0, 1) := dk_3 (dk_at dksX6_source_1 3 rfl rfl)
theorem dX6_source_28 : decode cX6_source 28 = .ok (.iaload, 1) := dk_46 (dk_at dksX6_source_1 4 rfl rfl)
theorem dX6_source_29 : decode cX6_source 29 = .ok (.ireturn, 1) := dk_172 (dk_at dksX6_source_1 5 rfl rfl)
abbrev cX6_ask : ByteArray := prog_14_method_99_code
def yX6_ask : MethodName := ⟨RX6, "ask", "(I)I"⟩
def dkwX6_ask_0 : List UInt8 := [42, 27, 182, 1, 77, 61, 28, 156, 0, 7, 28, 167, 0, 7, 42, 182, 1, 83, 172]
abbrev dktX6_ask_0 : List UInt8 := dkwX6_ask_0 ++ []
theorem dksX6_ask_0 : cX6_ask.data.toList.drop 0 = dktX6_ask_0 := by decide +kernel
theorem dX6_ask_0 : decode cX6_ask 0 = .ok (.aload_n 0, 1) := dk_42 (dk_at dksX6_ask_0 0 rfl rfl)
theorem dX6_ask_1 : decode cX6_ask 1 = .ok (.iload_n 1, 1) := dk_27 (dk_at dksX6_ask_0 1 rfl rfl)
theorem dX6_ask_2 : decode cX6_ask 2 = .ok (.invokevirtual 333, 3) := dk_182 1 77 (dk_at dksX6_ask_0 2 rfl rfl)
theorem dX6_ask_5 : decode cX6_ask 5 = .ok (.istore_n 2, 1) := dk_61 (dk_at dksX6_ask_0 5 rfl rfl)
theorem dX6_ask_6 : decode cX6_ask 6 = .ok (.iload_n 2, 1) := dk_28 (dk_at dksX6_ask_0 6 rfl rfl)
theorem dX6_ask_7 : decode cX6_ask 7 = .ok (.ifCond .ge 7, 3) := dk_156 0 7 (dk_at dksX6_ask_0 7 rfl rfl)
theorem dX6_ask_10 : decode cX6_ask 10 = .ok (.iload_n 2, 1) := dk_28 (dk_at dksX6_ask_0 10 rfl rfl)
theorem dX6_ask_11 : decode cX6_ask 11 = .ok (.goto 7, 3) := dk_167 0 7 (dk_at dksX6_ask_0 11 rfl rfl)
theorem dX6_ask_14 : decode cX6_ask 14 = .ok (.aload_n 0, 1) := dk_42 (dk_at dksX6_ask_0 14 rfl rfl)
theorem dX6_ask_15 : decode cX6_ask 15 = .ok (.invokevirtual 339, 3) := dk_182 1 83 (dk_at dksX6_ask_0 15 rfl rfl)
theorem dX6_ask_18 : decode cX6_ask 18 = .ok (.ireturn, 1) := dk_172 (dk_at dksX6_ask_0 18 rfl rfl)
abbrev cX6_askOf : ByteArray := prog_14_method_98_code
def yX6_askOf : MethodName := ⟨RX6, "askOf", "()I"⟩
def dkwX6_askOf_4 : List UInt8 := [180, 1, 80, 161, 0, 6, 167, 0, 10, 42, 29, 181, 1, 80, 28, 60, 132, 2, 1, 167, 255, 155, 27, 172]
abbrev dktX6_askOf_4 : List UInt8 := dkwX6_askOf_4 ++ []
def dkwX6_askOf_3 : List UInt8 := [54, 5, 132, 6, 1, 167, 255, 217, 29, 21, 5, 184, 0, 235, 62, 132, 4, 1, 167, 255, 191, 29, 42]
abbrev dktX6_askOf_3 : List UInt8 := dkwX6_askOf_3 ++ dktX6_askOf_4
def dkwX6_askOf_2 : List UInt8 := [42, 180, 0, 65, 16, 61, 21, 6, 104, 28, 96, 51, 21, 4, 160, 0, 7, 4, 167, 0, 4, 3, 96]
abbrev dktX6_askOf_2 : List UInt8 := dkwX6_askOf_2 ++ dktX6_askOf_3
def dkwX6_askOf_1 : List UInt8 := [21, 4, 16, 10, 162, 0, 64, 3, 54, 5, 3, 54, 6, 21, 6, 42, 180, 1, 71, 162, 0, 36, 21, 5]
abbrev dktX6_askOf_1 : List UInt8 := dkwX6_askOf_1 ++ dktX6_askOf_2
def dkwX6_askOf_0 : List UInt8 := [42, 42, 180, 1, 71, 181, 1, 80, 2, 60, 3, 61, 28, 16, 60, 163, 0, 101, 3, 62, 16, 252, 54, 4]
abbrev dktX6_askOf_0 : List UInt8 := dkwX6_askOf_0 ++ dktX6_askOf_1
theorem dksX6_askOf_0 : cX6_askOf.data.toList.drop 0 = dktX6_askOf_0 := by decide +kernel
theorem dksX6_askOf_1 : cX6_askOf.data.toList.drop 24 = dktX6_askOf_1 := dk_seg dksX6_askOf_0 24 rfl rfl
theorem dksX6_askOf_2 : cX6_askOf.data.toList.drop 48 = dktX6_askOf_2 := dk_seg dksX6_askOf_1 24 rfl rfl
theorem dksX6_askOf_3 : cX6_askOf.data.toList.drop 71 = dktX6_askOf_3 := dk_seg dksX6_askOf_2 23 rfl rfl
theorem dksX6_askOf_4 : cX6_askOf.data.toList.drop 94 = dktX6_askOf_4 := dk_seg dksX6_askOf_3 23 rfl rfl
theorem dX6_askOf_0 : decode cX6_askOf 0 = .ok (.aload_n 0, 1) := dk_42 (dk_at dksX6_askOf_0 0 rfl rfl)
theorem dX6_askOf_1 : decode cX6_askOf 1 = .ok (.aload_n 0, 1) := dk_42 (dk_at dksX6_askOf_0 1 rfl rfl)
theorem dX6_askOf_2 : decode cX6_askOf 2 = .ok (.getfield 327, 3) := dk_180 1 71 (dk_at dksX6_askOf_0 2 rfl rfl)
theorem dX6_askOf_5 : decode cX6_askOf 5 = .ok (.putfield 336, 3) := dk_181 1 80 (dk_at dksX6_askOf_0 5 rfl rfl)
theorem dX6_askOf_8 : decode cX6_askOf 8 = .ok (.iconst (-1), 1) := dk_2 (dk_at dksX6_askOf_0 8 rfl rfl)
theorem dX6_askOf_9 : decode cX6_askOf 9 = .ok (.istore_n 1, 1) := dk_60 (dk_at dksX6_askOf_0 9 rfl rfl)
theorem dX6_askOf_10 : decode cX6_askOf 10 = .ok (.iconst 0, 1) := dk_3 (dk_at dksX6_askOf_0 10 rfl rfl)
theorem dX6_askOf_11 : decode cX6_askOf 11 = .ok (.istore_n 2, 1) := dk_61 (dk_at dksX6_askOf_0 11 rfl rfl)
theorem dX6_askOf_12 : decode cX6_askOf 12 = .ok (.iload_n 2, 1) := dk_28 (dk_at dksX6_askOf_0 12 rfl rfl)
theorem dX6_askOf_13 : decode cX6_askOf 13 = .ok (.bipush 60, 2) := dk_16 60 (dk_at dksX6_askOf_0 13 rfl rfl)
theorem dX6_askOf_15 : decode cX6_askOf 15 = .ok (.if_icmp .gt 101, 3) := dk_163 0 101 (dk_at dksX6_askOf_0 15 rfl rfl)
theorem dX6_askOf_18 : decode cX6_askOf 18 = .ok (.iconst 0, 1) := dk_3 (dk_at dksX6_askOf_0 18 rfl rfl)
theorem dX6_askOf_19 : decode cX6_askOf 19 = .ok (.istore_n 3, 1) := dk_62 (dk_at dksX6_askOf_0 19 rfl rfl)
theorem dX6_askOf_20 : decode cX6_askOf 20 = .ok (.bipush (-4), 2) := dk_16 252 (dk_at dksX6_askOf_0 20 rfl rfl)
theorem dX6_askOf_22 : decode cX6_askOf 22 = .ok (.istore 4, 2) := dk_54 4 (dk_at dksX6_askOf_0 22 rfl rfl)
theorem dX6_askOf_24 : decode cX6_askOf 24 = .ok (.iload 4, 2) := dk_21 4 (dk_at dksX6_askOf_1 0 rfl rfl)
theorem dX6_askOf_26 : decode cX6_askOf 26 = .ok (.bipush 10, 2) := dk_16 10 (dk_at dksX6_askOf_1 2 rfl rfl)
theorem dX6_askOf_28 : decode cX6_askOf 28 = .ok (.if_icmp .ge 64, 3) := dk_162 0 64 (dk_at dksX6_askOf_1 4 rfl rfl)
theorem dX6_askOf_31 : decode cX6_askOf 31 = .ok (.iconst 0, 1) := dk_3 (dk_at dksX6_askOf_1 7 rfl rfl)
theorem dX6_askOf_32 : decode cX6_askOf 32 = .ok (.istore 5, 2) := dk_54 5 (dk_at dksX6_askOf_1 8 rfl rfl)
theorem dX6_askOf_34 : decode cX6_askOf 34 = .ok (.iconst 0, 1) := dk_3 (dk_at dksX6_askOf_1 10 rfl rfl)
theorem dX6_askOf_35 : decode cX6_askOf 35 = .ok (.istore 6, 2) := dk_54 6 (dk_at dksX6_askOf_1 11 rfl rfl)
theorem dX6_askOf_37 : decode cX6_askOf 37 = .ok (.iload 6, 2) := dk_21 6 (dk_at dksX6_askOf_1 13 rfl rfl)
theorem dX6_askOf_39 : decode cX6_askOf 39 = .ok (.aload_n 0, 1) := dk_42 (dk_at dksX6_askOf_1 15 rfl rfl)
theorem dX6_askOf_40 : decode cX6_askOf 40 = .ok (.getfield 327, 3) := dk_180 1 71 (dk_at dksX6_askOf_1 16 rfl rfl)
theorem dX6_askOf_43 : decode cX6_askOf 43 = .ok (.if_icmp .ge 36, 3) := dk_162 0 36 (dk_at dksX6_askOf_1 19 rfl rfl)
theorem dX6_askOf_46 : decode cX6_askOf 46 = .ok (.iload 5, 2) := dk_21 5 (dk_at dksX6_askOf_1 22 rfl rfl)
theorem dX6_askOf_48 : decode cX6_askOf 48 = .ok (.aload_n 0, 1) := dk_42 (dk_at dksX6_askOf_2 0 rfl rfl)
theorem dX6_askOf_49 : decode cX6_askOf 49 = .ok (.getfield 65, 3) := dk_180 0 65 (dk_at dksX6_askOf_2 1 rfl rfl)
theorem dX6_askOf_52 : decode cX6_askOf 52 = .ok (.bipush 61, 2) := dk_16 61 (dk_at dksX6_askOf_2 4 rfl rfl)
theorem dX6_askOf_54 : decode cX6_askOf 54 = .ok (.iload 6, 2) := dk_21 6 (dk_at dksX6_askOf_2 6 rfl rfl)
theorem dX6_askOf_56 : decode cX6_askOf 56 = .ok (.imul, 1) := dk_104 (dk_at dksX6_askOf_2 8 rfl rfl)
theorem dX6_askOf_57 : decode cX6_askOf 57 = .ok (.iload_n 2, 1) := dk_28 (dk_at dksX6_askOf_2 9 rfl rfl)
theorem dX6_askOf_58 : decode cX6_askOf 58 = .ok (.iadd, 1) := dk_96 (dk_at dksX6_askOf_2 10 rfl rfl)
theorem dX6_askOf_59 : decode cX6_askOf 59 = .ok (.baload, 1) := dk_51 (dk_at dksX6_askOf_2 11 rfl rfl)
theorem dX6_askOf_60 : decode cX6_askOf 60 = .ok (.iload 4, 2) := dk_21 4 (dk_at dksX6_askOf_2 12 rfl rfl)
theorem dX6_askOf_62 : decode cX6_askOf 62 = .ok (.if_icmp .ne 7, 3) := dk_160 0 7 (dk_at dksX6_askOf_2 14 rfl rfl)
theorem dX6_askOf_65 : decode cX6_askOf 65 = .ok (.iconst 1, 1) := dk_4 (dk_at dksX6_askOf_2 17 rfl rfl)
theorem dX6_askOf_66 : decode cX6_askOf 66 = .ok (.goto 4, 3) := dk_167 0 4 (dk_at dksX6_askOf_2 18 rfl rfl)
theorem dX6_askOf_69 : decode cX6_askOf 69 = .ok (.iconst 0, 1) := dk_3 (dk_at dksX6_askOf_2 21 rfl rfl)
theorem dX6_askOf_70 : decode cX6_askOf 70 = .ok (.iadd, 1) := dk_96 (dk_at dksX6_askOf_2 22 rfl rfl)
theorem dX6_askOf_71 : decode cX6_askOf 71 = .ok (.istore 5, 2) := dk_54 5 (dk_at dksX6_askOf_3 0 rfl rfl)
theorem dX6_askOf_73 : decode cX6_askOf 73 = .ok (.iinc 6 1, 3) := dk_132 6 1 (dk_at dksX6_askOf_3 2 rfl rfl)
theorem dX6_askOf_76 : decode cX6_askOf 76 = .ok (.goto (-39), 3) := dk_167 255 217 (dk_at dksX6_askOf_3 5 rfl rfl)
theorem dX6_askOf_79 : decode cX6_askOf 79 = .ok (.iload_n 3, 1) := dk_29 (dk_at dksX6_askOf_3 8 rfl rfl)
theorem dX6_askOf_80 : decode cX6_askOf 80 = .ok (.iload 5, 2) := dk_21 5 (dk_at dksX6_askOf_3 9 rfl rfl)
theorem dX6_askOf_82 : decode cX6_askOf 82 = .ok (.invokestatic 235, 3) := dk_184 0 235 (dk_at dksX6_askOf_3 11 rfl rfl)
theorem dX6_askOf_85 : decode cX6_askOf 85 = .ok (.istore_n 3, 1) := dk_62 (dk_at dksX6_askOf_3 14 rfl rfl)
theorem dX6_askOf_86 : decode cX6_askOf 86 = .ok (.iinc 4 1, 3) := dk_132 4 1 (dk_at dksX6_askOf_3 15 rfl rfl)
theorem dX6_askOf_89 : decode cX6_askOf 89 = .ok (.goto (-65), 3) := dk_167 255 191 (dk_at dksX6_askOf_3 18 rfl rfl)
theorem dX6_askOf_92 : decode cX6_askOf 92 = .ok (.iload_n 3, 1) := dk_29 (dk_at dksX6_askOf_3 21 rfl rfl)
theorem dX6_askOf_93 : decode cX6_askOf 93 = .ok (.aload_n 0, 1) := dk_42 (dk_at dksX6_askOf_3 22 rfl rfl)
theorem dX6_askOf_94 : decode cX6_askOf 94 = .ok (.getfield 336, 3) := dk_180 1 80 (dk_at dksX6_askOf_4 0 rfl rfl)
theorem dX6_askOf_97 : decode cX6_askOf 97 = .ok (.if_icmp .lt 6, 3) := dk_161 0 6 (dk_at dksX6_askOf_4 3 rfl rfl)
theorem dX6_askOf_100 : decode cX6_askOf 100 = .ok (.goto 10, 3) := dk_167 0 10 (dk_at dksX6_askOf_4 6 rfl rfl)
theorem dX6_askOf_103 : decode cX6_askOf 103 = .ok (.aload_n 0, 1) := dk_42 (dk_at dksX6_askOf_4 9 rfl rfl)
theorem dX6_askOf_104 : decode cX6_askOf 104 = .ok (.iload_n 3, 1) := dk_29 (dk_at dksX6_askOf_4 10 rfl rfl)
theorem dX6_askOf_105 : decode cX6_askOf 105 = .ok (.putfield 336, 3) := dk_181 1 80 (dk_at dksX6_askOf_4 11 rfl rfl)
theorem dX6_askOf_108 : decode cX6_askOf 108 = .ok (.iload_n 2, 1) := dk_28 (dk_at dksX6_askOf_4 14 rfl rfl)
theorem dX6_askOf_109 : decode cX6_askOf 109 = .ok (.istore_n 1, 1) := dk_60 (dk_at dksX6_askOf_4 15 rfl rfl)
theorem dX6_askOf_110 : decode cX6_askOf 110 = .ok (.iinc 2 1, 3) := dk_132 2 1 (dk_at dksX6_askOf_4 16 rfl rfl)
theorem dX6_askOf_113 : decode cX6_askOf 113 = .ok (.goto (-101), 3) := dk_167 255 155 (dk_at dksX6_askOf_4 19 rfl rfl)
theorem dX6_askOf_116 : decode cX6_askOf 116 = .ok (.iload_n 1, 1) := dk_27 (dk_at dksX6_askOf_4 22 rfl rfl)
theorem dX6_askOf_117 : decode cX6_askOf 117 = .ok (.ireturn, 1) := dk_172 (dk_at dksX6_askOf_4 23 rfl rfl)
abbrev cX6_doubts : ByteArray := prog_14_method_100_code
def yX6_doubts : MethodName := ⟨RX6, "doubts", "(I)I"⟩
def dkwX6_doubts_0 : List UInt8 := [42, 27, 182, 1, 77, 61, 28, 156, 0, 5, 28, 172, 42, 182, 1, 83, 87, 42, 180, 1, 80, 172]
abbrev dktX6_doubts_0 : List UInt8 := dkwX6_doubts_0 ++ []
theorem dksX6_doubts_0 : cX6_doubts.data.toList.drop 0 = dktX6_doubts_0 := by decide +kernel
theorem dX6_doubts_0 : decode cX6_doubts 0 = .ok (.aload_n 0, 1) := dk_42 (dk_at dksX6_doubts_0 0 rfl rfl)
theorem dX6_doubts_1 : decode cX6_doubts 1 = .ok (.iload_n 1, 1) := dk_27 (dk_at dksX6_doubts_0 1 rfl rfl)
theorem dX6_doubts_2 : decode cX6_doubts 2 = .ok (.invokevirtual 333, 3) := dk_182 1 77 (dk_at dksX6_doubts_0 2 rfl rfl)
theorem dX6_doubts_5 : decode cX6_doubts 5 = .ok (.istore_n 2, 1) := dk_61 (dk_at dksX6_doubts_0 5 rfl rfl)
theorem dX6_doubts_6 : decode cX6_doubts 6 = .ok (.iload_n 2, 1) := dk_28 (dk_at dksX6_doubts_0 6 rfl rfl)
theorem dX6_doubts_7 : decode cX6_doubts 7 = .ok (.ifCond .ge 5, 3) := dk_156 0 5 (dk_at dksX6_doubts_0 7 rfl rfl)
theorem dX6_doubts_10 : decode cX6_doubts 10 = .ok (.iload_n 2, 1) := dk_28 (dk_at dksX6_doubts_0 10 rfl rfl)
theorem dX6_doubts_11 : decode cX6_doubts 11 = .ok (.ireturn, 1) := dk_172 (dk_at dksX6_doubts_0 11 rfl rfl)
theorem dX6_doubts_12 : decode cX6_doubts 12 = .ok (.aload_n 0, 1) := dk_42 (dk_at dksX6_doubts_0 12 rfl rfl)
theorem dX6_doubts_13 : decode cX6_doubts 13 = .ok (.invokevirtual 339, 3) := dk_182 1 83 (dk_at dksX6_doubts_0 13 rfl rfl)
theorem dX6_doubts_16 : decode cX6_doubts 16 = .ok (.pop, 1) := dk_87 (dk_at dksX6_doubts_0 16 rfl rfl)
theorem dX6_doubts_17 : decode cX6_doubts 17 = .ok (.aload_n 0, 1) := dk_42 (dk_at dksX6_doubts_0 17 rfl rfl)
theorem dX6_doubts_18 : decode cX6_doubts 18 = .ok (.getfield 336, 3) := dk_180 1 80 (dk_at dksX6_doubts_0 18 rfl rfl)
theorem dX6_doubts_21 : decode cX6_doubts 21 = .ok (.ireturn, 1) := dk_172 (dk_at dksX6_doubts_0 21 rfl rfl)
abbrev cX6_turn : ByteArray := prog_14_method_102_code
def yX6_turn : MethodName := ⟨RX6, "turn", "(III)I"⟩
def dkwX6_turn_0 : List UInt8 := [42, 27, 28, 29, 182, 1, 89, 172]
abbrev dktX6_turn_0 : List UInt8 := dkwX6_turn_0 ++ []
theorem dksX6_turn_0 : cX6_turn.data.toList.drop 0 = dktX6_turn_0 := by decide +kernel
theorem dX6_turn_0 : decode cX6_turn 0 = .ok (.aload_n 0, 1) := dk_42 (dk_at dksX6_turn_0 0 rfl rfl)
theorem dX6_turn_1 : decode cX6_turn 1 = .ok (.iload_n 1, 1) := dk_27 (dk_at dksX6_turn_0 1 rfl rfl)
theorem dX6_turn_2 : decode cX6_turn 2 = .ok (.iload_n 2, 1) := dk_28 (dk_at dksX6_turn_0 2 rfl rfl)
theorem dX6_turn_3 : decode cX6_turn 3 = .ok (.iload_n 3, 1) := dk_29 (dk_at dksX6_turn_0 3 rfl rfl)
theorem dX6_turn_4 : decode cX6_turn 4 = .ok (.invokevirtual 345, 3) := dk_182 1 89 (dk_at dksX6_turn_0 4 rfl rfl)
theorem dX6_turn_7 : decode cX6_turn 7 = .ok (.ireturn, 1) := dk_172 (dk_at dksX6_turn_0 7 rfl rfl)
abbrev cX6_layTurns : ByteArray := prog_14_method_101_code
def yX6_layTurns : MethodName := ⟨RX6, "layTurns", "(III)I"⟩
def dkwX6_layTurns_5 : List UInt8 := [181, 1, 86, 132, 5, 1, 132, 7, 1, 167, 255, 186, 132, 6, 1, 167, 255, 170, 21, 5, 172]
abbrev dktX6_layTurns_5 : List UInt8 := dkwX6_layTurns_5 ++ []
def dkwX6_layTurns_4 : List UInt8 := [167, 0, 30, 42, 21, 5, 154, 0, 14, 16, 10, 21, 6, 104, 21, 7, 96, 167, 0, 7, 42, 180, 1, 86]
abbrev dktX6_layTurns_4 : List UInt8 := dkwX6_layTurns_4 ++ dktX6_layTurns_5
def dkwX6_layTurns_3 : List UInt8 := [79, 42, 180, 0, 46, 28, 21, 7, 79, 42, 29, 3, 182, 1, 24, 42, 27, 182, 1, 74, 154, 0, 6]
abbrev dktX6_layTurns_3 : List UInt8 := dkwX6_layTurns_3 ++ dktX6_layTurns_4
def dkwX6_layTurns_2 : List UInt8 := [21, 6, 16, 9, 163, 0, 85, 3, 54, 7, 21, 7, 21, 6, 162, 0, 69, 42, 180, 0, 43, 28, 21, 6]
abbrev dktX6_layTurns_2 : List UInt8 := dkwX6_layTurns_2 ++ dktX6_layTurns_3
def dkwX6_layTurns_1 : List UInt8 := [182, 1, 67, 54, 4, 21, 4, 156, 0, 6, 21, 4, 172, 42, 2, 181, 1, 86, 3, 54, 5, 4, 54, 6]
abbrev dktX6_layTurns_1 : List UInt8 := dkwX6_layTurns_1 ++ dktX6_layTurns_2
def dkwX6_layTurns_0 : List UInt8 := [42, 27, 42, 28, 182, 0, 226, 153, 0, 16, 42, 29, 133, 182, 0, 219, 153, 0, 7, 4, 167, 0, 4, 3]
abbrev dktX6_layTurns_0 : List UInt8 := dkwX6_layTurns_0 ++ dktX6_layTurns_1
theorem dksX6_layTurns_0 : cX6_layTurns.data.toList.drop 0 = dktX6_layTurns_0 := by decide +kernel
theorem dksX6_layTurns_1 : cX6_layTurns.data.toList.drop 24 = dktX6_layTurns_1 := dk_seg dksX6_layTurns_0 24 rfl rfl
theorem dksX6_layTurns_2 : cX6_layTurns.data.toList.drop 48 = dktX6_layTurns_2 := dk_seg dksX6_layTurns_1 24 rfl rfl
theorem dksX6_layTurns_3 : cX6_layTurns.data.toList.drop 72 = dktX6_layTurns_3 := dk_seg dksX6_layTurns_2 24 rfl rfl
theorem dksX6_layTurns_4 : cX6_layTurns.data.toList.drop 95 = dktX6_layTurns_4 := dk_seg dksX6_layTurns_3 23 rfl rfl
theorem dksX6_layTurns_5 : cX6_layTurns.data.toList.drop 119 = dktX6_layTurns_5 := dk_seg dksX6_layTurns_4 24 rfl rfl
theorem dX6_layTurns_0 : decode cX6_layTurns 0 = .ok (.aload_n 0, 1) := dk_42 (dk_at dksX6_layTurns_0 0 rfl rfl)
theorem dX6_layTurns_1 : decode cX6_layTurns 1 = .ok (.iload_n 1, 1) := dk_27 (dk_at dksX6_layTurns_0 1 rfl rfl)
theorem dX6_layTurns_2 : decode cX6_layTurns 2 = .ok (.aload_n 0, 1) := dk_42 (dk_at dksX6_layTurns_0 2 rfl rfl)
theorem dX6_layTurns_3 : decode cX6_layTurns 3 = .ok (.iload_n 2, 1) := dk_28 (dk_at dksX6_layTurns_0 3 rfl rfl)
theorem dX6_layTurns_4 : decode cX6_layTurns 4 = .ok (.invokevirtual 226, 3) := dk_182 0 226 (dk_at dksX6_layTurns_0 4 rfl rfl)
theorem dX6_layTurns_7 : decode cX6_layTurns 7 = .ok (.ifCond .eq 16, 3) := dk_153 0 16 (dk_at dksX6_layTurns_0 7 rfl rfl)
theorem dX6_layTurns_10 : decode cX6_layTurns 10 = .ok (.aload_n 0, 1) := dk_42 (dk_at dksX6_layTurns_0 10 rfl rfl)
theorem dX6_layTurns_11 : decode cX6_layTurns 11 = .ok (.iload_n 3, 1) := dk_29 (dk_at dksX6_layTurns_0 11 rfl rfl)
theorem dX6_layTurns_12 : decode cX6_layTurns 12 = .ok (.i2l, 1) := dk_133 (dk_at dksX6_layTurns_0 12 rfl rfl)
theorem dX6_layTurns_13 : decode cX6_layTurns 13 = .ok (.invokevirtual 219, 3) := dk_182 0 219 (dk_at dksX6_layTurns_0 13 rfl rfl)
theorem dX6_layTurns_16 : decode cX6_layTurns 16 = .ok (.ifCond .eq 7, 3) := dk_153 0 7 (dk_at dksX6_layTurns_0 16 rfl rfl)
theorem dX6_layTurns_19 : decode cX6_layTurns 19 = .ok (.iconst 1, 1) := dk_4 (dk_at dksX6_layTurns_0 19 rfl rfl)
theorem dX6_layTurns_20 : decode cX6_layTurns 20 = .ok (.goto 4, 3) := dk_167 0 4 (dk_at dksX6_layTurns_0 20 rfl rfl)
theorem dX6_layTurns_23 : decode cX6_layTurns 23 = .ok (.iconst 0, 1) := dk_3 (dk_at dksX6_layTurns_0 23 rfl rfl)
theorem dX6_layTurns_24 : decode cX6_layTurns 24 = .ok (.invokevirtual 323, 3) := dk_182 1 67 (dk_at dksX6_layTurns_1 0 rfl rfl)
theorem dX6_layTurns_27 : decode cX6_layTurns 27 = .ok (.istore 4, 2) := dk_54 4 (dk_at dksX6_layTurns_1 3 rfl rfl)
theorem dX6_layTurns_29 : decode cX6_layTurns 29 = .ok (.iload 4, 2) := dk_21 4 (dk_at dksX6_layTurns_1 5 rfl rfl)
theorem dX6_layTurns_31 : decode cX6_layTurns 31 = .ok (.ifCond .ge 6, 3) := dk_156 0 6 (dk_at dksX6_layTurns_1 7 rfl rfl)
theorem dX6_layTurns_34 : decode cX6_layTurns 34 = .ok (.iload 4, 2) := dk_21 4 (dk_at dksX6_layTurns_1 10 rfl rfl)
theorem dX6_layTurns_36 : decode cX6_layTurns 36 = .ok (.ireturn, 1) := dk_172 (dk_at dksX6_layTurns_1 12 rfl rfl)
theorem dX6_layTurns_37 : decode cX6_layTurns 37 = .ok (.aload_n 0, 1) := dk_42 (dk_at dksX6_layTurns_1 13 rfl rfl)
theorem dX6_layTurns_38 : decode cX6_layTurns 38 = .ok (.iconst (-1), 1) := dk_2 (dk_at dksX6_layTurns_1 14 rfl rfl)
theorem dX6_layTurns_39 : decode cX6_layTurns 39 = .ok (.putfield 342, 3) := dk_181 1 86 (dk_at dksX6_layTurns_1 15 rfl rfl)
theorem dX6_layTurns_42 : decode cX6_layTurns 42 = .ok (.iconst 0, 1) := dk_3 (dk_at dksX6_layTurns_1 18 rfl rfl)
theorem dX6_layTurns_43 : decode cX6_layTurns 43 = .ok (.istore 5, 2) := dk_54 5 (dk_at dksX6_layTurns_1 19 rfl rfl)
theorem dX6_layTurns_45 : decode cX6_layTurns 45 = .ok (.iconst 1, 1) := dk_4 (dk_at dksX6_layTurns_1 21 rfl rfl)
theorem dX6_layTurns_46 : decode cX6_layTurns 46 = .ok (.istore 6, 2) := dk_54 6 (dk_at dksX6_layTurns_1 22 rfl rfl)
theorem dX6_layTurns_48 : decode cX6_layTurns 48 = .ok (.iload 6, 2) := dk_21 6 (dk_at dksX6_layTurns_2 0 rfl rfl)
theorem dX6_layTurns_50 : decode cX6_layTurns 50 = .ok (.bipush 9, 2) := dk_16 9 (dk_at dksX6_layTurns_2 2 rfl rfl)
theorem dX6_layTurns_52 : decode cX6_layTurns 52 = .ok (.if_icmp .gt 85, 3) := dk_163 0 85 (dk_at dksX6_layTurns_2 4 rfl rfl)
theorem dX6_layTurns_55 : decode cX6_layTurns 55 = .ok (.iconst 0, 1) := dk_3 (dk_at dksX6_layTurns_2 7 rfl rfl)
theorem dX6_layTurns_56 : decode cX6_layTurns 56 = .ok (.istore 7, 2) := dk_54 7 (dk_at dksX6_layTurns_2 8 rfl rfl)
theorem dX6_layTurns_58 : decode cX6_layTurns 58 = .ok (.iload 7, 2) := dk_21 7 (dk_at dksX6_layTurns_2 10 rfl rfl)
theorem dX6_layTurns_60 : decode cX6_layTurns 60 = .ok (.iload 6, 2) := dk_21 6 (dk_at dksX6_layTurns_2 12 rfl rfl)
theorem dX6_layTurns_62 : decode cX6_layTurns 62 = .ok (.if_icmp .ge 69, 3) := dk_162 0 69 (dk_at dksX6_layTurns_2 14 rfl rfl)
theorem dX6_layTurns_65 : decode cX6_layTurns 65 = .ok (.aload_n 0, 1) := dk_42 (dk_at dksX6_layTurns_2 17 rfl rfl)
theorem dX6_layTurns_66 : decode cX6_layTurns 66 = .ok (.getfield 43, 3) := dk_180 0 43 (dk_at dksX6_layTurns_2 18 rfl rfl)
theorem dX6_layTurns_69 : decode cX6_layTurns 69 = .ok (.iload_n 2, 1) := dk_28 (dk_at dksX6_layTurns_2 21 rfl rfl)
theorem dX6_layTurns_70 : decode cX6_layTurns 70 = .ok (.iload 6, 2) := dk_21 6 (dk_at dksX6_layTurns_2 22 rfl rfl)
theorem dX6_layTurns_72 : decode cX6_layTurns 72 = .ok (.iastore, 1) := dk_79 (dk_at dksX6_layTurns_3 0 rfl rfl)
theorem dX6_layTurns_73 : decode cX6_layTurns 73 = .ok (.aload_n 0, 1) := dk_42 (dk_at dksX6_layTurns_3 1 rfl rfl)
theorem dX6_layTurns_74 : decode cX6_layTurns 74 = .ok (.getfield 46, 3) := dk_180 0 46 (dk_at dksX6_layTurns_3 2 rfl rfl)
theorem dX6_layTurns_77 : decode cX6_layTurns 77 = .ok (.iload_n 2, 1) := dk_28 (dk_at dksX6_layTurns_3 5 rfl rfl)
theorem dX6_layTurns_78 : decode cX6_layTurns 78 = .ok (.iload 7, 2) := dk_21 7 (dk_at dksX6_layTurns_3 6 rfl rfl)
theorem dX6_layTurns_80 : decode cX6_layTurns 80 = .ok (.iastore, 1) := dk_79 (dk_at dksX6_layTurns_3 8 rfl rfl)
theorem dX6_layTurns_81 : decode cX6_layTurns 81 = .ok (.aload_n 0, 1) := dk_42 (dk_at dksX6_layTurns_3 9 rfl rfl)
theorem dX6_layTurns_82 : decode cX6_layTurns 82 = .ok (.iload_n 3, 1) := dk_29 (dk_at dksX6_layTurns_3 10 rfl rfl)
theorem dX6_layTurns_83 : decode cX6_layTurns 83 = .ok (.iconst 0, 1) := dk_3 (dk_at dksX6_layTurns_3 11 rfl rfl)
theorem dX6_layTurns_84 : decode cX6_layTurns 84 = .ok (.invokevirtual 280, 3) := dk_182 1 24 (dk_at dksX6_layTurns_3 12 rfl rfl)
theorem dX6_layTurns_87 : decode cX6_layTurns 87 = .ok (.aload_n 0, 1) := dk_42 (dk_at dksX6_layTurns_3 15 rfl rfl)
theorem dX6_layTurns_88 : decode cX6_layTurns 88 = .ok (.iload_n 1, 1) := dk_27 (dk_at dksX6_layTurns_3 16 rfl rfl)
theorem dX6_layTurns_89 : decode cX6_layTurns 89 = .ok (.invokevirtual 330, 3) := dk_182 1 74 (dk_at dksX6_layTurns_3 17 rfl rfl)
theorem dX6_layTurns_92 : decode cX6_layTurns 92 = .ok (.ifCond .ne 6, 3) := dk_154 0 6 (dk_at dksX6_layTurns_3 20 rfl rfl)
theorem dX6_layTurns_95 : decode cX6_layTurns 95 = .ok (.goto 30, 3) := dk_167 0 30 (dk_at dksX6_layTurns_4 0 rfl rfl)
theorem dX6_layTurns_98 : decode cX6_layTurns 98 = .ok (.aload_n 0, 1) := dk_42 (dk_at dksX6_layTurns_4 3 rfl rfl)
theorem dX6_layTurns_99 : decode cX6_layTurns 99 = .ok (.iload 5, 2) := dk_21 5 (dk_at dksX6_layTurns_4 4 rfl rfl)
theorem dX6_layTurns_101 : decode cX6_layTurns 101 = .ok (.ifCond .ne 14, 3) := dk_154 0 14 (dk_at dksX6_layTurns_4 6 rfl rfl)
theorem dX6_layTurns_104 : decode cX6_layTurns 104 = .ok (.bipush 10, 2) := dk_16 10 (dk_at dksX6_layTurns_4 9 rfl rfl)
theorem dX6_layTurns_106 : decode cX6_layTurns 106 = .ok (.iload 6, 2) := dk_21 6 (dk_at dksX6_layTurns_4 11 rfl rfl)
theorem dX6_layTurns_108 : decode cX6_layTurns 108 = .ok (.imul, 1) := dk_104 (dk_at dksX6_layTurns_4 13 rfl rfl)
theorem dX6_layTurns_109 : decode cX6_layTurns 109 = .ok (.iload 7, 2) := dk_21 7 (dk_at dksX6_layTurns_4 14 rfl rfl)
theorem dX6_layTurns_111 : decode cX6_layTurns 111 = .ok (.iadd, 1) := dk_96 (dk_at dksX6_layTurns_4 16 rfl rfl)
theorem dX6_layTurns_112 : decode cX6_layTurns 112 = .ok (.goto 7, 3) := dk_167 0 7 (dk_at dksX6_layTurns_4 17 rfl rfl)
theorem dX6_layTurns_115 : decode cX6_layTurns 115 = .ok (.aload_n 0, 1) := dk_42 (dk_at dksX6_layTurns_4 20 rfl rfl)
theorem dX6_layTurns_116 : decode cX6_layTurns 116 = .ok (.getfield 342, 3) := dk_180 1 86 (dk_at dksX6_layTurns_4 21 rfl rfl)
theorem dX6_layTurns_119 : decode cX6_layTurns 119 = .ok (.putfield 342, 3) := dk_181 1 86 (dk_at dksX6_layTurns_5 0 rfl rfl)
theorem dX6_layTurns_122 : decode cX6_layTurns 122 = .ok (.iinc 5 1, 3) := dk_132 5 1 (dk_at dksX6_layTurns_5 3 rfl rfl)
theorem dX6_layTurns_125 : decode cX6_layTurns 125 = .ok (.iinc 7 1, 3) := dk_132 7 1 (dk_at dksX6_layTurns_5 6 rfl rfl)
theorem dX6_layTurns_128 : decode cX6_layTurns 128 = .ok (.goto (-70), 3) := dk_167 255 186 (dk_at dksX6_layTurns_5 9 rfl rfl)
theorem dX6_layTurns_131 : decode cX6_layTurns 131 = .ok (.iinc 6 1, 3) := dk_132 6 1 (dk_at dksX6_layTurns_5 12 rfl rfl)
theorem dX6_layTurns_134 : decode cX6_layTurns 134 = .ok (.goto (-86), 3) := dk_167 255 170 (dk_at dksX6_layTurns_5 15 rfl rfl)
theorem dX6_layTurns_137 : decode cX6_layTurns 137 = .ok (.iload 5, 2) := dk_21 5 (dk_at dksX6_layTurns_5 18 rfl rfl)
theorem dX6_layTurns_139 : decode cX6_layTurns 139 = .ok (.ireturn, 1) := dk_172 (dk_at dksX6_layTurns_5 20 rfl rfl)
abbrev cX6_turned : ByteArray := prog_14_method_103_code
def yX6_turned : MethodName := ⟨RX6, "turned", "(III)I"⟩
def dkwX6_turned_0 : List UInt8 := [42, 27, 28, 29, 182, 1, 89, 54, 4, 21, 4, 156, 0, 8, 21, 4, 167, 0, 7, 42, 180, 1, 86, 172]
abbrev dktX6_turned_0 : List UInt8 := dkwX6_turned_0 ++ []
theorem dksX6_turned_0 : cX6_turned.data.toList.drop 0 = dktX6_turned_0 := by decide +kernel
theorem dX6_turned_0 : decode cX6_turned 0 = .ok (.aload_n 0, 1) := dk_42 (dk_at dksX6_turned_0 0 rfl rfl)
theorem dX6_turned_1 : decode cX6_turned 1 = .ok (.iload_n 1, 1) := dk_27 (dk_at dksX6_turned_0 1 rfl rfl)
theorem dX6_turned_2 : decode cX6_turned 2 = .ok (.iload_n 2, 1) := dk_28 (dk_at dksX6_turned_0 2 rfl rfl)
theorem dX6_turned_3 : decode cX6_turned 3 = .ok (.iload_n 3, 1) := dk_29 (dk_at dksX6_turned_0 3 rfl rfl)
theorem dX6_turned_4 : decode cX6_turned 4 = .ok (.invokevirtual 345, 3) := dk_182 1 89 (dk_at dksX6_turned_0 4 rfl rfl)
theorem dX6_turned_7 : decode cX6_turned 7 = .ok (.istore 4, 2) := dk_54 4 (dk_at dksX6_turned_0 7 rfl rfl)
theorem dX6_turned_9 : decode cX6_turned 9 = .ok (.iload 4, 2) := dk_21 4 (dk_at dksX6_turned_0 9 rfl rfl)
theorem dX6_turned_11 : decode cX6_turned 11 = .ok (.ifCond .ge 8, 3) := dk_156 0 8 (dk_at dksX6_turned_0 11 rfl rfl)
theorem dX6_turned_14 : decode cX6_turned 14 = .ok (.iload 4, 2) := dk_21 4 (dk_at dksX6_turned_0 14 rfl rfl)
theorem dX6_turned_16 : decode cX6_turned 16 = .ok (.goto 7, 3) := dk_167 0 7 (dk_at dksX6_turned_0 16 rfl rfl)
theorem dX6_turned_19 : decode cX6_turned 19 = .ok (.aload_n 0, 1) := dk_42 (dk_at dksX6_turned_0 19 rfl rfl)
theorem dX6_turned_20 : decode cX6_turned 20 = .ok (.getfield 342, 3) := dk_180 1 86 (dk_at dksX6_turned_0 20 rfl rfl)
theorem dX6_turned_23 : decode cX6_turned 23 = .ok (.ireturn, 1) := dk_172 (dk_at dksX6_turned_0 23 rfl rfl)
abbrev cX6_rests : ByteArray := prog_14_method_106_code
def yX6_rests : MethodName := ⟨RX6, "rests", "()I"⟩
def dkwX6_rests_1 : List UInt8 := [167, 0, 4, 3, 96, 60, 132, 2, 1, 167, 255, 227, 27, 172]
abbrev dktX6_rests_1 : List UInt8 := dkwX6_rests_1 ++ []
def dkwX6_rests_0 : List UInt8 := [3, 60, 3, 61, 28, 16, 25, 162, 0, 29, 27, 28, 8, 108, 28, 8, 112, 184, 1, 96, 153, 0, 7, 4]
abbrev dktX6_rests_0 : List UInt8 := dkwX6_rests_0 ++ dktX6_rests_1
theorem dksX6_rests_0 : cX6_rests.data.toList.drop 0 = dktX6_rests_0 := by decide +kernel
theorem dksX6_rests_1 : cX6_rests.data.toList.drop 24 = dktX6_rests_1 := dk_seg dksX6_rests_0 24 rfl rfl
theorem dX6_rests_0 : decode cX6_rests 0 = .ok (.iconst 0, 1) := dk_3 (dk_at dksX6_rests_0 0 rfl rfl)
theorem dX6_rests_1 : decode cX6_rests 1 = .ok (.istore_n 1, 1) := dk_60 (dk_at dksX6_rests_0 1 rfl rfl)
theorem dX6_rests_2 : decode cX6_rests 2 = .ok (.iconst 0, 1) := dk_3 (dk_at dksX6_rests_0 2 rfl rfl)
theorem dX6_rests_3 : decode cX6_rests 3 = .ok (.istore_n 2, 1) := dk_61 (dk_at dksX6_rests_0 3 rfl rfl)
theorem dX6_rests_4 : decode cX6_rests 4 = .ok (.iload_n 2, 1) := dk_28 (dk_at dksX6_rests_0 4 rfl rfl)
theorem dX6_rests_5 : decode cX6_rests 5 = .ok (.bipush 25, 2) := dk_16 25 (dk_at dksX6_rests_0 5 rfl rfl)
theorem dX6_rests_7 : decode cX6_rests 7 = .ok (.if_icmp .ge 29, 3) := dk_162 0 29 (dk_at dksX6_rests_0 7 rfl rfl)
theorem dX6_rests_10 : decode cX6_rests 10 = .ok (.iload_n 1, 1) := dk_27 (dk_at dksX6_rests_0 10 rfl rfl)
theorem dX6_rests_11 : decode cX6_rests 11 = .ok (.iload_n 2, 1) := dk_28 (dk_at dksX6_rests_0 11 rfl rfl)
theorem dX6_rests_12 : decode cX6_rests 12 = .ok (.iconst 5, 1) := dk_8 (dk_at dksX6_rests_0 12 rfl rfl)
theorem dX6_rests_13 : decode cX6_rests 13 = .ok (.idiv, 1) := dk_108 (dk_at dksX6_rests_0 13 rfl rfl)
theorem dX6_rests_14 : decode cX6_rests 14 = .ok (.iload_n 2, 1) := dk_28 (dk_at dksX6_rests_0 14 rfl rfl)
theorem dX6_rests_15 : decode cX6_rests 15 = .ok (.iconst 5, 1) := dk_8 (dk_at dksX6_rests_0 15 rfl rfl)
theorem dX6_rests_16 : decode cX6_rests 16 = .ok (.irem, 1) := dk_112 (dk_at dksX6_rests_0 16 rfl rfl)
theorem dX6_rests_17 : decode cX6_rests 17 = .ok (.invokestatic 352, 3) := dk_184 1 96 (dk_at dksX6_rests_0 17 rfl rfl)
theorem dX6_rests_20 : decode cX6_rests 20 = .ok (.ifCond .eq 7, 3) := dk_153 0 7 (dk_at dksX6_rests_0 20 rfl rfl)
theorem dX6_rests_23 : decode cX6_rests 23 = .ok (.iconst 1, 1) := dk_4 (dk_at dksX6_rests_0 23 rfl rfl)
theorem dX6_rests_24 : decode cX6_rests 24 = .ok (.goto 4, 3) := dk_167 0 4 (dk_at dksX6_rests_1 0 rfl rfl)
theorem dX6_rests_27 : decode cX6_rests 27 = .ok (.iconst 0, 1) := dk_3 (dk_at dksX6_rests_1 3 rfl rfl)
theorem dX6_rests_28 : decode cX6_rests 28 = .ok (.iadd, 1) := dk_96 (dk_at dksX6_rests_1 4 rfl rfl)
theorem dX6_rests_29 : decode cX6_rests 29 = .ok (.istore_n 1, 1) := dk_60 (dk_at dksX6_rests_1 5 rfl rfl)
theorem dX6_rests_30 : decode cX6_rests 30 = .ok (.iinc 2 1, 3) := dk_132 2 1 (dk_at dksX6_rests_1 6 rfl rfl)
theorem dX6_rests_33 : decode cX6_rests 33 = .ok (.goto (-29), 3) := dk_167 255 227 (dk_at dksX6_rests_1 9 rfl rfl)
theorem dX6_rests_36 : decode cX6_rests 36 = .ok (.iload_n 1, 1) := dk_27 (dk_at dksX6_rests_1 12 rfl rfl)
theorem dX6_rests_37 : decode cX6_rests 37 = .ok (.ireturn, 1) := dk_172 (dk_at dksX6_rests_1 13 rfl rfl)
abbrev cX6_isRest : ByteArray := prog_14_method_105_code
def yX6_isRest : MethodName := ⟨RX6, "isRest", "(II)Z"⟩
def dkwX6_isRest_1 : List UInt8 := [184, 1, 93, 27, 26, 184, 1, 93, 164, 0, 5, 3, 172, 132, 2, 1, 167, 255, 220, 4, 172]
abbrev dktX6_isRest_1 : List UInt8 := dkwX6_isRest_1 ++ []
def dkwX6_isRest_0 : List UInt8 := [3, 61, 28, 8, 162, 0, 37, 28, 27, 184, 1, 93, 26, 27, 184, 1, 93, 163, 0, 16, 28, 26]
abbrev dktX6_isRest_0 : List UInt8 := dkwX6_isRest_0 ++ dktX6_isRest_1
theorem dksX6_isRest_0 : cX6_isRest.data.toList.drop 0 = dktX6_isRest_0 := by decide +kernel
theorem dksX6_isRest_1 : cX6_isRest.data.toList.drop 22 = dktX6_isRest_1 := dk_seg dksX6_isRest_0 22 rfl rfl
theorem dX6_isRest_0 : decode cX6_isRest 0 = .ok (.iconst 0, 1) := dk_3 (dk_at dksX6_isRest_0 0 rfl rfl)
theorem dX6_isRest_1 : decode cX6_isRest 1 = .ok (.istore_n 2, 1) := dk_61 (dk_at dksX6_isRest_0 1 rfl rfl)
theorem dX6_isRest_2 : decode cX6_isRest 2 = .ok (.iload_n 2, 1) := dk_28 (dk_at dksX6_isRest_0 2 rfl rfl)
theorem dX6_isRest_3 : decode cX6_isRest 3 = .ok (.iconst 5, 1) := dk_8 (dk_at dksX6_isRest_0 3 rfl rfl)
theorem dX6_isRest_4 : decode cX6_isRest 4 = .ok (.if_icmp .ge 37, 3) := dk_162 0 37 (dk_at dksX6_isRest_0 4 rfl rfl)
theorem dX6_isRest_7 : decode cX6_isRest 7 = .ok (.iload_n 2, 1) := dk_28 (dk_at dksX6_isRest_0 7 rfl rfl)
theorem dX6_isRest_8 : decode cX6_isRest 8 = .ok (.iload_n 1, 1) := dk_27 (dk_at dksX6_isRest_0 8 rfl rfl)
theorem dX6_isRest_9 : decode cX6_isRest 9 = .ok (.invokestatic 349, 3) := dk_184 1 93 (dk_at dksX6_isRest_0 9 rfl rfl)
theorem dX6_isRest_12 : decode cX6_isRest 12 = .ok (.iload_n 0, 1) := dk_26 (dk_at dksX6_isRest_0 12 rfl rfl)
theorem dX6_isRest_13 : decode cX6_isRest 13 = .ok (.iload_n 1, 1) := dk_27 (dk_at dksX6_isRest_0 13 rfl rfl)
theorem dX6_isRest_14 : decode cX6_isRest 14 = .ok (.invokestatic 349, 3) := dk_184 1 93 (dk_at dksX6_isRest_0 14 rfl rfl)
theorem dX6_isRest_17 : decode cX6_isRest 17 = .ok (.if_icmp .gt 16, 3) := dk_163 0 16 (dk_at dksX6_isRest_0 17 rfl rfl)
theorem dX6_isRest_20 : decode cX6_isRest 20 = .ok (.iload_n 2, 1) := dk_28 (dk_at dksX6_isRest_0 20 rfl rfl)
theorem dX6_isRest_21 : decode cX6_isRest 21 = .ok (.iload_n 0, 1) := dk_26 (dk_at dksX6_isRest_0 21 rfl rfl)
theorem dX6_isRest_22 : decode cX6_isRest 22 = .ok (.invokestatic 349, 3) := dk_184 1 93 (dk_at dksX6_isRest_1 0 rfl rfl)
theorem dX6_isRest_25 : decode cX6_isRest 25 = .ok (.iload_n 1, 1) := dk_27 (dk_at dksX6_isRest_1 3 rfl rfl)
theorem dX6_isRest_26 : decode cX6_isRest 26 = .ok (.iload_n 0, 1) := dk_26 (dk_at dksX6_isRest_1 4 rfl rfl)
theorem dX6_isRest_27 : decode cX6_isRest 27 = .ok (.invokestatic 349, 3) := dk_184 1 93 (dk_at dksX6_isRest_1 5 rfl rfl)
theorem dX6_isRest_30 : decode cX6_isRest 30 = .ok (.if_icmp .le 5, 3) := dk_164 0 5 (dk_at dksX6_isRest_1 8 rfl rfl)
theorem dX6_isRest_33 : decode cX6_isRest 33 = .ok (.iconst 0, 1) := dk_3 (dk_at dksX6_isRest_1 11 rfl rfl)
theorem dX6_isRest_34 : decode cX6_isRest 34 = .ok (.ireturn, 1) := dk_172 (dk_at dksX6_isRest_1 12 rfl rfl)
theorem dX6_isRest_35 : decode cX6_isRest 35 = .ok (.iinc 2 1, 3) := dk_132 2 1 (dk_at dksX6_isRest_1 13 rfl rfl)
theorem dX6_isRest_38 : decode cX6_isRest 38 = .ok (.goto (-36), 3) := dk_167 255 220 (dk_at dksX6_isRest_1 16 rfl rfl)
theorem dX6_isRest_41 : decode cX6_isRest 41 = .ok (.iconst 1, 1) := dk_4 (dk_at dksX6_isRest_1 19 rfl rfl)
theorem dX6_isRest_42 : decode cX6_isRest 42 = .ok (.ireturn, 1) := dk_172 (dk_at dksX6_isRest_1 20 rfl rfl)
abbrev cX6_hasBy : ByteArray := prog_14_method_104_code
def yX6_hasBy : MethodName := ⟨RX6, "hasBy", "(II)I"⟩
def dkwX6_hasBy_0 : List UInt8 := [16, 6, 26, 104, 26, 26, 27, 96, 104, 100, 172]
abbrev dktX6_hasBy_0 : List UInt8 := dkwX6_hasBy_0 ++ []
theorem dksX6_hasBy_0 : cX6_hasBy.data.toList.drop 0 = dktX6_hasBy_0 := by decide +kernel
theorem dX6_hasBy_0 : decode cX6_hasBy 0 = .ok (.bipush 6, 2) := dk_16 6 (dk_at dksX6_hasBy_0 0 rfl rfl)
theorem dX6_hasBy_2 : decode cX6_hasBy 2 = .ok (.iload_n 0, 1) := dk_26 (dk_at dksX6_hasBy_0 2 rfl rfl)
theorem dX6_hasBy_3 : decode cX6_hasBy 3 = .ok (.imul, 1) := dk_104 (dk_at dksX6_hasBy_0 3 rfl rfl)
theorem dX6_hasBy_4 : decode cX6_hasBy 4 = .ok (.iload_n 0, 1) := dk_26 (dk_at dksX6_hasBy_0 4 rfl rfl)
theorem dX6_hasBy_5 : decode cX6_hasBy 5 = .ok (.iload_n 0, 1) := dk_26 (dk_at dksX6_hasBy_0 5 rfl rfl)
theorem dX6_hasBy_6 : decode cX6_hasBy 6 = .ok (.iload_n 1, 1) := dk_27 (dk_at dksX6_hasBy_0 6 rfl rfl)
theorem dX6_hasBy_7 : decode cX6_hasBy 7 = .ok (.iadd, 1) := dk_96 (dk_at dksX6_hasBy_0 7 rfl rfl)
theorem dX6_hasBy_8 : decode cX6_hasBy 8 = .ok (.imul, 1) := dk_104 (dk_at dksX6_hasBy_0 8 rfl rfl)
theorem dX6_hasBy_9 : decode cX6_hasBy 9 = .ok (.isub, 1) := dk_100 (dk_at dksX6_hasBy_0 9 rfl rfl)
theorem dX6_hasBy_10 : decode cX6_hasBy 10 = .ok (.ireturn, 1) := dk_172 (dk_at dksX6_hasBy_0 10 rfl rfl)
abbrev cX6_rest : ByteArray := prog_14_method_107_code
def yX6_rest : MethodName := ⟨RX6, "rest", "()I"⟩
def dkwX6_rest_1 : List UInt8 := [108, 104, 27, 8, 112, 96, 172, 132, 1, 1, 167, 255, 224, 2, 172]
abbrev dktX6_rest_1 : List UInt8 := dkwX6_rest_1 ++ []
def dkwX6_rest_0 : List UInt8 := [3, 60, 27, 16, 25, 162, 0, 32, 27, 8, 108, 27, 8, 112, 184, 1, 96, 153, 0, 14, 16, 10, 27, 8]
abbrev dktX6_rest_0 : List UInt8 := dkwX6_rest_0 ++ dktX6_rest_1
theorem dksX6_rest_0 : cX6_rest.data.toList.drop 0 = dktX6_rest_0 := by decide +kernel
theorem dksX6_rest_1 : cX6_rest.data.toList.drop 24 = dktX6_rest_1 := dk_seg dksX6_rest_0 24 rfl rfl
theorem dX6_rest_0 : decode cX6_rest 0 = .ok (.iconst 0, 1) := dk_3 (dk_at dksX6_rest_0 0 rfl rfl)
theorem dX6_rest_1 : decode cX6_rest 1 = .ok (.istore_n 1, 1) := dk_60 (dk_at dksX6_rest_0 1 rfl rfl)
theorem dX6_rest_2 : decode cX6_rest 2 = .ok (.iload_n 1, 1) := dk_27 (dk_at dksX6_rest_0 2 rfl rfl)
theorem dX6_rest_3 : decode cX6_rest 3 = .ok (.bipush 25, 2) := dk_16 25 (dk_at dksX6_rest_0 3 rfl rfl)
theorem dX6_rest_5 : decode cX6_rest 5 = .ok (.if_icmp .ge 32, 3) := dk_162 0 32 (dk_at dksX6_rest_0 5 rfl rfl)
theorem dX6_rest_8 : decode cX6_rest 8 = .ok (.iload_n 1, 1) := dk_27 (dk_at dksX6_rest_0 8 rfl rfl)
theorem dX6_rest_9 : decode cX6_rest 9 = .ok (.iconst 5, 1) := dk_8 (dk_at dksX6_rest_0 9 rfl rfl)
theorem dX6_rest_10 : decode cX6_rest 10 = .ok (.idiv, 1) := dk_108 (dk_at dksX6_rest_0 10 rfl rfl)
theorem dX6_rest_11 : decode cX6_rest 11 = .ok (.iload_n 1, 1) := dk_27 (dk_at dksX6_rest_0 11 rfl rfl)
theorem dX6_rest_12 : decode cX6_rest 12 = .ok (.iconst 5, 1) := dk_8 (dk_at dksX6_rest_0 12 rfl rfl)
theorem dX6_rest_13 : decode cX6_rest 13 = .ok (.irem, 1) := dk_112 (dk_at dksX6_rest_0 13 rfl rfl)
theorem dX6_rest_14 : decode cX6_rest 14 = .ok (.invokestatic 352, 3) := dk_184 1 96 (dk_at dksX6_rest_0 14 rfl rfl)
theorem dX6_rest_17 : decode cX6_rest 17 = .ok (.ifCond .eq 14, 3) := dk_153 0 14 (dk_at dksX6_rest_0 17 rfl rfl)
theorem dX6_rest_20 : decode cX6_rest 20 = .ok (.bipush 10, 2) := dk_16 10 (dk_at dksX6_rest_0 20 rfl rfl)
theorem dX6_rest_22 : decode cX6_rest 22 = .ok (.iload_n 1, 1) := dk_27 (dk_at dksX6_rest_0 22 rfl rfl)
theorem dX6_rest_23 : decode cX6_rest 23 = .ok (.iconst 5, 1) := dk_8 (dk_at dksX6_rest_0 23 rfl rfl)
theorem dX6_rest_24 : decode cX6_rest 24 = .ok (.idiv, 1) := dk_108 (dk_at dksX6_rest_1 0 rfl rfl)
theorem dX6_rest_25 : decode cX6_rest 25 = .ok (.imul, 1) := dk_104 (dk_at dksX6_rest_1 1 rfl rfl)
theorem dX6_rest_26 : decode cX6_rest 26 = .ok (.iload_n 1, 1) := dk_27 (dk_at dksX6_rest_1 2 rfl rfl)
theorem dX6_rest_27 : decode cX6_rest 27 = .ok (.iconst 5, 1) := dk_8 (dk_at dksX6_rest_1 3 rfl rfl)
theorem dX6_rest_28 : decode cX6_rest 28 = .ok (.irem, 1) := dk_112 (dk_at dksX6_rest_1 4 rfl rfl)
theorem dX6_rest_29 : decode cX6_rest 29 = .ok (.iadd, 1) := dk_96 (dk_at dksX6_rest_1 5 rfl rfl)
theorem dX6_rest_30 : decode cX6_rest 30 = .ok (.ireturn, 1) := dk_172 (dk_at dksX6_rest_1 6 rfl rfl)
theorem dX6_rest_31 : decode cX6_rest 31 = .ok (.iinc 1 1, 3) := dk_132 1 1 (dk_at dksX6_rest_1 7 rfl rfl)
theorem dX6_rest_34 : decode cX6_rest 34 = .ok (.goto (-32), 3) := dk_167 255 224 (dk_at dksX6_rest_1 10 rfl rfl)
theorem dX6_rest_37 : decode cX6_rest 37 = .ok (.iconst (-1), 1) := dk_2 (dk_at dksX6_rest_1 13 rfl rfl)
theorem dX6_rest_38 : decode cX6_rest 38 = .ok (.ireturn, 1) := dk_172 (dk_at dksX6_rest_1 14 rfl rfl)
abbrev cX6_has : ByteArray := prog_14_method_108_code
def yX6_has : MethodName := ⟨RX6, "has", "(II)I"⟩
def dkwX6_has_1 : List UInt8 := [27, 28, 184, 1, 93, 167, 0, 6, 17, 252, 24, 172]
abbrev dktX6_has_1 : List UInt8 := dkwX6_has_1 ++ []
def dkwX6_has_0 : List UInt8 := [27, 133, 9, 20, 1, 99, 184, 0, 92, 153, 0, 23, 28, 133, 9, 20, 1, 99, 184, 0, 92, 153, 0, 11]
abbrev dktX6_has_0 : List UInt8 := dkwX6_has_0 ++ dktX6_has_1
theorem dksX6_has_0 : cX6_has.data.toList.drop 0 = dktX6_has_0 := by decide +kernel
theorem dksX6_has_1 : cX6_has.data.toList.drop 24 = dktX6_has_1 := dk_seg dksX6_has_0 24 rfl rfl
theorem dX6_has_0 : decode cX6_has 0 = .ok (.iload_n 1, 1) := dk_27 (dk_at dksX6_has_0 0 rfl rfl)
theorem dX6_has_1 : decode cX6_has 1 = .ok (.i2l, 1) := dk_133 (dk_at dksX6_has_0 1 rfl rfl)
theorem dX6_has_2 : decode cX6_has 2 = .ok (.lconst 0, 1) := dk_9 (dk_at dksX6_has_0 2 rfl rfl)
theorem dX6_has_3 : decode cX6_has 3 = .ok (.ldc2_w 355, 3) := dk_20 1 99 (dk_at dksX6_has_0 3 rfl rfl)
theorem dX6_has_6 : decode cX6_has 6 = .ok (.invokestatic 92, 3) := dk_184 0 92 (dk_at dksX6_has_0 6 rfl rfl)
theorem dX6_has_9 : decode cX6_has 9 = .ok (.ifCond .eq 23, 3) := dk_153 0 23 (dk_at dksX6_has_0 9 rfl rfl)
theorem dX6_has_12 : decode cX6_has 12 = .ok (.iload_n 2, 1) := dk_28 (dk_at dksX6_has_0 12 rfl rfl)
theorem dX6_has_13 : decode cX6_has 13 = .ok (.i2l, 1) := dk_133 (dk_at dksX6_has_0 13 rfl rfl)
theorem dX6_has_14 : decode cX6_has 14 = .ok (.lconst 0, 1) := dk_9 (dk_at dksX6_has_0 14 rfl rfl)
theorem dX6_has_15 : decode cX6_has 15 = .ok (.ldc2_w 355, 3) := dk_20 1 99 (dk_at dksX6_has_0 15 rfl rfl)
theorem dX6_has_18 : decode cX6_has 18 = .ok (.invokestatic 92, 3) := dk_184 0 92 (dk_at dksX6_has_0 18 rfl rfl)
theorem dX6_has_21 : decode cX6_has 21 = .ok (.ifCond .eq 11, 3) := dk_153 0 11 (dk_at dksX6_has_0 21 rfl rfl)
theorem dX6_has_24 : decode cX6_has 24 = .ok (.iload_n 1, 1) := dk_27 (dk_at dksX6_has_1 0 rfl rfl)
theorem dX6_has_25 : decode cX6_has 25 = .ok (.iload_n 2, 1) := dk_28 (dk_at dksX6_has_1 1 rfl rfl)
theorem dX6_has_26 : decode cX6_has 26 = .ok (.invokestatic 349, 3) := dk_184 1 93 (dk_at dksX6_has_1 2 rfl rfl)
theorem dX6_has_29 : decode cX6_has 29 = .ok (.goto 6, 3) := dk_167 0 6 (dk_at dksX6_has_1 5 rfl rfl)
theorem dX6_has_32 : decode cX6_has 32 = .ok (.sipush (-1000), 3) := dk_17 252 24 (dk_at dksX6_has_1 8 rfl rfl)
theorem dX6_has_35 : decode cX6_has 35 = .ok (.ireturn, 1) := dk_172 (dk_at dksX6_has_1 11 rfl rfl)
abbrev cX6_answer : ByteArray := prog_14_method_109_code
def yX6_answer : MethodName := ⟨RX6, "answer", "(I)I"⟩
def dkwX6_answer_2 : List UInt8 := [167, 255, 229, 28, 172]
abbrev dktX6_answer_2 : List UInt8 := dkwX6_answer_2 ++ []
def dkwX6_answer_1 : List UInt8 := [29, 27, 184, 1, 93, 28, 27, 184, 1, 93, 164, 0, 7, 29, 167, 0, 4, 28, 61, 132, 3, 1]
abbrev dktX6_answer_1 : List UInt8 := dkwX6_answer_1 ++ dktX6_answer_2
def dkwX6_answer_0 : List UInt8 := [27, 133, 9, 20, 1, 99, 184, 0, 92, 154, 0, 6, 16, 254, 172, 3, 61, 4, 62, 29, 8, 162, 0, 28]
abbrev dktX6_answer_0 : List UInt8 := dkwX6_answer_0 ++ dktX6_answer_1
theorem dksX6_answer_0 : cX6_answer.data.toList.drop 0 = dktX6_answer_0 := by decide +kernel
theorem dksX6_answer_1 : cX6_answer.data.toList.drop 24 = dktX6_answer_1 := dk_seg dksX6_answer_0 24 rfl rfl
theorem dksX6_answer_2 : cX6_answer.data.toList.drop 46 = dktX6_answer_2 := dk_seg dksX6_answer_1 22 rfl rfl
theorem dX6_answer_0 : decode cX6_answer 0 = .ok (.iload_n 1, 1) := dk_27 (dk_at dksX6_answer_0 0 rfl rfl)
theorem dX6_answer_1 : decode cX6_answer 1 = .ok (.i2l, 1) := dk_133 (dk_at dksX6_answer_0 1 rfl rfl)
theorem dX6_answer_2 : decode cX6_answer 2 = .ok (.lconst 0, 1) := dk_9 (dk_at dksX6_answer_0 2 rfl rfl)
theorem dX6_answer_3 : decode cX6_answer 3 = .ok (.ldc2_w 355, 3) := dk_20 1 99 (dk_at dksX6_answer_0 3 rfl rfl)
theorem dX6_answer_6 : decode cX6_answer 6 = .ok (.invokestatic 92, 3) := dk_184 0 92 (dk_at dksX6_answer_0 6 rfl rfl)
theorem dX6_answer_9 : decode cX6_answer 9 = .ok (.ifCond .ne 6, 3) := dk_154 0 6 (dk_at dksX6_answer_0 9 rfl rfl)
theorem dX6_answer_12 : decode cX6_answer 12 = .ok (.bipush (-2), 2) := dk_16 254 (dk_at dksX6_answer_0 12 rfl rfl)
theorem dX6_answer_14 : decode cX6_answer 14 = .ok (.ireturn, 1) := dk_172 (dk_at dksX6_answer_0 14 rfl rfl)
theorem dX6_answer_15 : decode cX6_answer 15 = .ok (.iconst 0, 1) := dk_3 (dk_at dksX6_answer_0 15 rfl rfl)
theorem dX6_answer_16 : decode cX6_answer 16 = .ok (.istore_n 2, 1) := dk_61 (dk_at dksX6_answer_0 16 rfl rfl)
theorem dX6_answer_17 : decode cX6_answer 17 = .ok (.iconst 1, 1) := dk_4 (dk_at dksX6_answer_0 17 rfl rfl)
theorem dX6_answer_18 : decode cX6_answer 18 = .ok (.istore_n 3, 1) := dk_62 (dk_at dksX6_answer_0 18 rfl rfl)
theorem dX6_answer_19 : decode cX6_answer 19 = .ok (.iload_n 3, 1) := dk_29 (dk_at dksX6_answer_0 19 rfl rfl)
theorem dX6_answer_20 : decode cX6_answer 20 = .ok (.iconst 5, 1) := dk_8 (dk_at dksX6_answer_0 20 rfl rfl)
theorem dX6_answer_21 : decode cX6_answer 21 = .ok (.if_icmp .ge 28, 3) := dk_162 0 28 (dk_at dksX6_answer_0 21 rfl rfl)
theorem dX6_answer_24 : decode cX6_answer 24 = .ok (.iload_n 3, 1) := dk_29 (dk_at dksX6_answer_1 0 rfl rfl)
theorem dX6_answer_25 : decode cX6_answer 25 = .ok (.iload_n 1, 1) := dk_27 (dk_at dksX6_answer_1 1 rfl rfl)
theorem dX6_answer_26 : decode cX6_answer 26 = .ok (.invokestatic 349, 3) := dk_184 1 93 (dk_at dksX6_answer_1 2 rfl rfl)
theorem dX6_answer_29 : decode cX6_answer 29 = .ok (.iload_n 2, 1) := dk_28 (dk_at dksX6_answer_1 5 rfl rfl)
theorem dX6_answer_30 : decode cX6_answer 30 = .ok (.iload_n 1, 1) := dk_27 (dk_at dksX6_answer_1 6 rfl rfl)
theorem dX6_answer_31 : decode cX6_answer 31 = .ok (.invokestatic 349, 3) := dk_184 1 93 (dk_at dksX6_answer_1 7 rfl rfl)
theorem dX6_answer_34 : decode cX6_answer 34 = .ok (.if_icmp .le 7, 3) := dk_164 0 7 (dk_at dksX6_answer_1 10 rfl rfl)
theorem dX6_answer_37 : decode cX6_answer 37 = .ok (.iload_n 3, 1) := dk_29 (dk_at dksX6_answer_1 13 rfl rfl)
theorem dX6_answer_38 : decode cX6_answer 38 = .ok (.goto 4, 3) := dk_167 0 4 (dk_at dksX6_answer_1 14 rfl rfl)
theorem dX6_answer_41 : decode cX6_answer 41 = .ok (.iload_n 2, 1) := dk_28 (dk_at dksX6_answer_1 17 rfl rfl)
theorem dX6_answer_42 : decode cX6_answer 42 = .ok (.istore_n 2, 1) := dk_61 (dk_at dksX6_answer_1 18 rfl rfl)
theorem dX6_answer_43 : decode cX6_answer 43 = .ok (.iinc 3 1, 3) := dk_132 3 1 (dk_at dksX6_answer_1 19 rfl rfl)
theorem dX6_answer_46 : decode cX6_answer 46 = .ok (.goto (-27), 3) := dk_167 255 229 (dk_at dksX6_answer_2 0 rfl rfl)
theorem dX6_answer_49 : decode cX6_answer 49 = .ok (.iload_n 2, 1) := dk_28 (dk_at dksX6_answer_2 3 rfl rfl)
theorem dX6_answer_50 : decode cX6_answer 50 = .ok (.ireturn, 1) := dk_172 (dk_at dksX6_answer_2 4 rfl rfl)
abbrev cX6_treaty : ByteArray := prog_14_method_110_code
def yX6_treaty : MethodName := ⟨RX6, "treaty", "()I"⟩
def dkwX6_treaty_1 : List UInt8 := [8, 108, 184, 1, 93, 96, 184, 0, 235, 60, 132, 2, 1, 167, 255, 223, 27, 172]
abbrev dktX6_treaty_1 : List UInt8 := dkwX6_treaty_1 ++ []
def dkwX6_treaty_0 : List UInt8 := [3, 60, 3, 61, 28, 16, 25, 162, 0, 33, 27, 28, 8, 108, 28, 8, 112, 184, 1, 93, 28, 8, 112, 28]
abbrev dktX6_treaty_0 : List UInt8 := dkwX6_treaty_0 ++ dktX6_treaty_1
theorem dksX6_treaty_0 : cX6_treaty.data.toList.drop 0 = dktX6_treaty_0 := by decide +kernel
theorem dksX6_treaty_1 : cX6_treaty.data.toList.drop 24 = dktX6_treaty_1 := dk_seg dksX6_treaty_0 24 rfl rfl
theorem dX6_treaty_0 : decode cX6_treaty 0 = .ok (.iconst 0, 1) := dk_3 (dk_at dksX6_treaty_0 0 rfl rfl)
theorem dX6_treaty_1 : decode cX6_treaty 1 = .ok (.istore_n 1, 1) := dk_60 (dk_at dksX6_treaty_0 1 rfl rfl)
theorem dX6_treaty_2 : decode cX6_treaty 2 = .ok (.iconst 0, 1) := dk_3 (dk_at dksX6_treaty_0 2 rfl rfl)
theorem dX6_treaty_3 : decode cX6_treaty 3 = .ok (.istore_n 2, 1) := dk_61 (dk_at dksX6_treaty_0 3 rfl rfl)
theorem dX6_treaty_4 : decode cX6_treaty 4 = .ok (.iload_n 2, 1) := dk_28 (dk_at dksX6_treaty_0 4 rfl rfl)
theorem dX6_treaty_5 : decode cX6_treaty 5 = .ok (.bipush 25, 2) := dk_16 25 (dk_at dksX6_treaty_0 5 rfl rfl)
theorem dX6_treaty_7 : decode cX6_treaty 7 = .ok (.if_icmp .ge 33, 3) := dk_162 0 33 (dk_at dksX6_treaty_0 7 rfl rfl)
theorem dX6_treaty_10 : decode cX6_treaty 10 = .ok (.iload_n 1, 1) := dk_27 (dk_at dksX6_treaty_0 10 rfl rfl)
theorem dX6_treaty_11 : decode cX6_treaty 11 = .ok (.iload_n 2, 1) := dk_28 (dk_at dksX6_treaty_0 11 rfl rfl)
theorem dX6_treaty_12 : decode cX6_treaty 12 = .ok (.iconst 5, 1) := dk_8 (dk_at dksX6_treaty_0 12 rfl rfl)
theorem dX6_treaty_13 : decode cX6_treaty 13 = .ok (.idiv, 1) := dk_108 (dk_at dksX6_treaty_0 13 rfl rfl)
theorem dX6_treaty_14 : decode cX6_treaty 14 = .ok (.iload_n 2, 1) := dk_28 (dk_at dksX6_treaty_0 14 rfl rfl)
theorem dX6_treaty_15 : decode cX6_treaty 15 = .ok (.iconst 5, 1) := dk_8 (dk_at dksX6_treaty_0 15 rfl rfl)
theorem dX6_treaty_16 : decode cX6_treaty 16 = .ok (.irem, 1) := dk_112 (dk_at dksX6_treaty_0 16 rfl rfl)
theorem dX6_treaty_17 : decode cX6_treaty 17 = .ok (.invokestatic 349, 3) := dk_184 1 93 (dk_at dksX6_treaty_0 17 rfl rfl)
theorem dX6_treaty_20 : decode cX6_treaty 20 = .ok (.iload_n 2, 1) := dk_28 (dk_at dksX6_treaty_0 20 rfl rfl)
theorem dX6_treaty_21 : decode cX6_treaty 21 = .ok (.iconst 5, 1) := dk_8 (dk_at dksX6_treaty_0 21 rfl rfl)
theorem dX6_treaty_22 : decode cX6_treaty 22 = .ok (.irem, 1) := dk_112 (dk_at dksX6_treaty_0 22 rfl rfl)
theorem dX6_treaty_23 : decode cX6_treaty 23 = .ok (.iload_n 2, 1) := dk_28 (dk_at dksX6_treaty_0 23 rfl rfl)
theorem dX6_treaty_24 : decode cX6_treaty 24 = .ok (.iconst 5, 1) := dk_8 (dk_at dksX6_treaty_1 0 rfl rfl)
theorem dX6_treaty_25 : decode cX6_treaty 25 = .ok (.idiv, 1) := dk_108 (dk_at dksX6_treaty_1 1 rfl rfl)
theorem dX6_treaty_26 : decode cX6_treaty 26 = .ok (.invokestatic 349, 3) := dk_184 1 93 (dk_at dksX6_treaty_1 2 rfl rfl)
theorem dX6_treaty_29 : decode cX6_treaty 29 = .ok (.iadd, 1) := dk_96 (dk_at dksX6_treaty_1 5 rfl rfl)
theorem dX6_treaty_30 : decode cX6_treaty 30 = .ok (.invokestatic 235, 3) := dk_184 0 235 (dk_at dksX6_treaty_1 6 rfl rfl)
theorem dX6_treaty_33 : decode cX6_treaty 33 = .ok (.istore_n 1, 1) := dk_60 (dk_at dksX6_treaty_1 9 rfl rfl)
theorem dX6_treaty_34 : decode cX6_treaty 34 = .ok (.iinc 2 1, 3) := dk_132 2 1 (dk_at dksX6_treaty_1 10 rfl rfl)
theorem dX6_treaty_37 : decode cX6_treaty 37 = .ok (.goto (-33), 3) := dk_167 255 223 (dk_at dksX6_treaty_1 13 rfl rfl)
theorem dX6_treaty_40 : decode cX6_treaty 40 = .ok (.iload_n 1, 1) := dk_27 (dk_at dksX6_treaty_1 16 rfl rfl)
theorem dX6_treaty_41 : decode cX6_treaty 41 = .ok (.ireturn, 1) := dk_172 (dk_at dksX6_treaty_1 17 rfl rfl)
abbrev cX6_chance : ByteArray := prog_14_method_115_code
def yX6_chance : MethodName := ⟨RX6, "chance", "(III)J"⟩
def dkwX6_chance_4 : List UInt8 := [22, 4, 167, 0, 5, 22, 6, 22, 4, 22, 6, 184, 1, 116, 109, 173]
abbrev dktX6_chance_4 : List UInt8 := dkwX6_chance_4 ++ []
def dkwX6_chance_3 : List UInt8 := [42, 28, 17, 5, 20, 182, 1, 113, 55, 4, 42, 3, 17, 5, 20, 182, 1, 113, 55, 6, 29, 154, 0, 8]
abbrev dktX6_chance_3 : List UInt8 := dkwX6_chance_3 ++ dktX6_chance_4
def dkwX6_chance_2 : List UInt8 := [182, 1, 107, 4, 54, 4, 21, 4, 27, 163, 0, 15, 42, 21, 4, 182, 1, 110, 132, 4, 1, 167, 255, 241]
abbrev dktX6_chance_2 : List UInt8 := dkwX6_chance_2 ++ dktX6_chance_3
def dkwX6_chance_1 : List UInt8 := [20, 1, 103, 184, 0, 92, 153, 0, 13, 29, 133, 9, 10, 184, 0, 92, 154, 0, 7, 20, 1, 105, 173, 42]
abbrev dktX6_chance_1 : List UInt8 := dkwX6_chance_1 ++ dktX6_chance_2
def dkwX6_chance_0 : List UInt8 := [42, 182, 0, 253, 153, 0, 37, 27, 133, 9, 20, 1, 101, 184, 0, 92, 153, 0, 25, 28, 133, 9]
abbrev dktX6_chance_0 : List UInt8 := dkwX6_chance_0 ++ dktX6_chance_1
theorem dksX6_chance_0 : cX6_chance.data.toList.drop 0 = dktX6_chance_0 := by decide +kernel
theorem dksX6_chance_1 : cX6_chance.data.toList.drop 22 = dktX6_chance_1 := dk_seg dksX6_chance_0 22 rfl rfl
theorem dksX6_chance_2 : cX6_chance.data.toList.drop 46 = dktX6_chance_2 := dk_seg dksX6_chance_1 24 rfl rfl
theorem dksX6_chance_3 : cX6_chance.data.toList.drop 70 = dktX6_chance_3 := dk_seg dksX6_chance_2 24 rfl rfl
theorem dksX6_chance_4 : cX6_chance.data.toList.drop 94 = dktX6_chance_4 := dk_seg dksX6_chance_3 24 rfl rfl
theorem dX6_chance_0 : decode cX6_chance 0 = .ok (.aload_n 0, 1) := dk_42 (dk_at dksX6_chance_0 0 rfl rfl)
theorem dX6_chance_1 : decode cX6_chance 1 = .ok (.invokevirtual 253, 3) := dk_182 0 253 (dk_at dksX6_chance_0 1 rfl rfl)
theorem dX6_chance_4 : decode cX6_chance 4 = .ok (.ifCond .eq 37, 3) := dk_153 0 37 (dk_at dksX6_chance_0 4 rfl rfl)
theorem dX6_chance_7 : decode cX6_chance 7 = .ok (.iload_n 1, 1) := dk_27 (dk_at dksX6_chance_0 7 rfl rfl)
theorem dX6_chance_8 : decode cX6_chance 8 = .ok (.i2l, 1) := dk_133 (dk_at dksX6_chance_0 8 rfl rfl)
theorem dX6_chance_9 : decode cX6_chance 9 = .ok (.lconst 0, 1) := dk_9 (dk_at dksX6_chance_0 9 rfl rfl)
theorem dX6_chance_10 : decode cX6_chance 10 = .ok (.ldc2_w 357, 3) := dk_20 1 101 (dk_at dksX6_chance_0 10 rfl rfl)
theorem dX6_chance_13 : decode cX6_chance 13 = .ok (.invokestatic 92, 3) := dk_184 0 92 (dk_at dksX6_chance_0 13 rfl rfl)
theorem dX6_chance_16 : decode cX6_chance 16 = .ok (.ifCond .eq 25, 3) := dk_153 0 25 (dk_at dksX6_chance_0 16 rfl rfl)
theorem dX6_chance_19 : decode cX6_chance 19 = .ok (.iload_n 2, 1) := dk_28 (dk_at dksX6_chance_0 19 rfl rfl)
theorem dX6_chance_20 : decode cX6_chance 20 = .ok (.i2l, 1) := dk_133 (dk_at dksX6_chance_0 20 rfl rfl)
theorem dX6_chance_21 : decode cX6_chance 21 = .ok (.lconst 0, 1) := dk_9 (dk_at dksX6_chance_0 21 rfl rfl)
theorem dX6_chance_22 : decode cX6_chance 22 = .ok (.ldc2_w 359, 3) := dk_20 1 103 (dk_at dksX6_chance_1 0 rfl rfl)
theorem dX6_chance_25 : decode cX6_chance 25 = .ok (.invokestatic 92, 3) := dk_184 0 92 (dk_at dksX6_chance_1 3 rfl rfl)
theorem dX6_chance_28 : decode cX6_chance 28 = .ok (.ifCond .eq 13, 3) := dk_153 0 13 (dk_at dksX6_chance_1 6 rfl rfl)
theorem dX6_chance_31 : decode cX6_chance 31 = .ok (.iload_n 3, 1) := dk_29 (dk_at dksX6_chance_1 9 rfl rfl)
theorem dX6_chance_32 : decode cX6_chance 32 = .ok (.i2l, 1) := dk_133 (dk_at dksX6_chance_1 10 rfl rfl)
theorem dX6_chance_33 : decode cX6_chance 33 = .ok (.lconst 0, 1) := dk_9 (dk_at dksX6_chance_1 11 rfl rfl)
theorem dX6_chance_34 : decode cX6_chance 34 = .ok (.lconst 1, 1) := dk_10 (dk_at dksX6_chance_1 12 rfl rfl)
theorem dX6_chance_35 : decode cX6_chance 35 = .ok (.invokestatic 92, 3) := dk_184 0 92 (dk_at dksX6_chance_1 13 rfl rfl)
theorem dX6_chance_38 : decode cX6_chance 38 = .ok (.ifCond .ne 7, 3) := dk_154 0 7 (dk_at dksX6_chance_1 16 rfl rfl)
theorem dX6_chance_41 : decode cX6_chance 41 = .ok (.ldc2_w 361, 3) := dk_20 1 105 (dk_at dksX6_chance_1 19 rfl rfl)
theorem dX6_chance_44 : decode cX6_chance 44 = .ok (.lreturn, 1) := dk_173 (dk_at dksX6_chance_1 22 rfl rfl)
theorem dX6_chance_45 : decode cX6_chance 45 = .ok (.aload_n 0, 1) := dk_42 (dk_at dksX6_chance_1 23 rfl rfl)
theorem dX6_chance_46 : decode cX6_chance 46 = .ok (.invokevirtual 363, 3) := dk_182 1 107 (dk_at dksX6_chance_2 0 rfl rfl)
theorem dX6_chance_49 : decode cX6_chance 49 = .ok (.iconst 1, 1) := dk_4 (dk_at dksX6_chance_2 3 rfl rfl)
theorem dX6_chance_50 : decode cX6_chance 50 = .ok (.istore 4, 2) := dk_54 4 (dk_at dksX6_chance_2 4 rfl rfl)
theorem dX6_chance_52 : decode cX6_chance 52 = .ok (.iload 4, 2) := dk_21 4 (dk_at dksX6_chance_2 6 rfl rfl)
theorem dX6_chance_54 : decode cX6_chance 54 = .ok (.iload_n 1, 1) := dk_27 (dk_at dksX6_chance_2 8 rfl rfl)
theorem dX6_chance_55 : decode cX6_chance 55 = .ok (.if_icmp .gt 15, 3) := dk_163 0 15 (dk_at dksX6_chance_2 9 rfl rfl)
theorem dX6_chance_58 : decode cX6_chance 58 = .ok (.aload_n 0, 1) := dk_42 (dk_at dksX6_chance_2 12 rfl rfl)
theorem dX6_chance_59 : decode cX6_chance 59 = .ok (.iload 4, 2) := dk_21 4 (dk_at dksX6_chance_2 13 rfl rfl)
theorem dX6_chance_61 : decode cX6_chance 61 = .ok (.invokevirtual 366, 3) := dk_182 1 110 (dk_at dksX6_chance_2 15 rfl rfl)
theorem dX6_chance_64 : decode cX6_chance 64 = .ok (.iinc 4 1, 3) := dk_132 4 1 (dk_at dksX6_chance_2 18 rfl rfl)
theorem dX6_chance_67 : decode cX6_chance 67 = .ok (.goto (-15), 3) := dk_167 255 241 (dk_at dksX6_chance_2 21 rfl rfl)
theorem dX6_chance_70 : decode cX6_chance 70 = .ok (.aload_n 0, 1) := dk_42 (dk_at dksX6_chance_3 0 rfl rfl)
theorem dX6_chance_71 : decode cX6_chance 71 = .ok (.iload_n 2, 1) := dk_28 (dk_at dksX6_chance_3 1 rfl rfl)
theorem dX6_chance_72 : decode cX6_chance 72 = .ok (.sipush 1300, 3) := dk_17 5 20 (dk_at dksX6_chance_3 2 rfl rfl)
theorem dX6_chance_75 : decode cX6_chance 75 = .ok (.invokevirtual 369, 3) := dk_182 1 113 (dk_at dksX6_chance_3 5 rfl rfl)
theorem dX6_chance_78 : decode cX6_chance 78 = .ok (.lstore 4, 2) := dk_55 4 (dk_at dksX6_chance_3 8 rfl rfl)
theorem dX6_chance_80 : decode cX6_chance 80 = .ok (.aload_n 0, 1) := dk_42 (dk_at dksX6_chance_3 10 rfl rfl)
theorem dX6_chance_81 : decode cX6_chance 81 = .ok (.iconst 0, 1) := dk_3 (dk_at dksX6_chance_3 11 rfl rfl)
theorem dX6_chance_82 : decode cX6_chance 82 = .ok (.sipush 1300, 3) := dk_17 5 20 (dk_at dksX6_chance_3 12 rfl rfl)
theorem dX6_chance_85 : decode cX6_chance 85 = .ok (.invokevirtual 369, 3) := dk_182 1 113 (dk_at dksX6_chance_3 15 rfl rfl)
theorem dX6_chance_88 : decode cX6_chance 88 = .ok (.lstore 6, 2) := dk_55 6 (dk_at dksX6_chance_3 18 rfl rfl)
theorem dX6_chance_90 : decode cX6_chance 90 = .ok (.iload_n 3, 1) := dk_29 (dk_at dksX6_chance_3 20 rfl rfl)
theorem dX6_chance_91 : decode cX6_chance 91 = .ok (.ifCond .ne 8, 3) := dk_154 0 8 (dk_at dksX6_chance_3 21 rfl rfl)
theorem dX6_chance_94 : decode cX6_chance 94 = .ok (.lload 4, 2) := dk_22 4 (dk_at dksX6_chance_4 0 rfl rfl)
theorem dX6_chance_96 : decode cX6_chance 96 = .ok (.goto 5, 3) := dk_167 0 5 (dk_at dksX6_chance_4 2 rfl rfl)
theorem dX6_chance_99 : decode cX6_chance 99 = .ok (.lload 6, 2) := dk_22 6 (dk_at dksX6_chance_4 5 rfl rfl)
theorem dX6_chance_101 : decode cX6_chance 101 = .ok (.lload 4, 2) := dk_22 4 (dk_at dksX6_chance_4 7 rfl rfl)
theorem dX6_chance_103 : decode cX6_chance 103 = .ok (.lload 6, 2) := dk_22 6 (dk_at dksX6_chance_4 9 rfl rfl)
theorem dX6_chance_105 : decode cX6_chance 105 = .ok (.invokestatic 372, 3) := dk_184 1 116 (dk_at dksX6_chance_4 11 rfl rfl)
theorem dX6_chance_108 : decode cX6_chance 108 = .ok (.ldiv, 1) := dk_109 (dk_at dksX6_chance_4 14 rfl rfl)
theorem dX6_chance_109 : decode cX6_chance 109 = .ok (.lreturn, 1) := dk_173 (dk_at dksX6_chance_4 15 rfl rfl)
abbrev cX6_startWeights : ByteArray := prog_14_method_111_code
def yX6_startWeights : MethodName := ⟨RX6, "startWeights", "()V"⟩
def dkwX6_startWeights_1 : List UInt8 := [180, 0, 68, 42, 180, 0, 9, 3, 46, 42, 180, 0, 34, 3, 46, 96, 10, 80, 177]
abbrev dktX6_startWeights_1 : List UInt8 := dkwX6_startWeights_1 ++ []
def dkwX6_startWeights_0 : List UInt8 := [3, 60, 27, 17, 5, 20, 162, 0, 16, 42, 180, 0, 68, 27, 9, 80, 132, 1, 1, 167, 255, 239, 42]
abbrev dktX6_startWeights_0 : List UInt8 := dkwX6_startWeights_0 ++ dktX6_startWeights_1
theorem dksX6_startWeights_0 : cX6_startWeights.data.toList.drop 0 = dktX6_startWeights_0 := by decide +kernel
theorem dksX6_startWeights_1 : cX6_startWeights.data.toList.drop 23 = dktX6_startWeights_1 := dk_seg dksX6_startWeights_0 23 rfl rfl
theorem dX6_startWeights_0 : decode cX6_startWeights 0 = .ok (.iconst 0, 1) := dk_3 (dk_at dksX6_startWeights_0 0 rfl rfl)
theorem dX6_startWeights_1 : decode cX6_startWeights 1 = .ok (.istore_n 1, 1) := dk_60 (dk_at dksX6_startWeights_0 1 rfl rfl)
theorem dX6_startWeights_2 : decode cX6_startWeights 2 = .ok (.iload_n 1, 1) := dk_27 (dk_at dksX6_startWeights_0 2 rfl rfl)
theorem dX6_startWeights_3 : decode cX6_startWeights 3 = .ok (.sipush 1300, 3) := dk_17 5 20 (dk_at dksX6_startWeights_0 3 rfl rfl)
theorem dX6_startWeights_6 : decode cX6_startWeights 6 = .ok (.if_icmp .ge 16, 3) := dk_162 0 16 (dk_at dksX6_startWeights_0 6 rfl rfl)
theorem dX6_startWeights_9 : decode cX6_startWeights 9 = .ok (.aload_n 0, 1) := dk_42 (dk_at dksX6_startWeights_0 9 rfl rfl)
theorem dX6_startWeights_10 : decode cX6_startWeights 10 = .ok (.getfield 68, 3) := dk_180 0 68 (dk_at dksX6_startWeights_0 10 rfl rfl)
theorem dX6_startWeights_13 : decode cX6_startWeights 13 = .ok (.iload_n 1, 1) := dk_27 (dk_at dksX6_startWeights_0 13 rfl rfl)
theorem dX6_startWeights_14 : decode cX6_startWeights 14 = .ok (.lconst 0, 1) := dk_9 (dk_at dksX6_startWeights_0 14 rfl rfl)
theorem dX6_startWeights_15 : decode cX6_startWeights 15 = .ok (.lastore, 1) := dk_80 (dk_at dksX6_startWeights_0 15 rfl rfl)
theorem dX6_startWeights_16 : decode cX6_startWeights 16 = .ok (.iinc 1 1, 3) := dk_132 1 1 (dk_at dksX6_startWeights_0 16 rfl rfl)
theorem dX6_startWeights_19 : decode cX6_startWeights 19 = .ok (.goto (-17), 3) := dk_167 255 239 (dk_at dksX6_startWeights_0 19 rfl rfl)
theorem dX6_startWeights_22 : decode cX6_startWeights 22 = .ok (.aload_n 0, 1) := dk_42 (dk_at dksX6_startWeights_0 22 rfl rfl)
theorem dX6_startWeights_23 : decode cX6_startWeights 23 = .ok (.getfield 68, 3) := dk_180 0 68 (dk_at dksX6_startWeights_1 0 rfl rfl)
theorem dX6_startWeights_26 : decode cX6_startWeights 26 = .ok (.aload_n 0, 1) := dk_42 (dk_at dksX6_startWeights_1 3 rfl rfl)
theorem dX6_startWeights_27 : decode cX6_startWeights 27 = .ok (.getfield 9, 3) := dk_180 0 9 (dk_at dksX6_startWeights_1 4 rfl rfl)
theorem dX6_startWeights_30 : decode cX6_startWeights 30 = .ok (.iconst 0, 1) := dk_3 (dk_at dksX6_startWeights_1 7 rfl rfl)
theorem dX6_startWeights_31 : decode cX6_startWeights 31 = .ok (.iaload, 1) := dk_46 (dk_at dksX6_startWeights_1 8 rfl rfl)
theorem dX6_startWeights_32 : decode cX6_startWeights 32 = .ok (.aload_n 0, 1) := dk_42 (dk_at dksX6_startWeights_1 9 rfl rfl)
theorem dX6_startWeights_33 : decode cX6_startWeights 33 = .ok (.getfield 34, 3) := dk_180 0 34 (dk_at dksX6_startWeights_1 10 rfl rfl)
theorem dX6_startWeights_36 : decode cX6_startWeights 36 = .ok (.iconst 0, 1) := dk_3 (dk_at dksX6_startWeights_1 13 rfl rfl)
theorem dX6_startWeights_37 : decode cX6_startWeights 37 = .ok (.iaload, 1) := dk_46 (dk_at dksX6_startWeights_1 14 rfl rfl)
theorem dX6_startWeights_38 : decode cX6_startWeights 38 = .ok (.iadd, 1) := dk_96 (dk_at dksX6_startWeights_1 15 rfl rfl)
theorem dX6_startWeights_39 : decode cX6_startWeights 39 = .ok (.lconst 1, 1) := dk_10 (dk_at dksX6_startWeights_1 16 rfl rfl)
theorem dX6_startWeights_40 : decode cX6_startWeights 40 = .ok (.lastore, 1) := dk_80 (dk_at dksX6_startWeights_1 17 rfl rfl)
theorem dX6_startWeights_41 : decode cX6_startWeights 41 = .ok (.return_, 1) := dk_177 (dk_at dksX6_startWeights_1 18 rfl rfl)
abbrev cX6_stepWeights : ByteArray := prog_14_method_112_code
def yX6_stepWeights : MethodName := ⟨RX6, "stepWeights", "(I)V"⟩
def dkwX6_stepWeights_6 : List UInt8 := [132, 2, 1, 167, 255, 234, 177]
abbrev dktX6_stepWeights_6 : List UInt8 := dkwX6_stepWeights_6 ++ []
def dkwX6_stepWeights_5 : List UInt8 := [167, 255, 161, 3, 61, 28, 17, 5, 20, 162, 0, 21, 42, 180, 0, 68, 28, 42, 180, 0, 72, 28, 47, 80]
abbrev dktX6_stepWeights_5 : List UInt8 := dkwX6_stepWeights_5 ++ dktX6_stepWeights_6
def dkwX6_stepWeights_4 : List UInt8 := [46, 96, 92, 47, 42, 180, 0, 68, 28, 47, 42, 180, 0, 9, 4, 46, 133, 105, 97, 80, 132, 2, 1]
abbrev dktX6_stepWeights_4 : List UInt8 := dkwX6_stepWeights_4 ++ dktX6_stepWeights_5
def dkwX6_stepWeights_3 : List UInt8 := [47, 16, 10, 42, 180, 0, 9, 4, 46, 100, 133, 105, 97, 80, 42, 180, 0, 72, 29, 42, 180, 0, 9, 5]
abbrev dktX6_stepWeights_3 : List UInt8 := dkwX6_stepWeights_3 ++ dktX6_stepWeights_4
def dkwX6_stepWeights_2 : List UInt8 := [100, 184, 0, 235, 42, 180, 0, 34, 27, 46, 96, 62, 42, 180, 0, 72, 29, 92, 47, 42, 180, 0, 68, 28]
abbrev dktX6_stepWeights_2 : List UInt8 := dkwX6_stepWeights_2 ++ dktX6_stepWeights_3
def dkwX6_stepWeights_1 : List UInt8 := [28, 17, 5, 20, 162, 0, 94, 42, 180, 0, 68, 28, 47, 9, 148, 154, 0, 6, 167, 0, 74, 3, 28, 4]
abbrev dktX6_stepWeights_1 : List UInt8 := dkwX6_stepWeights_1 ++ dktX6_stepWeights_2
def dkwX6_stepWeights_0 : List UInt8 := [3, 61, 28, 17, 5, 20, 162, 0, 16, 42, 180, 0, 72, 28, 9, 80, 132, 2, 1, 167, 255, 239, 3, 61]
abbrev dktX6_stepWeights_0 : List UInt8 := dkwX6_stepWeights_0 ++ dktX6_stepWeights_1
theorem dksX6_stepWeights_0 : cX6_stepWeights.data.toList.drop 0 = dktX6_stepWeights_0 := by decide +kernel
theorem dksX6_stepWeights_1 : cX6_stepWeights.data.toList.drop 24 = dktX6_stepWeights_1 := dk_seg dksX6_stepWeights_0 24 rfl rfl
theorem dksX6_stepWeights_2 : cX6_stepWeights.data.toList.drop 48 = dktX6_stepWeights_2 := dk_seg dksX6_stepWeights_1 24 rfl rfl
theorem dksX6_stepWeights_3 : cX6_stepWeights.data.toList.drop 72 = dktX6_stepWeights_3 := dk_seg dksX6_stepWeights_2 24 rfl rfl
theorem dksX6_stepWeights_4 : cX6_stepWeights.data.toList.drop 96 = dktX6_stepWeights_4 := dk_seg dksX6_stepWeights_3 24 rfl rfl
theorem dksX6_stepWeights_5 : cX6_stepWeights.data.toList.drop 119 = dktX6_stepWeights_5 := dk_seg dksX6_stepWeights_4 23 rfl rfl
theorem dksX6_stepWeights_6 : cX6_stepWeights.data.toList.drop 143 = dktX6_stepWeights_6 := dk_seg dksX6_stepWeights_5 24 rfl rfl
theorem dX6_stepWeights_0 : decode cX6_stepWeights 0 = .ok (.iconst 0, 1) := dk_3 (dk_at dksX6_stepWeights_0 0 rfl rfl)
theorem dX6_stepWeights_1 : decode cX6_stepWeights 1 = .ok (.istore_n 2, 1) := dk_61 (dk_at dksX6_stepWeights_0 1 rfl rfl)
theorem dX6_stepWeights_2 : decode cX6_stepWeights 2 = .ok (.iload_n 2, 1) := dk_28 (dk_at dksX6_stepWeights_0 2 rfl rfl)
theorem dX6_stepWeights_3 : decode cX6_stepWeights 3 = .ok (.sipush 1300, 3) := dk_17 5 20 (dk_at dksX6_stepWeights_0 3 rfl rfl)
theorem dX6_stepWeights_6 : decode cX6_stepWeights 6 = .ok (.if_icmp .ge 16, 3) := dk_162 0 16 (dk_at dksX6_stepWeights_0 6 rfl rfl)
theorem dX6_stepWeights_9 : decode cX6_stepWeights 9 = .ok (.aload_n 0, 1) := dk_42 (dk_at dksX6_stepWeights_0 9 rfl rfl)
theorem dX6_stepWeights_10 : decode cX6_stepWeights 10 = .ok (.getfield 72, 3) := dk_180 0 72 (dk_at dksX6_stepWeights_0 10 rfl rfl)
theorem dX6_stepWeights_13 : decode cX6_stepWeights 13 = .ok (.iload_n 2, 1) := dk_28 (dk_at dksX6_stepWeights_0 13 rfl rfl)
theorem dX6_stepWeights_14 : decode cX6_stepWeights 14 = .ok (.lconst 0, 1) := dk_9 (dk_at dksX6_stepWeights_0 14 rfl rfl)
theorem dX6_stepWeights_15 : decode cX6_stepWeights 15 = .ok (.lastore, 1) := dk_80 (dk_at dksX6_stepWeights_0 15 rfl rfl)
theorem dX6_stepWeights_16 : decode cX6_stepWeights 16 = .ok (.iinc 2 1, 3) := dk_132 2 1 (dk_at dksX6_stepWeights_0 16 rfl rfl)
theorem dX6_stepWeights_19 : decode cX6_stepWeights 19 = .ok (.goto (-17), 3) := dk_167 255 239 (dk_at dksX6_stepWeights_0 19 rfl rfl)
theorem dX6_stepWeights_22 : decode cX6_stepWeights 22 = .ok (.iconst 0, 1) := dk_3 (dk_at dksX6_stepWeights_0 22 rfl rfl)
theorem dX6_stepWeights_23 : decode cX6_stepWeights 23 = .ok (.istore_n 2, 1) := dk_61 (dk_at dksX6_stepWeights_0 23 rfl rfl)
theorem dX6_stepWeights_24 : decode cX6_stepWeights 24 = .ok (.iload_n 2, 1) := dk_28 (dk_at dksX6_stepWeights_1 0 rfl rfl)
theorem dX6_stepWeights_25 : decode cX6_stepWeights 25 = .ok (.sipush 1300, 3) := dk_17 5 20 (dk_at dksX6_stepWeights_1 1 rfl rfl)
theorem dX6_stepWeights_28 : decode cX6_stepWeights 28 = .ok (.if_icmp .ge 94, 3) := dk_162 0 94 (dk_at dksX6_stepWeights_1 4 rfl rfl)
theorem dX6_stepWeights_31 : decode cX6_stepWeights 31 = .ok (.aload_n 0, 1) := dk_42 (dk_at dksX6_stepWeights_1 7 rfl rfl)
theorem dX6_stepWeights_32 : decode cX6_stepWeights 32 = .ok (.getfield 68, 3) := dk_180 0 68 (dk_at dksX6_stepWeights_1 8 rfl rfl)
theorem dX6_stepWeights_35 : decode cX6_stepWeights 35 = .ok (.iload_n 2, 1) := dk_28 (dk_at dksX6_stepWeights_1 11 rfl rfl)
theorem dX6_stepWeights_36 : decode cX6_stepWeights 36 = .ok (.laload, 1) := dk_47 (dk_at dksX6_stepWeights_1 12 rfl rfl)
theorem dX6_stepWeights_37 : decode cX6_stepWeights 37 = .ok (.lconst 0, 1) := dk_9 (dk_at dksX6_stepWeights_1 13 rfl rfl)
theorem dX6_stepWeights_38 : decode cX6_stepWeights 38 = .ok (.lcmp, 1) := dk_148 (dk_at dksX6_stepWeights_1 14 rfl rfl)
theorem dX6_stepWeights_39 : decode cX6_stepWeights 39 = .ok (.ifCond .ne 6, 3) := dk_154 0 6 (dk_at dksX6_stepWeights_1 15 rfl rfl)
theorem dX6_stepWeights_42 : decode cX6_stepWeights 42 = .ok (.goto 74, 3) := dk_167 0 74 (dk_at dksX6_stepWeights_1 18 rfl rfl)
theorem dX6_stepWeights_45 : decode cX6_stepWeights 45 = .ok (.iconst 0, 1) := dk_3 (dk_at dksX6_stepWeights_1 21 rfl rfl)
theorem dX6_stepWeights_46 : decode cX6_stepWeights 46 = .ok (.iload_n 2, 1) := dk_28 (dk_at dksX6_stepWeights_1 22 rfl rfl)
theorem dX6_stepWeights_47 : decode cX6_stepWeights 47 = .ok (.iconst 1, 1) := dk_4 (dk_at dksX6_stepWeights_1 23 rfl rfl)
theorem dX6_stepWeights_48 : decode cX6_stepWeights 48 = .ok (.isub, 1) := dk_100 (dk_at dksX6_stepWeights_2 0 rfl rfl)
theorem dX6_stepWeights_49 : decode cX6_stepWeights 49 = .ok (.invokestatic 235, 3) := dk_184 0 235 (dk_at dksX6_stepWeights_2 1 rfl rfl)
theorem dX6_stepWeights_52 : decode cX6_stepWeights 52 = .ok (.aload_n 0, 1) := dk_42 (dk_at dksX6_stepWeights_2 4 rfl rfl)
theorem dX6_stepWeights_53 : decode cX6_stepWeights 53 = .ok (.getfield 34, 3) := dk_180 0 34 (dk_at dksX6_stepWeights_2 5 rfl rfl)
theorem dX6_stepWeights_56 : decode cX6_stepWeights 56 = .ok (.iload_n 1, 1) := dk_27 (dk_at dksX6_stepWeights_2 8 rfl rfl)
theorem dX6_stepWeights_57 : decode cX6_stepWeights 57 = .ok (.iaload, 1) := dk_46 (dk_at dksX6_stepWeights_2 9 rfl rfl)
theorem dX6_stepWeights_58 : decode cX6_stepWeights 58 = .ok (.iadd, 1) := dk_96 (dk_at dksX6_stepWeights_2 10 rfl rfl)
theorem dX6_stepWeights_59 : decode cX6_stepWeights 59 = .ok (.istore_n 3, 1) := dk_62 (dk_at dksX6_stepWeights_2 11 rfl rfl)
theorem dX6_stepWeights_60 : decode cX6_stepWeights 60 = .ok (.aload_n 0, 1) := dk_42 (dk_at dksX6_stepWeights_2 12 rfl rfl)
theorem dX6_stepWeights_61 : decode cX6_stepWeights 61 = .ok (.getfield 72, 3) := dk_180 0 72 (dk_at dksX6_stepWeights_2 13 rfl rfl)
theorem dX6_stepWeights_64 : decode cX6_stepWeights 64 = .ok (.iload_n 3, 1) := dk_29 (dk_at dksX6_stepWeights_2 16 rfl rfl)
theorem dX6_stepWeights_65 : decode cX6_stepWeights 65 = .ok (.dup2, 1) := dk_92 (dk_at dksX6_stepWeights_2 17 rfl rfl)
theorem dX6_stepWeights_66 : decode cX6_stepWeights 66 = .ok (.laload, 1) := dk_47 (dk_at dksX6_stepWeights_2 18 rfl rfl)
theorem dX6_stepWeights_67 : decode cX6_stepWeights 67 = .ok (.aload_n 0, 1) := dk_42 (dk_at dksX6_stepWeights_2 19 rfl rfl)
theorem dX6_stepWeights_68 : decode cX6_stepWeights 68 = .ok (.getfield 68, 3) := dk_180 0 68 (dk_at dksX6_stepWeights_2 20 rfl rfl)
theorem dX6_stepWeights_71 : decode cX6_stepWeights 71 = .ok (.iload_n 2, 1) := dk_28 (dk_at dksX6_stepWeights_2 23 rfl rfl)
theorem dX6_stepWeights_72 : decode cX6_stepWeights 72 = .ok (.laload, 1) := dk_47 (dk_at dksX6_stepWeights_3 0 rfl rfl)
theorem dX6_stepWeights_73 : decode cX6_stepWeights 73 = .ok (.bipush 10, 2) := dk_16 10 (dk_at dksX6_stepWeights_3 1 rfl rfl)
theorem dX6_stepWeights_75 : decode cX6_stepWeights 75 = .ok (.aload_n 0, 1) := dk_42 (dk_at dksX6_stepWeights_3 3 rfl rfl)
theorem dX6_stepWeights_76 : decode cX6_stepWeights 76 = .ok (.getfield 9, 3) := dk_180 0 9 (dk_at dksX6_stepWeights_3 4 rfl rfl)
theorem dX6_stepWeights_79 : decode cX6_stepWeights 79 = .ok (.iconst 1, 1) := dk_4 (dk_at dksX6_stepWeights_3 7 rfl rfl)
theorem dX6_stepWeights_80 : decode cX6_stepWeights 80 = .ok (.iaload, 1) := dk_46 (dk_at dksX6_stepWeights_3 8 rfl rfl)
theorem dX6_stepWeights_81 : decode cX6_stepWeights 81 = .ok (.isub, 1) := dk_100 (dk_at dksX6_stepWeights_3 9 rfl rfl)
theorem dX6_stepWeights_82 : decode cX6_stepWeights 82 = .ok (.i2l, 1) := dk_133 (dk_at dksX6_stepWeights_3 10 rfl rfl)
theorem dX6_stepWeights_83 : decode cX6_stepWeights 83 = .ok (.lmul, 1) := dk_105 (dk_at dksX6_stepWeights_3 11 rfl rfl)
theorem dX6_stepWeights_84 : decode cX6_stepWeights 84 = .ok (.ladd, 1) := dk_97 (dk_at dksX6_stepWeights_3 12 rfl rfl)
theorem dX6_stepWeights_85 : decode cX6_stepWeights 85 = .ok (.lastore, 1) := dk_80 (dk_at dksX6_stepWeights_3 13 rfl rfl)
theorem dX6_stepWeights_86 : decode cX6_stepWeights 86 = .ok (.aload_n 0, 1) := dk_42 (dk_at dksX6_stepWeights_3 14 rfl rfl)
theorem dX6_stepWeights_87 : decode cX6_stepWeights 87 = .ok (.getfield 72, 3) := dk_180 0 72 (dk_at dksX6_stepWeights_3 15 rfl rfl)
theorem dX6_stepWeights_90 : decode cX6_stepWeights 90 = .ok (.iload_n 3, 1) := dk_29 (dk_at dksX6_stepWeights_3 18 rfl rfl)
theorem dX6_stepWeights_91 : decode cX6_stepWeights 91 = .ok (.aload_n 0, 1) := dk_42 (dk_at dksX6_stepWeights_3 19 rfl rfl)
theorem dX6_stepWeights_92 : decode cX6_stepWeights 92 = .ok (.getfield 9, 3) := dk_180 0 9 (dk_at dksX6_stepWeights_3 20 rfl rfl)
theorem dX6_stepWeights_95 : decode cX6_stepWeights 95 = .ok (.iconst 2, 1) := dk_5 (dk_at dksX6_stepWeights_3 23 rfl rfl)
theorem dX6_stepWeights_96 : decode cX6_stepWeights 96 = .ok (.iaload, 1) := dk_46 (dk_at dksX6_stepWeights_4 0 rfl rfl)
theorem dX6_stepWeights_97 : decode cX6_stepWeights 97 = .ok (.iadd, 1) := dk_96 (dk_at dksX6_stepWeights_4 1 rfl rfl)
theorem dX6_stepWeights_98 : decode cX6_stepWeights 98 = .ok (.dup2, 1) := dk_92 (dk_at dksX6_stepWeights_4 2 rfl rfl)
theorem dX6_stepWeights_99 : decode cX6_stepWeights 99 = .ok (.laload, 1) := dk_47 (dk_at dksX6_stepWeights_4 3 rfl rfl)
theorem dX6_stepWeights_100 : decode cX6_stepWeights 100 = .ok (.aload_n 0, 1) := dk_42 (dk_at dksX6_stepWeights_4 4 rfl rfl)
theorem dX6_stepWeights_101 : decode cX6_stepWeights 101 = .ok (.getfield 68, 3) := dk_180 0 68 (dk_at dksX6_stepWeights_4 5 rfl rfl)
theorem dX6_stepWeights_104 : decode cX6_stepWeights 104 = .ok (.iload_n 2, 1) := dk_28 (dk_at dksX6_stepWeights_4 8 rfl rfl)
theorem dX6_stepWeights_105 : decode cX6_stepWeights 105 = .ok (.laload, 1) := dk_47 (dk_at dksX6_stepWeights_4 9 rfl rfl)
theorem dX6_stepWeights_106 : decode cX6_stepWeights 106 = .ok (.aload_n 0, 1) := dk_42 (dk_at dksX6_stepWeights_4 10 rfl rfl)
theorem dX6_stepWeights_107 : decode cX6_stepWeights 107 = .ok (.getfield 9, 3) := dk_180 0 9 (dk_at dksX6_stepWeights_4 11 rfl rfl)
theorem dX6_stepWeights_110 : decode cX6_stepWeights 110 = .ok (.iconst 1, 1) := dk_4 (dk_at dksX6_stepWeights_4 14 rfl rfl)
theorem dX6_stepWeights_111 : decode cX6_stepWeights 111 = .ok (.iaload, 1) := dk_46 (dk_at dksX6_stepWeights_4 15 rfl rfl)
theorem dX6_stepWeights_112 : decode cX6_stepWeights 112 = .ok (.i2l, 1) := dk_133 (dk_at dksX6_stepWeights_4 16 rfl rfl)
theorem dX6_stepWeights_113 : decode cX6_stepWeights 113 = .ok (.lmul, 1) := dk_105 (dk_at dksX6_stepWeights_4 17 rfl rfl)
theorem dX6_stepWeights_114 : decode cX6_stepWeights 114 = .ok (.ladd, 1) := dk_97 (dk_at dksX6_stepWeights_4 18 rfl rfl)
theorem dX6_stepWeights_115 : decode cX6_stepWeights 115 = .ok (.lastore, 1) := dk_80 (dk_at dksX6_stepWeights_4 19 rfl rfl)
theorem dX6_stepWeights_116 : decode cX6_stepWeights 116 = .ok (.iinc 2 1, 3) := dk_132 2 1 (dk_at dksX6_stepWeights_4 20 rfl rfl)
theorem dX6_stepWeights_119 : decode cX6_stepWeights 119 = .ok (.goto (-95), 3) := dk_167 255 161 (dk_at dksX6_stepWeights_5 0 rfl rfl)
theorem dX6_stepWeights_122 : decode cX6_stepWeights 122 = .ok (.iconst 0, 1) := dk_3 (dk_at dksX6_stepWeights_5 3 rfl rfl)
theorem dX6_stepWeights_123 : decode cX6_stepWeights 123 = .ok (.istore_n 2, 1) := dk_61 (dk_at dksX6_stepWeights_5 4 rfl rfl)
theorem dX6_stepWeights_124 : decode cX6_stepWeights 124 = .ok (.iload_n 2, 1) := dk_28 (dk_at dksX6_stepWeights_5 5 rfl rfl)
theorem dX6_stepWeights_125 : decode cX6_stepWeights 125 = .ok (.sipush 1300, 3) := dk_17 5 20 (dk_at dksX6_stepWeights_5 6 rfl rfl)
theorem dX6_stepWeights_128 : decode cX6_stepWeights 128 = .ok (.if_icmp .ge 21, 3) := dk_162 0 21 (dk_at dksX6_stepWeights_5 9 rfl rfl)
theorem dX6_stepWeights_131 : decode cX6_stepWeights 131 = .ok (.aload_n 0, 1) := dk_42 (dk_at dksX6_stepWeights_5 12 rfl rfl)
theorem dX6_stepWeights_132 : decode cX6_stepWeights 132 = .ok (.getfield 68, 3) := dk_180 0 68 (dk_at dksX6_stepWeights_5 13 rfl rfl)
theorem dX6_stepWeights_135 : decode cX6_stepWeights 135 = .ok (.iload_n 2, 1) := dk_28 (dk_at dksX6_stepWeights_5 16 rfl rfl)
theorem dX6_stepWeights_136 : decode cX6_stepWeights 136 = .ok (.aload_n 0, 1) := dk_42 (dk_at dksX6_stepWeights_5 17 rfl rfl)
theorem dX6_stepWeights_137 : decode cX6_stepWeights 137 = .ok (.getfield 72, 3) := dk_180 0 72 (dk_at dksX6_stepWeights_5 18 rfl rfl)
theorem dX6_stepWeights_140 : decode cX6_stepWeights 140 = .ok (.iload_n 2, 1) := dk_28 (dk_at dksX6_stepWeights_5 21 rfl rfl)
theorem dX6_stepWeights_141 : decode cX6_stepWeights 141 = .ok (.laload, 1) := dk_47 (dk_at dksX6_stepWeights_5 22 rfl rfl)
theorem dX6_stepWeights_142 : decode cX6_stepWeights 142 = .ok (.lastore, 1) := dk_80 (dk_at dksX6_stepWeights_5 23 rfl rfl)
theorem dX6_stepWeights_143 : decode cX6_stepWeights 143 = .ok (.iinc 2 1, 3) := dk_132 2 1 (dk_at dksX6_stepWeights_6 0 rfl rfl)
theorem dX6_stepWeights_146 : decode cX6_stepWeights 146 = .ok (.goto (-22), 3) := dk_167 255 234 (dk_at dksX6_stepWeights_6 3 rfl rfl)
theorem dX6_stepWeights_149 : decode cX6_stepWeights 149 = .ok (.return_, 1) := dk_177 (dk_at dksX6_stepWeights_6 6 rfl rfl)
abbrev cX6_weightFrom : ByteArray := prog_14_method_113_code
def yX6_weightFrom : MethodName := ⟨RX6, "weightFrom", "(II)J"⟩
def dkwX6_weightFrom_1 : List UInt8 := [167, 255, 237, 33, 173]
abbrev dktX6_weightFrom_1 : List UInt8 := dkwX6_weightFrom_1 ++ []
def dkwX6_weightFrom_0 : List UInt8 := [9, 66, 27, 54, 5, 21, 5, 28, 162, 0, 19, 33, 42, 180, 0, 68, 21, 5, 47, 97, 66, 132, 5, 1]
abbrev dktX6_weightFrom_0 : List UInt8 := dkwX6_weightFrom_0 ++ dktX6_weightFrom_1
theorem dksX6_weightFrom_0 : cX6_weightFrom.data.toList.drop 0 = dktX6_weightFrom_0 := by decide +kernel
theorem dksX6_weightFrom_1 : cX6_weightFrom.data.toList.drop 24 = dktX6_weightFrom_1 := dk_seg dksX6_weightFrom_0 24 rfl rfl
theorem dX6_weightFrom_0 : decode cX6_weightFrom 0 = .ok (.lconst 0, 1) := dk_9 (dk_at dksX6_weightFrom_0 0 rfl rfl)
theorem dX6_weightFrom_1 : decode cX6_weightFrom 1 = .ok (.lstore_n 3, 1) := dk_66 (dk_at dksX6_weightFrom_0 1 rfl rfl)
theorem dX6_weightFrom_2 : decode cX6_weightFrom 2 = .ok (.iload_n 1, 1) := dk_27 (dk_at dksX6_weightFrom_0 2 rfl rfl)
theorem dX6_weightFrom_3 : decode cX6_weightFrom 3 = .ok (.istore 5, 2) := dk_54 5 (dk_at dksX6_weightFrom_0 3 rfl rfl)
theorem dX6_weightFrom_5 : decode cX6_weightFrom 5 = .ok (.iload 5, 2) := dk_21 5 (dk_at dksX6_weightFrom_0 5 rfl rfl)
theorem dX6_weightFrom_7 : decode cX6_weightFrom 7 = .ok (.iload_n 2, 1) := dk_28 (dk_at dksX6_weightFrom_0 7 rfl rfl)
theorem dX6_weightFrom_8 : decode cX6_weightFrom 8 = .ok (.if_icmp .ge 19, 3) := dk_162 0 19 (dk_at dksX6_weightFrom_0 8 rfl rfl)
theorem dX6_weightFrom_11 : decode cX6_weightFrom 11 = .ok (.lload_n 3, 1) := dk_33 (dk_at dksX6_weightFrom_0 11 rfl rfl)
theorem dX6_weightFrom_12 : decode cX6_weightFrom 12 = .ok (.aload_n 0, 1) := dk_42 (dk_at dksX6_weightFrom_0 12 rfl rfl)
theorem dX6_weightFrom_13 : decode cX6_weightFrom 13 = .ok (.getfield 68, 3) := dk_180 0 68 (dk_at dksX6_weightFrom_0 13 rfl rfl)
theorem dX6_weightFrom_16 : decode cX6_weightFrom 16 = .ok (.iload 5, 2) := dk_21 5 (dk_at dksX6_weightFrom_0 16 rfl rfl)
theorem dX6_weightFrom_18 : decode cX6_weightFrom 18 = .ok (.laload, 1) := dk_47 (dk_at dksX6_weightFrom_0 18 rfl rfl)
theorem dX6_weightFrom_19 : decode cX6_weightFrom 19 = .ok (.ladd, 1) := dk_97 (dk_at dksX6_weightFrom_0 19 rfl rfl)
theorem dX6_weightFrom_20 : decode cX6_weightFrom 20 = .ok (.lstore_n 3, 1) := dk_66 (dk_at dksX6_weightFrom_0 20 rfl rfl)
theorem dX6_weightFrom_21 : decode cX6_weightFrom 21 = .ok (.iinc 5 1, 3) := dk_132 5 1 (dk_at dksX6_weightFrom_0 21 rfl rfl)
theorem dX6_weightFrom_24 : decode cX6_weightFrom 24 = .ok (.goto (-19), 3) := dk_167 255 237 (dk_at dksX6_weightFrom_1 0 rfl rfl)
theorem dX6_weightFrom_27 : decode cX6_weightFrom 27 = .ok (.lload_n 3, 1) := dk_33 (dk_at dksX6_weightFrom_1 3 rfl rfl)
theorem dX6_weightFrom_28 : decode cX6_weightFrom 28 = .ok (.lreturn, 1) := dk_173 (dk_at dksX6_weightFrom_1 4 rfl rfl)
abbrev cX6_divisor : ByteArray := prog_14_method_114_code
def yX6_divisor : MethodName := ⟨RX6, "divisor", "(JJ)J"⟩
def dkwX6_divisor_1 : List UInt8 := [22, 8, 55, 6, 167, 255, 234, 22, 4, 173]
abbrev dktX6_divisor_1 : List UInt8 := dkwX6_divisor_1 ++ []
def dkwX6_divisor_0 : List UInt8 := [30, 55, 4, 32, 55, 6, 22, 6, 9, 148, 153, 0, 21, 22, 4, 22, 6, 113, 55, 8, 22, 6, 55, 4]
abbrev dktX6_divisor_0 : List UInt8 := dkwX6_divisor_0 ++ dktX6_divisor_1
theorem dksX6_divisor_0 : cX6_divisor.data.toList.drop 0 = dktX6_divisor_0 := by decide +kernel
theorem dksX6_divisor_1 : cX6_divisor.data.toList.drop 24 = dktX6_divisor_1 := dk_seg dksX6_divisor_0 24 rfl rfl
theorem dX6_divisor_0 : decode cX6_divisor 0 = .ok (.lload_n 0, 1) := dk_30 (dk_at dksX6_divisor_0 0 rfl rfl)
theorem dX6_divisor_1 : decode cX6_divisor 1 = .ok (.lstore 4, 2) := dk_55 4 (dk_at dksX6_divisor_0 1 rfl rfl)
theorem dX6_divisor_3 : decode cX6_divisor 3 = .ok (.lload_n 2, 1) := dk_32 (dk_at dksX6_divisor_0 3 rfl rfl)
theorem dX6_divisor_4 : decode cX6_divisor 4 = .ok (.lstore 6, 2) := dk_55 6 (dk_at dksX6_divisor_0 4 rfl rfl)
theorem dX6_divisor_6 : decode cX6_divisor 6 = .ok (.lload 6, 2) := dk_22 6 (dk_at dksX6_divisor_0 6 rfl rfl)
theorem dX6_divisor_8 : decode cX6_divisor 8 = .ok (.lconst 0, 1) := dk_9 (dk_at dksX6_divisor_0 8 rfl rfl)
theorem dX6_divisor_9 : decode cX6_divisor 9 = .ok (.lcmp, 1) := dk_148 (dk_at dksX6_divisor_0 9 rfl rfl)
theorem dX6_divisor_10 : decode cX6_divisor 10 = .ok (.ifCond .eq 21, 3) := dk_153 0 21 (dk_at dksX6_divisor_0 10 rfl rfl)
theorem dX6_divisor_13 : decode cX6_divisor 13 = .ok (.lload 4, 2) := dk_22 4 (dk_at dksX6_divisor_0 13 rfl rfl)
theorem dX6_divisor_15 : decode cX6_divisor 15 = .ok (.lload 6, 2) := dk_22 6 (dk_at dksX6_divisor_0 15 rfl rfl)
theorem dX6_divisor_17 : decode cX6_divisor 17 = .ok (.lrem, 1) := dk_113 (dk_at dksX6_divisor_0 17 rfl rfl)
theorem dX6_divisor_18 : decode cX6_divisor 18 = .ok (.lstore 8, 2) := dk_55 8 (dk_at dksX6_divisor_0 18 rfl rfl)
theorem dX6_divisor_20 : decode cX6_divisor 20 = .ok (.lload 6, 2) := dk_22 6 (dk_at dksX6_divisor_0 20 rfl rfl)
theorem dX6_divisor_22 : decode cX6_divisor 22 = .ok (.lstore 4, 2) := dk_55 4 (dk_at dksX6_divisor_0 22 rfl rfl)
theorem dX6_divisor_24 : decode cX6_divisor 24 = .ok (.lload 8, 2) := dk_22 8 (dk_at dksX6_divisor_1 0 rfl rfl)
theorem dX6_divisor_26 : decode cX6_divisor 26 = .ok (.lstore 6, 2) := dk_55 6 (dk_at dksX6_divisor_1 2 rfl rfl)
theorem dX6_divisor_28 : decode cX6_divisor 28 = .ok (.goto (-22), 3) := dk_167 255 234 (dk_at dksX6_divisor_1 4 rfl rfl)
theorem dX6_divisor_31 : decode cX6_divisor 31 = .ok (.lload 4, 2) := dk_22 4 (dk_at dksX6_divisor_1 7 rfl rfl)
theorem dX6_divisor_33 : decode cX6_divisor 33 = .ok (.lreturn, 1) := dk_173 (dk_at dksX6_divisor_1 9 rfl rfl)
abbrev cX6_mean : ByteArray := prog_14_method_116_code
def yX6_mean : MethodName := ⟨RX6, "mean", "(II)J"⟩
def dkwX6_mean_4 : List UInt8 := [182, 1, 113, 55, 5, 28, 154, 0, 7, 33, 167, 0, 5, 22, 5, 33, 22, 5, 184, 1, 116, 109, 173]
abbrev dktX6_mean_4 : List UInt8 := dkwX6_mean_4 ++ []
def dkwX6_mean_3 : List UInt8 := [21, 5, 133, 42, 180, 0, 68, 21, 5, 47, 105, 97, 66, 132, 5, 1, 167, 255, 231, 42, 3, 17, 5, 20]
abbrev dktX6_mean_3 : List UInt8 := dkwX6_mean_3 ++ dktX6_mean_4
def dkwX6_mean_2 : List UInt8 := [182, 1, 110, 132, 3, 1, 167, 255, 243, 9, 66, 3, 54, 5, 21, 5, 17, 5, 20, 162, 0, 23, 33]
abbrev dktX6_mean_2 : List UInt8 := dkwX6_mean_2 ++ dktX6_mean_3
def dkwX6_mean_1 : List UInt8 := [184, 0, 92, 154, 0, 7, 20, 1, 105, 173, 42, 182, 1, 107, 4, 62, 29, 27, 163, 0, 14, 42, 29]
abbrev dktX6_mean_1 : List UInt8 := dkwX6_mean_1 ++ dktX6_mean_2
def dkwX6_mean_0 : List UInt8 := [42, 182, 0, 253, 153, 0, 25, 27, 133, 9, 20, 1, 101, 184, 0, 92, 153, 0, 13, 28, 133, 9, 10]
abbrev dktX6_mean_0 : List UInt8 := dkwX6_mean_0 ++ dktX6_mean_1
theorem dksX6_mean_0 : cX6_mean.data.toList.drop 0 = dktX6_mean_0 := by decide +kernel
theorem dksX6_mean_1 : cX6_mean.data.toList.drop 23 = dktX6_mean_1 := dk_seg dksX6_mean_0 23 rfl rfl
theorem dksX6_mean_2 : cX6_mean.data.toList.drop 46 = dktX6_mean_2 := dk_seg dksX6_mean_1 23 rfl rfl
theorem dksX6_mean_3 : cX6_mean.data.toList.drop 69 = dktX6_mean_3 := dk_seg dksX6_mean_2 23 rfl rfl
theorem dksX6_mean_4 : cX6_mean.data.toList.drop 93 = dktX6_mean_4 := dk_seg dksX6_mean_3 24 rfl rfl
theorem dX6_mean_0 : decode cX6_mean 0 = .ok (.aload_n 0, 1) := dk_42 (dk_at dksX6_mean_0 0 rfl rfl)
theorem dX6_mean_1 : decode cX6_mean 1 = .ok (.invokevirtual 253, 3) := dk_182 0 253 (dk_at dksX6_mean_0 1 rfl rfl)
theorem dX6_mean_4 : decode cX6_mean 4 = .ok (.ifCond .eq 25, 3) := dk_153 0 25 (dk_at dksX6_mean_0 4 rfl rfl)
theorem dX6_mean_7 : decode cX6_mean 7 = .ok (.iload_n 1, 1) := dk_27 (dk_at dksX6_mean_0 7 rfl rfl)
theorem dX6_mean_8 : decode cX6_mean 8 = .ok (.i2l, 1) := dk_133 (dk_at dksX6_mean_0 8 rfl rfl)
theorem dX6_mean_9 : decode cX6_mean 9 = .ok (.lconst 0, 1) := dk_9 (dk_at dksX6_mean_0 9 rfl rfl)
theorem dX6_mean_10 : decode cX6_mean 10 = .ok (.ldc2_w 357, 3) := dk_20 1 101 (dk_at dksX6_mean_0 10 rfl rfl)
theorem dX6_mean_13 : decode cX6_mean 13 = .ok (.invokestatic 92, 3) := dk_184 0 92 (dk_at dksX6_mean_0 13 rfl rfl)
theorem dX6_mean_16 : decode cX6_mean 16 = .ok (.ifCond .eq 13, 3) := dk_153 0 13 (dk_at dksX6_mean_0 16 rfl rfl)
theorem dX6_mean_19 : decode cX6_mean 19 = .ok (.iload_n 2, 1) := dk_28 (dk_at dksX6_mean_0 19 rfl rfl)
theorem dX6_mean_20 : decode cX6_mean 20 = .ok (.i2l, 1) := dk_133 (dk_at dksX6_mean_0 20 rfl rfl)
theorem dX6_mean_21 : decode cX6_mean 21 = .ok (.lconst 0, 1) := dk_9 (dk_at dksX6_mean_0 21 rfl rfl)
theorem dX6_mean_22 : decode cX6_mean 22 = .ok (.lconst 1, 1) := dk_10 (dk_at dksX6_mean_0 22 rfl rfl)
theorem dX6_mean_23 : decode cX6_mean 23 = .ok (.invokestatic 92, 3) := dk_184 0 92 (dk_at dksX6_mean_1 0 rfl rfl)
theorem dX6_mean_26 : decode cX6_mean 26 = .ok (.ifCond .ne 7, 3) := dk_154 0 7 (dk_at dksX6_mean_1 3 rfl rfl)
theorem dX6_mean_29 : decode cX6_mean 29 = .ok (.ldc2_w 361, 3) := dk_20 1 105 (dk_at dksX6_mean_1 6 rfl rfl)
theorem dX6_mean_32 : decode cX6_mean 32 = .ok (.lreturn, 1) := dk_173 (dk_at dksX6_mean_1 9 rfl rfl)
theorem dX6_mean_33 : decode cX6_mean 33 = .ok (.aload_n 0, 1) := dk_42 (dk_at dksX6_mean_1 10 rfl rfl)
theorem dX6_mean_34 : decode cX6_mean 34 = .ok (.invokevirtual 363, 3) := dk_182 1 107 (dk_at dksX6_mean_1 11 rfl rfl)
theorem dX6_mean_37 : decode cX6_mean 37 = .ok (.iconst 1, 1) := dk_4 (dk_at dksX6_mean_1 14 rfl rfl)
theorem dX6_mean_38 : decode cX6_mean 38 = .ok (.istore_n 3, 1) := dk_62 (dk_at dksX6_mean_1 15 rfl rfl)
theorem dX6_mean_39 : decode cX6_mean 39 = .ok (.iload_n 3, 1) := dk_29 (dk_at dksX6_mean_1 16 rfl rfl)
theorem dX6_mean_40 : decode cX6_mean 40 = .ok (.iload_n 1, 1) := dk_27 (dk_at dksX6_mean_1 17 rfl rfl)
theorem dX6_mean_41 : decode cX6_mean 41 = .ok (.if_icmp .gt 14, 3) := dk_163 0 14 (dk_at dksX6_mean_1 18 rfl rfl)
theorem dX6_mean_44 : decode cX6_mean 44 = .ok (.aload_n 0, 1) := dk_42 (dk_at dksX6_mean_1 21 rfl rfl)
theorem dX6_mean_45 : decode cX6_mean 45 = .ok (.iload_n 3, 1) := dk_29 (dk_at dksX6_mean_1 22 rfl rfl)
theorem dX6_mean_46 : decode cX6_mean 46 = .ok (.invokevirtual 366, 3) := dk_182 1 110 (dk_at dksX6_mean_2 0 rfl rfl)
theorem dX6_mean_49 : decode cX6_mean 49 = .ok (.iinc 3 1, 3) := dk_132 3 1 (dk_at dksX6_mean_2 3 rfl rfl)
theorem dX6_mean_52 : decode cX6_mean 52 = .ok (.goto (-13), 3) := dk_167 255 243 (dk_at dksX6_mean_2 6 rfl rfl)
theorem dX6_mean_55 : decode cX6_mean 55 = .ok (.lconst 0, 1) := dk_9 (dk_at dksX6_mean_2 9 rfl rfl)
theorem dX6_mean_56 : decode cX6_mean 56 = .ok (.lstore_n 3, 1) := dk_66 (dk_at dksX6_mean_2 10 rfl rfl)
theorem dX6_mean_57 : decode cX6_mean 57 = .ok (.iconst 0, 1) := dk_3 (dk_at dksX6_mean_2 11 rfl rfl)
theorem dX6_mean_58 : decode cX6_mean 58 = .ok (.istore 5, 2) := dk_54 5 (dk_at dksX6_mean_2 12 rfl rfl)
theorem dX6_mean_60 : decode cX6_mean 60 = .ok (.iload 5, 2) := dk_21 5 (dk_at dksX6_mean_2 14 rfl rfl)
theorem dX6_mean_62 : decode cX6_mean 62 = .ok (.sipush 1300, 3) := dk_17 5 20 (dk_at dksX6_mean_2 16 rfl rfl)
theorem dX6_mean_65 : decode cX6_mean 65 = .ok (.if_icmp .ge 23, 3) := dk_162 0 23 (dk_at dksX6_mean_2 19 rfl rfl)
theorem dX6_mean_68 : decode cX6_mean 68 = .ok (.lload_n 3, 1) := dk_33 (dk_at dksX6_mean_2 22 rfl rfl)
theorem dX6_mean_69 : decode cX6_mean 69 = .ok (.iload 5, 2) := dk_21 5 (dk_at dksX6_mean_3 0 rfl rfl)
theorem dX6_mean_71 : decode cX6_mean 71 = .ok (.i2l, 1) := dk_133 (dk_at dksX6_mean_3 2 rfl rfl)
theorem dX6_mean_72 : decode cX6_mean 72 = .ok (.aload_n 0, 1) := dk_42 (dk_at dksX6_mean_3 3 rfl rfl)
theorem dX6_mean_73 : decode cX6_mean 73 = .ok (.getfield 68, 3) := dk_180 0 68 (dk_at dksX6_mean_3 4 rfl rfl)
theorem dX6_mean_76 : decode cX6_mean 76 = .ok (.iload 5, 2) := dk_21 5 (dk_at dksX6_mean_3 7 rfl rfl)
theorem dX6_mean_78 : decode cX6_mean 78 = .ok (.laload, 1) := dk_47 (dk_at dksX6_mean_3 9 rfl rfl)
theorem dX6_mean_79 : decode cX6_mean 79 = .ok (.lmul, 1) := dk_105 (dk_at dksX6_mean_3 10 rfl rfl)
theorem dX6_mean_80 : decode cX6_mean 80 = .ok (.ladd, 1) := dk_97 (dk_at dksX6_mean_3 11 rfl rfl)
theorem dX6_mean_81 : decode cX6_mean 81 = .ok (.lstore_n 3, 1) := dk_66 (dk_at dksX6_mean_3 12 rfl rfl)
theorem dX6_mean_82 : decode cX6_mean 82 = .ok (.iinc 5 1, 3) := dk_132 5 1 (dk_at dksX6_mean_3 13 rfl rfl)
theorem dX6_mean_85 : decode cX6_mean 85 = .ok (.goto (-25), 3) := dk_167 255 231 (dk_at dksX6_mean_3 16 rfl rfl)
theorem dX6_mean_88 : decode cX6_mean 88 = .ok (.aload_n 0, 1) := dk_42 (dk_at dksX6_mean_3 19 rfl rfl)
theorem dX6_mean_89 : decode cX6_mean 89 = .ok (.iconst 0, 1) := dk_3 (dk_at dksX6_mean_3 20 rfl rfl)
theorem dX6_mean_90 : decode cX6_mean 90 = .ok (.sipush 1300, 3) := dk_17 5 20 (dk_at dksX6_mean_3 21 rfl rfl)
theorem dX6_mean_93 : decode cX6_mean 93 = .ok (.invokevirtual 369, 3) := dk_182 1 113 (dk_at dksX6_mean_4 0 rfl rfl)
theorem dX6_mean_96 : decode cX6_mean 96 = .ok (.lstore 5, 2) := dk_55 5 (dk_at dksX6_mean_4 3 rfl rfl)
theorem dX6_mean_98 : decode cX6_mean 98 = .ok (.iload_n 2, 1) := dk_28 (dk_at dksX6_mean_4 5 rfl rfl)
theorem dX6_mean_99 : decode cX6_mean 99 = .ok (.ifCond .ne 7, 3) := dk_154 0 7 (dk_at dksX6_mean_4 6 rfl rfl)
theorem dX6_mean_102 : decode cX6_mean 102 = .ok (.lload_n 3, 1) := dk_33 (dk_at dksX6_mean_4 9 rfl rfl)
theorem dX6_mean_103 : decode cX6_mean 103 = .ok (.goto 5, 3) := dk_167 0 5 (dk_at dksX6_mean_4 10 rfl rfl)
theorem dX6_mean_106 : decode cX6_mean 106 = .ok (.lload 5, 2) := dk_22 5 (dk_at dksX6_mean_4 13 rfl rfl)
theorem dX6_mean_108 : decode cX6_mean 108 = .ok (.lload_n 3, 1) := dk_33 (dk_at dksX6_mean_4 15 rfl rfl)
theorem dX6_mean_109 : decode cX6_mean 109 = .ok (.lload 5, 2) := dk_22 5 (dk_at dksX6_mean_4 16 rfl rfl)
theorem dX6_mean_111 : decode cX6_mean 111 = .ok (.invokestatic 372, 3) := dk_184 1 116 (dk_at dksX6_mean_4 18 rfl rfl)
theorem dX6_mean_114 : decode cX6_mean 114 = .ok (.ldiv, 1) := dk_109 (dk_at dksX6_mean_4 21 rfl rfl)
theorem dX6_mean_115 : decode cX6_mean 115 = .ok (.lreturn, 1) := dk_173 (dk_at dksX6_mean_4 22 rfl rfl)
abbrev cX6_risk : ByteArray := prog_14_method_117_code
def yX6_risk : MethodName := ⟨RX6, "risk", "(II)I"⟩
def dkwX6_risk_3 : List UInt8 := [155, 0, 5, 29, 172, 132, 3, 1, 167, 255, 206, 2, 172]
abbrev dktX6_risk_3 : List UInt8 := dkwX6_risk_3 ++ []
def dkwX6_risk_2 : List UInt8 := [3, 42, 27, 5, 182, 0, 223, 182, 1, 113, 105, 28, 133, 42, 3, 17, 5, 20, 182, 1, 113, 105, 148]
abbrev dktX6_risk_2 : List UInt8 := dkwX6_risk_2 ++ dktX6_risk_3
def dkwX6_risk_1 : List UInt8 := [182, 1, 107, 3, 62, 29, 16, 14, 163, 0, 50, 29, 158, 0, 8, 42, 29, 182, 1, 110, 20, 1, 120, 42]
abbrev dktX6_risk_1 : List UInt8 := dkwX6_risk_1 ++ dktX6_risk_2
def dkwX6_risk_0 : List UInt8 := [42, 27, 182, 1, 3, 153, 0, 15, 28, 133, 9, 20, 1, 120, 184, 0, 92, 154, 0, 6, 16, 254, 172, 42]
abbrev dktX6_risk_0 : List UInt8 := dkwX6_risk_0 ++ dktX6_risk_1
theorem dksX6_risk_0 : cX6_risk.data.toList.drop 0 = dktX6_risk_0 := by decide +kernel
theorem dksX6_risk_1 : cX6_risk.data.toList.drop 24 = dktX6_risk_1 := dk_seg dksX6_risk_0 24 rfl rfl
theorem dksX6_risk_2 : cX6_risk.data.toList.drop 48 = dktX6_risk_2 := dk_seg dksX6_risk_1 24 rfl rfl
theorem dksX6_risk_3 : cX6_risk.data.toList.drop 71 = dktX6_risk_3 := dk_seg dksX6_risk_2 23 rfl rfl
theorem dX6_risk_0 : decode cX6_risk 0 = .ok (.aload_n 0, 1) := dk_42 (dk_at dksX6_risk_0 0 rfl rfl)
theorem dX6_risk_1 : decode cX6_risk 1 = .ok (.iload_n 1, 1) := dk_27 (dk_at dksX6_risk_0 1 rfl rfl)
theorem dX6_risk_2 : decode cX6_risk 2 = .ok (.invokevirtual 259, 3) := dk_182 1 3 (dk_at dksX6_risk_0 2 rfl rfl)
theorem dX6_risk_5 : decode cX6_risk 5 = .ok (.ifCond .eq 15, 3) := dk_153 0 15 (dk_at dksX6_risk_0 5 rfl rfl)
theorem dX6_risk_8 : decode cX6_risk 8 = .ok (.iload_n 2, 1) := dk_28 (dk_at dksX6_risk_0 8 rfl rfl)
theorem dX6_risk_9 : decode cX6_risk 9 = .ok (.i2l, 1) := dk_133 (dk_at dksX6_risk_0 9 rfl rfl)
theorem dX6_risk_10 : decode cX6_risk 10 = .ok (.lconst 0, 1) := dk_9 (dk_at dksX6_risk_0 10 rfl rfl)
theorem dX6_risk_11 : decode cX6_risk 11 = .ok (.ldc2_w 376, 3) := dk_20 1 120 (dk_at dksX6_risk_0 11 rfl rfl)
theorem dX6_risk_14 : decode cX6_risk 14 = .ok (.invokestatic 92, 3) := dk_184 0 92 (dk_at dksX6_risk_0 14 rfl rfl)
theorem dX6_risk_17 : decode cX6_risk 17 = .ok (.ifCond .ne 6, 3) := dk_154 0 6 (dk_at dksX6_risk_0 17 rfl rfl)
theorem dX6_risk_20 : decode cX6_risk 20 = .ok (.bipush (-2), 2) := dk_16 254 (dk_at dksX6_risk_0 20 rfl rfl)
theorem dX6_risk_22 : decode cX6_risk 22 = .ok (.ireturn, 1) := dk_172 (dk_at dksX6_risk_0 22 rfl rfl)
theorem dX6_risk_23 : decode cX6_risk 23 = .ok (.aload_n 0, 1) := dk_42 (dk_at dksX6_risk_0 23 rfl rfl)
theorem dX6_risk_24 : decode cX6_risk 24 = .ok (.invokevirtual 363, 3) := dk_182 1 107 (dk_at dksX6_risk_1 0 rfl rfl)
theorem dX6_risk_27 : decode cX6_risk 27 = .ok (.iconst 0, 1) := dk_3 (dk_at dksX6_risk_1 3 rfl rfl)
theorem dX6_risk_28 : decode cX6_risk 28 = .ok (.istore_n 3, 1) := dk_62 (dk_at dksX6_risk_1 4 rfl rfl)
theorem dX6_risk_29 : decode cX6_risk 29 = .ok (.iload_n 3, 1) := dk_29 (dk_at dksX6_risk_1 5 rfl rfl)
theorem dX6_risk_30 : decode cX6_risk 30 = .ok (.bipush 14, 2) := dk_16 14 (dk_at dksX6_risk_1 6 rfl rfl)
theorem dX6_risk_32 : decode cX6_risk 32 = .ok (.if_icmp .gt 50, 3) := dk_163 0 50 (dk_at dksX6_risk_1 8 rfl rfl)
theorem dX6_risk_35 : decode cX6_risk 35 = .ok (.iload_n 3, 1) := dk_29 (dk_at dksX6_risk_1 11 rfl rfl)
theorem dX6_risk_36 : decode cX6_risk 36 = .ok (.ifCond .le 8, 3) := dk_158 0 8 (dk_at dksX6_risk_1 12 rfl rfl)
theorem dX6_risk_39 : decode cX6_risk 39 = .ok (.aload_n 0, 1) := dk_42 (dk_at dksX6_risk_1 15 rfl rfl)
theorem dX6_risk_40 : decode cX6_risk 40 = .ok (.iload_n 3, 1) := dk_29 (dk_at dksX6_risk_1 16 rfl rfl)
theorem dX6_risk_41 : decode cX6_risk 41 = .ok (.invokevirtual 366, 3) := dk_182 1 110 (dk_at dksX6_risk_1 17 rfl rfl)
theorem dX6_risk_44 : decode cX6_risk 44 = .ok (.ldc2_w 376, 3) := dk_20 1 120 (dk_at dksX6_risk_1 20 rfl rfl)
theorem dX6_risk_47 : decode cX6_risk 47 = .ok (.aload_n 0, 1) := dk_42 (dk_at dksX6_risk_1 23 rfl rfl)
theorem dX6_risk_48 : decode cX6_risk 48 = .ok (.iconst 0, 1) := dk_3 (dk_at dksX6_risk_2 0 rfl rfl)
theorem dX6_risk_49 : decode cX6_risk 49 = .ok (.aload_n 0, 1) := dk_42 (dk_at dksX6_risk_2 1 rfl rfl)
theorem dX6_risk_50 : decode cX6_risk 50 = .ok (.iload_n 1, 1) := dk_27 (dk_at dksX6_risk_2 2 rfl rfl)
theorem dX6_risk_51 : decode cX6_risk 51 = .ok (.iconst 2, 1) := dk_5 (dk_at dksX6_risk_2 3 rfl rfl)
theorem dX6_risk_52 : decode cX6_risk 52 = .ok (.invokevirtual 223, 3) := dk_182 0 223 (dk_at dksX6_risk_2 4 rfl rfl)
theorem dX6_risk_55 : decode cX6_risk 55 = .ok (.invokevirtual 369, 3) := dk_182 1 113 (dk_at dksX6_risk_2 7 rfl rfl)
theorem dX6_risk_58 : decode cX6_risk 58 = .ok (.lmul, 1) := dk_105 (dk_at dksX6_risk_2 10 rfl rfl)
theorem dX6_risk_59 : decode cX6_risk 59 = .ok (.iload_n 2, 1) := dk_28 (dk_at dksX6_risk_2 11 rfl rfl)
theorem dX6_risk_60 : decode cX6_risk 60 = .ok (.i2l, 1) := dk_133 (dk_at dksX6_risk_2 12 rfl rfl)
theorem dX6_risk_61 : decode cX6_risk 61 = .ok (.aload_n 0, 1) := dk_42 (dk_at dksX6_risk_2 13 rfl rfl)
theorem dX6_risk_62 : decode cX6_risk 62 = .ok (.iconst 0, 1) := dk_3 (dk_at dksX6_risk_2 14 rfl rfl)
theorem dX6_risk_63 : decode cX6_risk 63 = .ok (.sipush 1300, 3) := dk_17 5 20 (dk_at dksX6_risk_2 15 rfl rfl)
theorem dX6_risk_66 : decode cX6_risk 66 = .ok (.invokevirtual 369, 3) := dk_182 1 113 (dk_at dksX6_risk_2 18 rfl rfl)
theorem dX6_risk_69 : decode cX6_risk 69 = .ok (.lmul, 1) := dk_105 (dk_at dksX6_risk_2 21 rfl rfl)
theorem dX6_risk_70 : decode cX6_risk 70 = .ok (.lcmp, 1) := dk_148 (dk_at dksX6_risk_2 22 rfl rfl)
theorem dX6_risk_71 : decode cX6_risk 71 = .ok (.ifCond .lt 5, 3) := dk_155 0 5 (dk_at dksX6_risk_3 0 rfl rfl)
theorem dX6_risk_74 : decode cX6_risk 74 = .ok (.iload_n 3, 1) := dk_29 (dk_at dksX6_risk_3 3 rfl rfl)
theorem dX6_risk_75 : decode cX6_risk 75 = .ok (.ireturn, 1) := dk_172 (dk_at dksX6_risk_3 4 rfl rfl)
theorem dX6_risk_76 : decode cX6_risk 76 = .ok (.iinc 3 1, 3) := dk_132 3 1 (dk_at dksX6_risk_3 5 rfl rfl)
theorem dX6_risk_79 : decode cX6_risk 79 = .ok (.goto (-50), 3) := dk_167 255 206 (dk_at dksX6_risk_3 8 rfl rfl)
theorem dX6_risk_82 : decode cX6_risk 82 = .ok (.iconst (-1), 1) := dk_2 (dk_at dksX6_risk_3 11 rfl rfl)
theorem dX6_risk_83 : decode cX6_risk 83 = .ok (.ireturn, 1) := dk_172 (dk_at dksX6_risk_3 12 rfl rfl)
abbrev cX6_close : ByteArray := prog_14_method_119_code
def yX6_close : MethodName := ⟨RX6, "close", "(II)I"⟩
def dkwX6_close_2 : List UInt8 := [16, 251, 167, 0, 4, 29, 172]
abbrev dktX6_close_2 : List UInt8 := dkwX6_close_2 ++ []
def dkwX6_close_1 : List UInt8 := [182, 0, 247, 42, 180, 0, 238, 27, 184, 1, 6, 62, 42, 5, 27, 104, 28, 96, 182, 1, 122, 156, 0, 8]
abbrev dktX6_close_1 : List UInt8 := dkwX6_close_1 ++ dktX6_close_2
def dkwX6_close_0 : List UInt8 := [42, 27, 182, 0, 226, 153, 0, 13, 28, 133, 9, 10, 184, 0, 92, 154, 0, 6, 16, 254, 172, 42]
abbrev dktX6_close_0 : List UInt8 := dkwX6_close_0 ++ dktX6_close_1
theorem dksX6_close_0 : cX6_close.data.toList.drop 0 = dktX6_close_0 := by decide +kernel
theorem dksX6_close_1 : cX6_close.data.toList.drop 22 = dktX6_close_1 := dk_seg dksX6_close_0 22 rfl rfl
theorem dksX6_close_2 : cX6_close.data.toList.drop 46 = dktX6_close_2 := dk_seg dksX6_close_1 24 rfl rfl
theorem dX6_close_0 : decode cX6_close 0 = .ok (.aload_n 0, 1) := dk_42 (dk_at dksX6_close_0 0 rfl rfl)
theorem dX6_close_1 : decode cX6_close 1 = .ok (.iload_n 1, 1) := dk_27 (dk_at dksX6_close_0 1 rfl rfl)
theorem dX6_close_2 : decode cX6_close 2 = .ok (.invokevirtual 226, 3) := dk_182 0 226 (dk_at dksX6_close_0 2 rfl rfl)
theorem dX6_close_5 : decode cX6_close 5 = .ok (.ifCond .eq 13, 3) := dk_153 0 13 (dk_at dksX6_close_0 5 rfl rfl)
theorem dX6_close_8 : decode cX6_close 8 = .ok (.iload_n 2, 1) := dk_28 (dk_at dksX6_close_0 8 rfl rfl)
theorem dX6_close_9 : decode cX6_close 9 = .ok (.i2l, 1) := dk_133 (dk_at dksX6_close_0 9 rfl rfl)
theorem dX6_close_10 : decode cX6_close 10 = .ok (.lconst 0, 1) := dk_9 (dk_at dksX6_close_0 10 rfl rfl)
theorem dX6_close_11 : decode cX6_close 11 = .ok (.lconst 1, 1) := dk_10 (dk_at dksX6_close_0 11 rfl rfl)
theorem dX6_close_12 : decode cX6_close 12 = .ok (.invokestatic 92, 3) := dk_184 0 92 (dk_at dksX6_close_0 12 rfl rfl)
theorem dX6_close_15 : decode cX6_close 15 = .ok (.ifCond .ne 6, 3) := dk_154 0 6 (dk_at dksX6_close_0 15 rfl rfl)
theorem dX6_close_18 : decode cX6_close 18 = .ok (.bipush (-2), 2) := dk_16 254 (dk_at dksX6_close_0 18 rfl rfl)
theorem dX6_close_20 : decode cX6_close 20 = .ok (.ireturn, 1) := dk_172 (dk_at dksX6_close_0 20 rfl rfl)
theorem dX6_close_21 : decode cX6_close 21 = .ok (.aload_n 0, 1) := dk_42 (dk_at dksX6_close_0 21 rfl rfl)
theorem dX6_close_22 : decode cX6_close 22 = .ok (.invokevirtual 247, 3) := dk_182 0 247 (dk_at dksX6_close_1 0 rfl rfl)
theorem dX6_close_25 : decode cX6_close 25 = .ok (.aload_n 0, 1) := dk_42 (dk_at dksX6_close_1 3 rfl rfl)
theorem dX6_close_26 : decode cX6_close 26 = .ok (.getfield 238, 3) := dk_180 0 238 (dk_at dksX6_close_1 4 rfl rfl)
theorem dX6_close_29 : decode cX6_close 29 = .ok (.iload_n 1, 1) := dk_27 (dk_at dksX6_close_1 7 rfl rfl)
theorem dX6_close_30 : decode cX6_close 30 = .ok (.invokestatic 262, 3) := dk_184 1 6 (dk_at dksX6_close_1 8 rfl rfl)
theorem dX6_close_33 : decode cX6_close 33 = .ok (.istore_n 3, 1) := dk_62 (dk_at dksX6_close_1 11 rfl rfl)
theorem dX6_close_34 : decode cX6_close 34 = .ok (.aload_n 0, 1) := dk_42 (dk_at dksX6_close_1 12 rfl rfl)
theorem dX6_close_35 : decode cX6_close 35 = .ok (.iconst 2, 1) := dk_5 (dk_at dksX6_close_1 13 rfl rfl)
theorem dX6_close_36 : decode cX6_close 36 = .ok (.iload_n 1, 1) := dk_27 (dk_at dksX6_close_1 14 rfl rfl)
theorem dX6_close_37 : decode cX6_close 37 = .ok (.imul, 1) := dk_104 (dk_at dksX6_close_1 15 rfl rfl)
theorem dX6_close_38 : decode cX6_close 38 = .ok (.iload_n 2, 1) := dk_28 (dk_at dksX6_close_1 16 rfl rfl)
theorem dX6_close_39 : decode cX6_close 39 = .ok (.iadd, 1) := dk_96 (dk_at dksX6_close_1 17 rfl rfl)
theorem dX6_close_40 : decode cX6_close 40 = .ok (.invokevirtual 378, 3) := dk_182 1 122 (dk_at dksX6_close_1 18 rfl rfl)
theorem dX6_close_43 : decode cX6_close 43 = .ok (.ifCond .ge 8, 3) := dk_156 0 8 (dk_at dksX6_close_1 21 rfl rfl)
theorem dX6_close_46 : decode cX6_close 46 = .ok (.bipush (-5), 2) := dk_16 251 (dk_at dksX6_close_2 0 rfl rfl)
theorem dX6_close_48 : decode cX6_close 48 = .ok (.goto 4, 3) := dk_167 0 4 (dk_at dksX6_close_2 2 rfl rfl)
theorem dX6_close_51 : decode cX6_close 51 = .ok (.iload_n 3, 1) := dk_29 (dk_at dksX6_close_2 5 rfl rfl)
theorem dX6_close_52 : decode cX6_close 52 = .ok (.ireturn, 1) := dk_172 (dk_at dksX6_close_2 6 rfl rfl)
abbrev cX6_keepAct : ByteArray := prog_14_method_118_code
def yX6_keepAct : MethodName := ⟨RX6, "keepAct", "(I)I"⟩
def dkwX6_keepAct_1 : List UInt8 := [180, 0, 9, 16, 6, 46, 96, 27, 79, 42, 180, 0, 9, 16, 6, 92, 46, 4, 96, 79, 3, 172]
abbrev dktX6_keepAct_1 : List UInt8 := dkwX6_keepAct_1 ++ []
def dkwX6_keepAct_0 : List UInt8 := [42, 180, 0, 9, 16, 6, 46, 16, 30, 160, 0, 6, 16, 251, 172, 42, 180, 0, 9, 16, 68, 42]
abbrev dktX6_keepAct_0 : List UInt8 := dkwX6_keepAct_0 ++ dktX6_keepAct_1
theorem dksX6_keepAct_0 : cX6_keepAct.data.toList.drop 0 = dktX6_keepAct_0 := by decide +kernel
theorem dksX6_keepAct_1 : cX6_keepAct.data.toList.drop 22 = dktX6_keepAct_1 := dk_seg dksX6_keepAct_0 22 rfl rfl
theorem dX6_keepAct_0 : decode cX6_keepAct 0 = .ok (.aload_n 0, 1) := dk_42 (dk_at dksX6_keepAct_0 0 rfl rfl)
theorem dX6_keepAct_1 : decode cX6_keepAct 1 = .ok (.getfield 9, 3) := dk_180 0 9 (dk_at dksX6_keepAct_0 1 rfl rfl)
theorem dX6_keepAct_4 : decode cX6_keepAct 4 = .ok (.bipush 6, 2) := dk_16 6 (dk_at dksX6_keepAct_0 4 rfl rfl)
theorem dX6_keepAct_6 : decode cX6_keepAct 6 = .ok (.iaload, 1) := dk_46 (dk_at dksX6_keepAct_0 6 rfl rfl)
theorem dX6_keepAct_7 : decode cX6_keepAct 7 = .ok (.bipush 30, 2) := dk_16 30 (dk_at dksX6_keepAct_0 7 rfl rfl)
theorem dX6_keepAct_9 : decode cX6_keepAct 9 = .ok (.if_icmp .ne 6, 3) := dk_160 0 6 (dk_at dksX6_keepAct_0 9 rfl rfl)
theorem dX6_keepAct_12 : decode cX6_keepAct 12 = .ok (.bipush (-5), 2) := dk_16 251 (dk_at dksX6_keepAct_0 12 rfl rfl)
theorem dX6_keepAct_14 : decode cX6_keepAct 14 = .ok (.ireturn, 1) := dk_172 (dk_at dksX6_keepAct_0 14 rfl rfl)
theorem dX6_keepAct_15 : decode cX6_keepAct 15 = .ok (.aload_n 0, 1) := dk_42 (dk_at dksX6_keepAct_0 15 rfl rfl)
theorem dX6_keepAct_16 : decode cX6_keepAct 16 = .ok (.getfield 9, 3) := dk_180 0 9 (dk_at dksX6_keepAct_0 16 rfl rfl)
theorem dX6_keepAct_19 : decode cX6_keepAct 19 = .ok (.bipush 68, 2) := dk_16 68 (dk_at dksX6_keepAct_0 19 rfl rfl)
theorem dX6_keepAct_21 : decode cX6_keepAct 21 = .ok (.aload_n 0, 1) := dk_42 (dk_at dksX6_keepAct_0 21 rfl rfl)
theorem dX6_keepAct_22 : decode cX6_keepAct 22 = .ok (.getfield 9, 3) := dk_180 0 9 (dk_at dksX6_keepAct_1 0 rfl rfl)
theorem dX6_keepAct_25 : decode cX6_keepAct 25 = .ok (.bipush 6, 2) := dk_16 6 (dk_at dksX6_keepAct_1 3 rfl rfl)
theorem dX6_keepAct_27 : decode cX6_keepAct 27 = .ok (.iaload, 1) := dk_46 (dk_at dksX6_keepAct_1 5 rfl rfl)
theorem dX6_keepAct_28 : decode cX6_keepAct 28 = .ok (.iadd, 1) := dk_96 (dk_at dksX6_keepAct_1 6 rfl rfl)
theorem dX6_keepAct_29 : decode cX6_keepAct 29 = .ok (.iload_n 1, 1) := dk_27 (dk_at dksX6_keepAct_1 7 rfl rfl)
theorem dX6_keepAct_30 : decode cX6_keepAct 30 = .ok (.iastore, 1) := dk_79 (dk_at dksX6_keepAct_1 8 rfl rfl)
theorem dX6_keepAct_31 : decode cX6_keepAct 31 = .ok (.aload_n 0, 1) := dk_42 (dk_at dksX6_keepAct_1 9 rfl rfl)
theorem dX6_keepAct_32 : decode cX6_keepAct 32 = .ok (.getfield 9, 3) := dk_180 0 9 (dk_at dksX6_keepAct_1 10 rfl rfl)
theorem dX6_keepAct_35 : decode cX6_keepAct 35 = .ok (.bipush 6, 2) := dk_16 6 (dk_at dksX6_keepAct_1 13 rfl rfl)
theorem dX6_keepAct_37 : decode cX6_keepAct 37 = .ok (.dup2, 1) := dk_92 (dk_at dksX6_keepAct_1 15 rfl rfl)
theorem dX6_keepAct_38 : decode cX6_keepAct 38 = .ok (.iaload, 1) := dk_46 (dk_at dksX6_keepAct_1 16 rfl rfl)
theorem dX6_keepAct_39 : decode cX6_keepAct 39 = .ok (.iconst 1, 1) := dk_4 (dk_at dksX6_keepAct_1 17 rfl rfl)
theorem dX6_keepAct_40 : decode cX6_keepAct 40 = .ok (.iadd, 1) := dk_96 (dk_at dksX6_keepAct_1 18 rfl rfl)
theorem dX6_keepAct_41 : decode cX6_keepAct 41 = .ok (.iastore, 1) := dk_79 (dk_at dksX6_keepAct_1 19 rfl rfl)
theorem dX6_keepAct_42 : decode cX6_keepAct 42 = .ok (.iconst 0, 1) := dk_3 (dk_at dksX6_keepAct_1 20 rfl rfl)
theorem dX6_keepAct_43 : decode cX6_keepAct 43 = .ok (.ireturn, 1) := dk_172 (dk_at dksX6_keepAct_1 21 rfl rfl)
abbrev cX6_pours : ByteArray := prog_14_method_120_code
def yX6_pours : MethodName := ⟨RX6, "pours", "(II)I"⟩
def dkwX6_pours_2 : List UInt8 := [42, 182, 0, 247, 42, 180, 0, 37, 27, 46, 172]
abbrev dktX6_pours_2 : List UInt8 := dkwX6_pours_2 ++ []
def dkwX6_pours_1 : List UInt8 := [154, 0, 6, 16, 254, 172, 42, 16, 100, 27, 4, 96, 104, 28, 96, 182, 1, 122, 156, 0, 6, 16, 251, 172]
abbrev dktX6_pours_1 : List UInt8 := dkwX6_pours_1 ++ dktX6_pours_2
def dkwX6_pours_0 : List UInt8 := [42, 182, 0, 250, 153, 0, 23, 27, 133, 184, 1, 0, 153, 0, 15, 28, 133, 10, 20, 1, 125, 184, 0, 92]
abbrev dktX6_pours_0 : List UInt8 := dkwX6_pours_0 ++ dktX6_pours_1
theorem dksX6_pours_0 : cX6_pours.data.toList.drop 0 = dktX6_pours_0 := by decide +kernel
theorem dksX6_pours_1 : cX6_pours.data.toList.drop 24 = dktX6_pours_1 := dk_seg dksX6_pours_0 24 rfl rfl
theorem dksX6_pours_2 : cX6_pours.data.toList.drop 48 = dktX6_pours_2 := dk_seg dksX6_pours_1 24 rfl rfl
theorem dX6_pours_0 : decode cX6_pours 0 = .ok (.aload_n 0, 1) := dk_42 (dk_at dksX6_pours_0 0 rfl rfl)
theorem dX6_pours_1 : decode cX6_pours 1 = .ok (.invokevirtual 250, 3) := dk_182 0 250 (dk_at dksX6_pours_0 1 rfl rfl)
theorem dX6_pours_4 : decode cX6_pours 4 = .ok (.ifCond .eq 23, 3) := dk_153 0 23 (dk_at dksX6_pours_0 4 rfl rfl)
theorem dX6_pours_7 : decode cX6_pours 7 = .ok (.iload_n 1, 1) := dk_27 (dk_at dksX6_pours_0 7 rfl rfl)
theorem dX6_pours_8 : decode cX6_pours 8 = .ok (.i2l, 1) := dk_133 (dk_at dksX6_pours_0 8 rfl rfl)
theorem dX6_pours_9 : decode cX6_pours 9 = .ok (.invokestatic 256, 3) := dk_184 1 0 (dk_at dksX6_pours_0 9 rfl rfl)
theorem dX6_pours_12 : decode cX6_pours 12 = .ok (.ifCond .eq 15, 3) := dk_153 0 15 (dk_at dksX6_pours_0 12 rfl rfl)
theorem dX6_pours_15 : decode cX6_pours 15 = .ok (.iload_n 2, 1) := dk_28 (dk_at dksX6_pours_0 15 rfl rfl)
theorem dX6_pours_16 : decode cX6_pours 16 = .ok (.i2l, 1) := dk_133 (dk_at dksX6_pours_0 16 rfl rfl)
theorem dX6_pours_17 : decode cX6_pours 17 = .ok (.lconst 1, 1) := dk_10 (dk_at dksX6_pours_0 17 rfl rfl)
theorem dX6_pours_18 : decode cX6_pours 18 = .ok (.ldc2_w 381, 3) := dk_20 1 125 (dk_at dksX6_pours_0 18 rfl rfl)
theorem dX6_pours_21 : decode cX6_pours 21 = .ok (.invokestatic 92, 3) := dk_184 0 92 (dk_at dksX6_pours_0 21 rfl rfl)
theorem dX6_pours_24 : decode cX6_pours 24 = .ok (.ifCond .ne 6, 3) := dk_154 0 6 (dk_at dksX6_pours_1 0 rfl rfl)
theorem dX6_pours_27 : decode cX6_pours 27 = .ok (.bipush (-2), 2) := dk_16 254 (dk_at dksX6_pours_1 3 rfl rfl)
theorem dX6_pours_29 : decode cX6_pours 29 = .ok (.ireturn, 1) := dk_172 (dk_at dksX6_pours_1 5 rfl rfl)
theorem dX6_pours_30 : decode cX6_pours 30 = .ok (.aload_n 0, 1) := dk_42 (dk_at dksX6_pours_1 6 rfl rfl)
theorem dX6_pours_31 : decode cX6_pours 31 = .ok (.bipush 100, 2) := dk_16 100 (dk_at dksX6_pours_1 7 rfl rfl)
theorem dX6_pours_33 : decode cX6_pours 33 = .ok (.iload_n 1, 1) := dk_27 (dk_at dksX6_pours_1 9 rfl rfl)
theorem dX6_pours_34 : decode cX6_pours 34 = .ok (.iconst 1, 1) := dk_4 (dk_at dksX6_pours_1 10 rfl rfl)
theorem dX6_pours_35 : decode cX6_pours 35 = .ok (.iadd, 1) := dk_96 (dk_at dksX6_pours_1 11 rfl rfl)
theorem dX6_pours_36 : decode cX6_pours 36 = .ok (.imul, 1) := dk_104 (dk_at dksX6_pours_1 12 rfl rfl)
theorem dX6_pours_37 : decode cX6_pours 37 = .ok (.iload_n 2, 1) := dk_28 (dk_at dksX6_pours_1 13 rfl rfl)
theorem dX6_pours_38 : decode cX6_pours 38 = .ok (.iadd, 1) := dk_96 (dk_at dksX6_pours_1 14 rfl rfl)
theorem dX6_pours_39 : decode cX6_pours 39 = .ok (.invokevirtual 378, 3) := dk_182 1 122 (dk_at dksX6_pours_1 15 rfl rfl)
theorem dX6_pours_42 : decode cX6_pours 42 = .ok (.ifCond .ge 6, 3) := dk_156 0 6 (dk_at dksX6_pours_1 18 rfl rfl)
theorem dX6_pours_45 : decode cX6_pours 45 = .ok (.bipush (-5), 2) := dk_16 251 (dk_at dksX6_pours_1 21 rfl rfl)
theorem dX6_pours_47 : decode cX6_pours 47 = .ok (.ireturn, 1) := dk_172 (dk_at dksX6_pours_1 23 rfl rfl)
theorem dX6_pours_48 : decode cX6_pours 48 = .ok (.aload_n 0, 1) := dk_42 (dk_at dksX6_pours_2 0 rfl rfl)
theorem dX6_pours_49 : decode cX6_pours 49 = .ok (.invokevirtual 247, 3) := dk_182 0 247 (dk_at dksX6_pours_2 1 rfl rfl)
theorem dX6_pours_52 : decode cX6_pours 52 = .ok (.aload_n 0, 1) := dk_42 (dk_at dksX6_pours_2 4 rfl rfl)
theorem dX6_pours_53 : decode cX6_pours 53 = .ok (.getfield 37, 3) := dk_180 0 37 (dk_at dksX6_pours_2 5 rfl rfl)
theorem dX6_pours_56 : decode cX6_pours 56 = .ok (.iload_n 1, 1) := dk_27 (dk_at dksX6_pours_2 8 rfl rfl)
theorem dX6_pours_57 : decode cX6_pours 57 = .ok (.iaload, 1) := dk_46 (dk_at dksX6_pours_2 9 rfl rfl)
theorem dX6_pours_58 : decode cX6_pours 58 = .ok (.ireturn, 1) := dk_172 (dk_at dksX6_pours_2 10 rfl rfl)
abbrev cX6_undo : ByteArray := prog_14_method_121_code
def yX6_undo : MethodName := ⟨RX6, "undo", "()I"⟩
def dkwX6_undo_1 : List UInt8 := [180, 0, 9, 16, 6, 92, 46, 4, 100, 79, 42, 180, 0, 9, 16, 6, 46, 172]
abbrev dktX6_undo_1 : List UInt8 := dkwX6_undo_1 ++ []
def dkwX6_undo_0 : List UInt8 := [42, 182, 0, 250, 154, 0, 6, 16, 254, 172, 42, 180, 0, 9, 16, 6, 46, 154, 0, 6, 16, 251, 172, 42]
abbrev dktX6_undo_0 : List UInt8 := dkwX6_undo_0 ++ dktX6_undo_1
theorem dksX6_undo_0 : cX6_undo.data.toList.drop 0 = dktX6_undo_0 := by decide +kernel
theorem dksX6_undo_1 : cX6_undo.data.toList.drop 24 = dktX6_undo_1 := dk_seg dksX6_undo_0 24 rfl rfl
theorem dX6_undo_0 : decode cX6_undo 0 = .ok (.aload_n 0, 1) := dk_42 (dk_at dksX6_undo_0 0 rfl rfl)
theorem dX6_undo_1 : decode cX6_undo 1 = .ok (.invokevirtual 250, 3) := dk_182 0 250 (dk_at dksX6_undo_0 1 rfl rfl)
theorem dX6_undo_4 : decode cX6_undo 4 = .ok (.ifCond .ne 6, 3) := dk_154 0 6 (dk_at dksX6_undo_0 4 rfl rfl)
theorem dX6_undo_7 : decode cX6_undo 7 = .ok (.bipush (-2), 2) := dk_16 254 (dk_at dksX6_undo_0 7 rfl rfl)
theorem dX6_undo_9 : decode cX6_undo 9 = .ok (.ireturn, 1) := dk_172 (dk_at dksX6_undo_0 9 rfl rfl)
theorem dX6_undo_10 : decode cX6_undo 10 = .ok (.aload_n 0, 1) := dk_42 (dk_at dksX6_undo_0 10 rfl rfl)
theorem dX6_undo_11 : decode cX6_undo 11 = .ok (.getfield 9, 3) := dk_180 0 9 (dk_at dksX6_undo_0 11 rfl rfl)
theorem dX6_undo_14 : decode cX6_undo 14 = .ok (.bipush 6, 2) := dk_16 6 (dk_at dksX6_undo_0 14 rfl rfl)
theorem dX6_undo_16 : decode cX6_undo 16 = .ok (.iaload, 1) := dk_46 (dk_at dksX6_undo_0 16 rfl rfl)
theorem dX6_undo_17 : decode cX6_undo 17 = .ok (.ifCond .ne 6, 3) := dk_154 0 6 (dk_at dksX6_undo_0 17 rfl rfl)
theorem dX6_undo_20 : decode cX6_undo 20 = .ok (.bipush (-5), 2) := dk_16 251 (dk_at dksX6_undo_0 20 rfl rfl)
theorem dX6_undo_22 : decode cX6_undo 22 = .ok (.ireturn, 1) := dk_172 (dk_at dksX6_undo_0 22 rfl rfl)
theorem dX6_undo_23 : decode cX6_undo 23 = .ok (.aload_n 0, 1) := dk_42 (dk_at dksX6_undo_0 23 rfl rfl)
theorem dX6_undo_24 : decode cX6_undo 24 = .ok (.getfield 9, 3) := dk_180 0 9 (dk_at dksX6_undo_1 0 rfl rfl)
theorem dX6_undo_27 : decode cX6_undo 27 = .ok (.bipush 6, 2) := dk_16 6 (dk_at dksX6_undo_1 3 rfl rfl)
theorem dX6_undo_29 : decode cX6_undo 29 = .ok (.dup2, 1) := dk_92 (dk_at dksX6_undo_1 5 rfl rfl)
theorem dX6_undo_30 : decode cX6_undo 30 = .ok (.iaload, 1) := dk_46 (dk_at dksX6_undo_1 6 rfl rfl)
theorem dX6_undo_31 : decode cX6_undo 31 = .ok (.iconst 1, 1) := dk_4 (dk_at dksX6_undo_1 7 rfl rfl)
theorem dX6_undo_32 : decode cX6_undo 32 = .ok (.isub, 1) := dk_100 (dk_at dksX6_undo_1 8 rfl rfl)
theorem dX6_undo_33 : decode cX6_undo 33 = .ok (.iastore, 1) := dk_79 (dk_at dksX6_undo_1 9 rfl rfl)
theorem dX6_undo_34 : decode cX6_undo 34 = .ok (.aload_n 0, 1) := dk_42 (dk_at dksX6_undo_1 10 rfl rfl)
theorem dX6_undo_35 : decode cX6_undo 35 = .ok (.getfield 9, 3) := dk_180 0 9 (dk_at dksX6_undo_1 11 rfl rfl)
theorem dX6_undo_38 : decode cX6_undo 38 = .ok (.bipush 6, 2) := dk_16 6 (dk_at dksX6_undo_1 14 rfl rfl)
theorem dX6_undo_40 : decode cX6_undo 40 = .ok (.iaload, 1) := dk_46 (dk_at dksX6_undo_1 16 rfl rfl)
theorem dX6_undo_41 : decode cX6_undo 41 = .ok (.ireturn, 1) := dk_172 (dk_at dksX6_undo_1 17 rfl rfl)
abbrev cX6_anew : ByteArray := prog_14_method_122_code
def yX6_anew : MethodName := ⟨RX6, "anew", "()I"⟩
def dkwX6_anew_1 : List UInt8 := [3, 79, 27, 172]
abbrev dktX6_anew_1 : List UInt8 := dkwX6_anew_1 ++ []
def dkwX6_anew_0 : List UInt8 := [42, 182, 0, 250, 154, 0, 6, 16, 254, 172, 42, 180, 0, 9, 16, 6, 46, 60, 42, 180, 0, 9, 16, 6]
abbrev dktX6_anew_0 : List UInt8 := dkwX6_anew_0 ++ dktX6_anew_1
theorem dksX6_anew_0 : cX6_anew.data.toList.drop 0 = dktX6_anew_0 := by decide +kernel
theorem dksX6_anew_1 : cX6_anew.data.toList.drop 24 = dktX6_anew_1 := dk_seg dksX6_anew_0 24 rfl rfl
theorem dX6_anew_0 : decode cX6_anew 0 = .ok (.aload_n 0, 1) := dk_42 (dk_at dksX6_anew_0 0 rfl rfl)
theorem dX6_anew_1 : decode cX6_anew 1 = .ok (.invokevirtual 250, 3) := dk_182 0 250 (dk_at dksX6_anew_0 1 rfl rfl)
theorem dX6_anew_4 : decode cX6_anew 4 = .ok (.ifCond .ne 6, 3) := dk_154 0 6 (dk_at dksX6_anew_0 4 rfl rfl)
theorem dX6_anew_7 : decode cX6_anew 7 = .ok (.bipush (-2), 2) := dk_16 254 (dk_at dksX6_anew_0 7 rfl rfl)
theorem dX6_anew_9 : decode cX6_anew 9 = .ok (.ireturn, 1) := dk_172 (dk_at dksX6_anew_0 9 rfl rfl)
theorem dX6_anew_10 : decode cX6_anew 10 = .ok (.aload_n 0, 1) := dk_42 (dk_at dksX6_anew_0 10 rfl rfl)
theorem dX6_anew_11 : decode cX6_anew 11 = .ok (.getfield 9, 3) := dk_180 0 9 (dk_at dksX6_anew_0 11 rfl rfl)
theorem dX6_anew_14 : decode cX6_anew 14 = .ok (.bipush 6, 2) := dk_16 6 (dk_at dksX6_anew_0 14 rfl rfl)
theorem dX6_anew_16 : decode cX6_anew 16 = .ok (.iaload, 1) := dk_46 (dk_at dksX6_anew_0 16 rfl rfl)
theorem dX6_anew_17 : decode cX6_anew 17 = .ok (.istore_n 1, 1) := dk_60 (dk_at dksX6_anew_0 17 rfl rfl)
theorem dX6_anew_18 : decode cX6_anew 18 = .ok (.aload_n 0, 1) := dk_42 (dk_at dksX6_anew_0 18 rfl rfl)
theorem dX6_anew_19 : decode cX6_anew 19 = .ok (.getfield 9, 3) := dk_180 0 9 (dk_at dksX6_anew_0 19 rfl rfl)
theorem dX6_anew_22 : decode cX6_anew 22 = .ok (.bipush 6, 2) := dk_16 6 (dk_at dksX6_anew_0 22 rfl rfl)
theorem dX6_anew_24 : decode cX6_anew 24 = .ok (.iconst 0, 1) := dk_3 (dk_at dksX6_anew_1 0 rfl rfl)
theorem dX6_anew_25 : decode cX6_anew 25 = .ok (.iastore, 1) := dk_79 (dk_at dksX6_anew_1 1 rfl rfl)
theorem dX6_anew_26 : decode cX6_anew 26 = .ok (.iload_n 1, 1) := dk_27 (dk_at dksX6_anew_1 2 rfl rfl)
theorem dX6_anew_27 : decode cX6_anew 27 = .ok (.ireturn, 1) := dk_172 (dk_at dksX6_anew_1 3 rfl rfl)
abbrev cX6_drawn : ByteArray := prog_14_method_125_code
def yX6_drawn : MethodName := ⟨RX6, "drawn", "(II)I"⟩
def dkwX6_drawn_2 : List UInt8 := [180, 1, 127, 172]
abbrev dktX6_drawn_2 : List UInt8 := dkwX6_drawn_2 ++ []
def dkwX6_drawn_1 : List UInt8 := [16, 254, 172, 42, 27, 133, 182, 1, 145, 28, 154, 0, 13, 42, 180, 0, 37, 16, 60, 46, 167, 0, 7, 42]
abbrev dktX6_drawn_1 : List UInt8 := dkwX6_drawn_1 ++ dktX6_drawn_2
def dkwX6_drawn_0 : List UInt8 := [42, 182, 0, 250, 153, 0, 20, 27, 184, 1, 142, 153, 0, 13, 28, 133, 9, 10, 184, 0, 92, 154, 0, 6]
abbrev dktX6_drawn_0 : List UInt8 := dkwX6_drawn_0 ++ dktX6_drawn_1
theorem dksX6_drawn_0 : cX6_drawn.data.toList.drop 0 = dktX6_drawn_0 := by decide +kernel
theorem dksX6_drawn_1 : cX6_drawn.data.toList.drop 24 = dktX6_drawn_1 := dk_seg dksX6_drawn_0 24 rfl rfl
theorem dksX6_drawn_2 : cX6_drawn.data.toList.drop 48 = dktX6_drawn_2 := dk_seg dksX6_drawn_1 24 rfl rfl
theorem dX6_drawn_0 : decode cX6_drawn 0 = .ok (.aload_n 0, 1) := dk_42 (dk_at dksX6_drawn_0 0 rfl rfl)
theorem dX6_drawn_1 : decode cX6_drawn 1 = .ok (.invokevirtual 250, 3) := dk_182 0 250 (dk_at dksX6_drawn_0 1 rfl rfl)
theorem dX6_drawn_4 : decode cX6_drawn 4 = .ok (.ifCond .eq 20, 3) := dk_153 0 20 (dk_at dksX6_drawn_0 4 rfl rfl)
theorem dX6_drawn_7 : decode cX6_drawn 7 = .ok (.iload_n 1, 1) := dk_27 (dk_at dksX6_drawn_0 7 rfl rfl)
theorem dX6_drawn_8 : decode cX6_drawn 8 = .ok (.invokestatic 398, 3) := dk_184 1 142 (dk_at dksX6_drawn_0 8 rfl rfl)
theorem dX6_drawn_11 : decode cX6_drawn 11 = .ok (.ifCond .eq 13, 3) := dk_153 0 13 (dk_at dksX6_drawn_0 11 rfl rfl)
theorem dX6_drawn_14 : decode cX6_drawn 14 = .ok (.iload_n 2, 1) := dk_28 (dk_at dksX6_drawn_0 14 rfl rfl)
theorem dX6_drawn_15 : decode cX6_drawn 15 = .ok (.i2l, 1) := dk_133 (dk_at dksX6_drawn_0 15 rfl rfl)
theorem dX6_drawn_16 : decode cX6_drawn 16 = .ok (.lconst 0, 1) := dk_9 (dk_at dksX6_drawn_0 16 rfl rfl)
theorem dX6_drawn_17 : decode cX6_drawn 17 = .ok (.lconst 1, 1) := dk_10 (dk_at dksX6_drawn_0 17 rfl rfl)
theorem dX6_drawn_18 : decode cX6_drawn 18 = .ok (.invokestatic 92, 3) := dk_184 0 92 (dk_at dksX6_drawn_0 18 rfl rfl)
theorem dX6_drawn_21 : decode cX6_drawn 21 = .ok (.ifCond .ne 6, 3) := dk_154 0 6 (dk_at dksX6_drawn_0 21 rfl rfl)
theorem dX6_drawn_24 : decode cX6_drawn 24 = .ok (.bipush (-2), 2) := dk_16 254 (dk_at dksX6_drawn_1 0 rfl rfl)
theorem dX6_drawn_26 : decode cX6_drawn 26 = .ok (.ireturn, 1) := dk_172 (dk_at dksX6_drawn_1 2 rfl rfl)
theorem dX6_drawn_27 : decode cX6_drawn 27 = .ok (.aload_n 0, 1) := dk_42 (dk_at dksX6_drawn_1 3 rfl rfl)
theorem dX6_drawn_28 : decode cX6_drawn 28 = .ok (.iload_n 1, 1) := dk_27 (dk_at dksX6_drawn_1 4 rfl rfl)
theorem dX6_drawn_29 : decode cX6_drawn 29 = .ok (.i2l, 1) := dk_133 (dk_at dksX6_drawn_1 5 rfl rfl)
theorem dX6_drawn_30 : decode cX6_drawn 30 = .ok (.invokevirtual 401, 3) := dk_182 1 145 (dk_at dksX6_drawn_1 6 rfl rfl)
theorem dX6_drawn_33 : decode cX6_drawn 33 = .ok (.iload_n 2, 1) := dk_28 (dk_at dksX6_drawn_1 9 rfl rfl)
theorem dX6_drawn_34 : decode cX6_drawn 34 = .ok (.ifCond .ne 13, 3) := dk_154 0 13 (dk_at dksX6_drawn_1 10 rfl rfl)
theorem dX6_drawn_37 : decode cX6_drawn 37 = .ok (.aload_n 0, 1) := dk_42 (dk_at dksX6_drawn_1 13 rfl rfl)
theorem dX6_drawn_38 : decode cX6_drawn 38 = .ok (.getfield 37, 3) := dk_180 0 37 (dk_at dksX6_drawn_1 14 rfl rfl)
theorem dX6_drawn_41 : decode cX6_drawn 41 = .ok (.bipush 60, 2) := dk_16 60 (dk_at dksX6_drawn_1 17 rfl rfl)
theorem dX6_drawn_43 : decode cX6_drawn 43 = .ok (.iaload, 1) := dk_46 (dk_at dksX6_drawn_1 19 rfl rfl)
theorem dX6_drawn_44 : decode cX6_drawn 44 = .ok (.goto 7, 3) := dk_167 0 7 (dk_at dksX6_drawn_1 20 rfl rfl)
theorem dX6_drawn_47 : decode cX6_drawn 47 = .ok (.aload_n 0, 1) := dk_42 (dk_at dksX6_drawn_1 23 rfl rfl)
theorem dX6_drawn_48 : decode cX6_drawn 48 = .ok (.getfield 383, 3) := dk_180 1 127 (dk_at dksX6_drawn_2 0 rfl rfl)
theorem dX6_drawn_51 : decode cX6_drawn 51 = .ok (.ireturn, 1) := dk_172 (dk_at dksX6_drawn_2 3 rfl rfl)
abbrev cX6_isSeed : ByteArray := prog_14_method_124_code
def yX6_isSeed : MethodName := ⟨RX6, "isSeed", "(I)Z"⟩
def dkwX6_isSeed_0 : List UInt8 := [26, 133, 9, 20, 1, 140, 184, 0, 92, 172]
abbrev dktX6_isSeed_0 : List UInt8 := dkwX6_isSeed_0 ++ []
theorem dksX6_isSeed_0 : cX6_isSeed.data.toList.drop 0 = dktX6_isSeed_0 := by decide +kernel
theorem dX6_isSeed_0 : decode cX6_isSeed 0 = .ok (.iload_n 0, 1) := dk_26 (dk_at dksX6_isSeed_0 0 rfl rfl)
theorem dX6_isSeed_1 : decode cX6_isSeed 1 = .ok (.i2l, 1) := dk_133 (dk_at dksX6_isSeed_0 1 rfl rfl)
theorem dX6_isSeed_2 : decode cX6_isSeed 2 = .ok (.lconst 0, 1) := dk_9 (dk_at dksX6_isSeed_0 2 rfl rfl)
theorem dX6_isSeed_3 : decode cX6_isSeed 3 = .ok (.ldc2_w 396, 3) := dk_20 1 140 (dk_at dksX6_isSeed_0 3 rfl rfl)
theorem dX6_isSeed_6 : decode cX6_isSeed 6 = .ok (.invokestatic 92, 3) := dk_184 0 92 (dk_at dksX6_isSeed_0 6 rfl rfl)
theorem dX6_isSeed_9 : decode cX6_isSeed 9 = .ok (.ireturn, 1) := dk_172 (dk_at dksX6_isSeed_0 9 rfl rfl)
abbrev cX6_goDrawn : ByteArray := prog_14_method_123_code
def yX6_goDrawn : MethodName := ⟨RX6, "goDrawn", "(J)V"⟩
def dkwX6_goDrawn_3 : List UInt8 := [96, 79, 42, 89, 180, 1, 127, 4, 96, 181, 1, 127, 132, 5, 1, 167, 255, 183, 42, 182, 0, 244, 177]
abbrev dktX6_goDrawn_3 : List UInt8 := dkwX6_goDrawn_3 ++ []
def dkwX6_goDrawn_2 : List UInt8 := [4, 46, 133, 148, 155, 0, 6, 167, 0, 29, 42, 180, 0, 34, 21, 5, 92, 46, 42, 180, 0, 9, 5, 46]
abbrev dktX6_goDrawn_2 : List UInt8 := dkwX6_goDrawn_2 ++ dktX6_goDrawn_3
def dkwX6_goDrawn_1 : List UInt8 := [33, 105, 20, 1, 132, 97, 20, 1, 134, 113, 66, 33, 20, 1, 136, 109, 20, 1, 138, 113, 42, 180, 0, 9]
abbrev dktX6_goDrawn_1 : List UInt8 := dkwX6_goDrawn_1 ++ dktX6_goDrawn_2
def dkwX6_goDrawn_0 : List UInt8 := [42, 182, 0, 247, 31, 66, 42, 3, 181, 1, 127, 4, 54, 5, 21, 5, 16, 60, 163, 0, 72, 20, 1, 130]
abbrev dktX6_goDrawn_0 : List UInt8 := dkwX6_goDrawn_0 ++ dktX6_goDrawn_1
theorem dksX6_goDrawn_0 : cX6_goDrawn.data.toList.drop 0 = dktX6_goDrawn_0 := by decide +kernel
theorem dksX6_goDrawn_1 : cX6_goDrawn.data.toList.drop 24 = dktX6_goDrawn_1 := dk_seg dksX6_goDrawn_0 24 rfl rfl
theorem dksX6_goDrawn_2 : cX6_goDrawn.data.toList.drop 48 = dktX6_goDrawn_2 := dk_seg dksX6_goDrawn_1 24 rfl rfl
theorem dksX6_goDrawn_3 : cX6_goDrawn.data.toList.drop 72 = dktX6_goDrawn_3 := dk_seg dksX6_goDrawn_2 24 rfl rfl
theorem dX6_goDrawn_0 : decode cX6_goDrawn 0 = .ok (.aload_n 0, 1) := dk_42 (dk_at dksX6_goDrawn_0 0 rfl rfl)
theorem dX6_goDrawn_1 : decode cX6_goDrawn 1 = .ok (.invokevirtual 247, 3) := dk_182 0 247 (dk_at dksX6_goDrawn_0 1 rfl rfl)
theorem dX6_goDrawn_4 : decode cX6_goDrawn 4 = .ok (.lload_n 1, 1) := dk_31 (dk_at dksX6_goDrawn_0 4 rfl rfl)
theorem dX6_goDrawn_5 : decode cX6_goDrawn 5 = .ok (.lstore_n 3, 1) := dk_66 (dk_at dksX6_goDrawn_0 5 rfl rfl)
theorem dX6_goDrawn_6 : decode cX6_goDrawn 6 = .ok (.aload_n 0, 1) := dk_42 (dk_at dksX6_goDrawn_0 6 rfl rfl)
theorem dX6_goDrawn_7 : decode cX6_goDrawn 7 = .ok (.iconst 0, 1) := dk_3 (dk_at dksX6_goDrawn_0 7 rfl rfl)
theorem dX6_goDrawn_8 : decode cX6_goDrawn 8 = .ok (.putfield 383, 3) := dk_181 1 127 (dk_at dksX6_goDrawn_0 8 rfl rfl)
theorem dX6_goDrawn_11 : decode cX6_goDrawn 11 = .ok (.iconst 1, 1) := dk_4 (dk_at dksX6_goDrawn_0 11 rfl rfl)
theorem dX6_goDrawn_12 : decode cX6_goDrawn 12 = .ok (.istore 5, 2) := dk_54 5 (dk_at dksX6_goDrawn_0 12 rfl rfl)
theorem dX6_goDrawn_14 : decode cX6_goDrawn 14 = .ok (.iload 5, 2) := dk_21 5 (dk_at dksX6_goDrawn_0 14 rfl rfl)
theorem dX6_goDrawn_16 : decode cX6_goDrawn 16 = .ok (.bipush 60, 2) := dk_16 60 (dk_at dksX6_goDrawn_0 16 rfl rfl)
theorem dX6_goDrawn_18 : decode cX6_goDrawn 18 = .ok (.if_icmp .gt 72, 3) := dk_163 0 72 (dk_at dksX6_goDrawn_0 18 rfl rfl)
theorem dX6_goDrawn_21 : decode cX6_goDrawn 21 = .ok (.ldc2_w 386, 3) := dk_20 1 130 (dk_at dksX6_goDrawn_0 21 rfl rfl)
theorem dX6_goDrawn_24 : decode cX6_goDrawn 24 = .ok (.lload_n 3, 1) := dk_33 (dk_at dksX6_goDrawn_1 0 rfl rfl)
theorem dX6_goDrawn_25 : decode cX6_goDrawn 25 = .ok (.lmul, 1) := dk_105 (dk_at dksX6_goDrawn_1 1 rfl rfl)
theorem dX6_goDrawn_26 : decode cX6_goDrawn 26 = .ok (.ldc2_w 388, 3) := dk_20 1 132 (dk_at dksX6_goDrawn_1 2 rfl rfl)
theorem dX6_goDrawn_29 : decode cX6_goDrawn 29 = .ok (.ladd, 1) := dk_97 (dk_at dksX6_goDrawn_1 5 rfl rfl)
theorem dX6_goDrawn_30 : decode cX6_goDrawn 30 = .ok (.ldc2_w 390, 3) := dk_20 1 134 (dk_at dksX6_goDrawn_1 6 rfl rfl)
theorem dX6_goDrawn_33 : decode cX6_goDrawn 33 = .ok (.lrem, 1) := dk_113 (dk_at dksX6_goDrawn_1 9 rfl rfl)
theorem dX6_goDrawn_34 : decode cX6_goDrawn 34 = .ok (.lstore_n 3, 1) := dk_66 (dk_at dksX6_goDrawn_1 10 rfl rfl)
theorem dX6_goDrawn_35 : decode cX6_goDrawn 35 = .ok (.lload_n 3, 1) := dk_33 (dk_at dksX6_goDrawn_1 11 rfl rfl)
theorem dX6_goDrawn_36 : decode cX6_goDrawn 36 = .ok (.ldc2_w 392, 3) := dk_20 1 136 (dk_at dksX6_goDrawn_1 12 rfl rfl)
theorem dX6_goDrawn_39 : decode cX6_goDrawn 39 = .ok (.ldiv, 1) := dk_109 (dk_at dksX6_goDrawn_1 15 rfl rfl)
theorem dX6_goDrawn_40 : decode cX6_goDrawn 40 = .ok (.ldc2_w 394, 3) := dk_20 1 138 (dk_at dksX6_goDrawn_1 16 rfl rfl)
theorem dX6_goDrawn_43 : decode cX6_goDrawn 43 = .ok (.lrem, 1) := dk_113 (dk_at dksX6_goDrawn_1 19 rfl rfl)
theorem dX6_goDrawn_44 : decode cX6_goDrawn 44 = .ok (.aload_n 0, 1) := dk_42 (dk_at dksX6_goDrawn_1 20 rfl rfl)
theorem dX6_goDrawn_45 : decode cX6_goDrawn 45 = .ok (.getfield 9, 3) := dk_180 0 9 (dk_at dksX6_goDrawn_1 21 rfl rfl)
theorem dX6_goDrawn_48 : decode cX6_goDrawn 48 = .ok (.iconst 1, 1) := dk_4 (dk_at dksX6_goDrawn_2 0 rfl rfl)
theorem dX6_goDrawn_49 : decode cX6_goDrawn 49 = .ok (.iaload, 1) := dk_46 (dk_at dksX6_goDrawn_2 1 rfl rfl)
theorem dX6_goDrawn_50 : decode cX6_goDrawn 50 = .ok (.i2l, 1) := dk_133 (dk_at dksX6_goDrawn_2 2 rfl rfl)
theorem dX6_goDrawn_51 : decode cX6_goDrawn 51 = .ok (.lcmp, 1) := dk_148 (dk_at dksX6_goDrawn_2 3 rfl rfl)
theorem dX6_goDrawn_52 : decode cX6_goDrawn 52 = .ok (.ifCond .lt 6, 3) := dk_155 0 6 (dk_at dksX6_goDrawn_2 4 rfl rfl)
theorem dX6_goDrawn_55 : decode cX6_goDrawn 55 = .ok (.goto 29, 3) := dk_167 0 29 (dk_at dksX6_goDrawn_2 7 rfl rfl)
theorem dX6_goDrawn_58 : decode cX6_goDrawn 58 = .ok (.aload_n 0, 1) := dk_42 (dk_at dksX6_goDrawn_2 10 rfl rfl)
theorem dX6_goDrawn_59 : decode cX6_goDrawn 59 = .ok (.getfield 34, 3) := dk_180 0 34 (dk_at dksX6_goDrawn_2 11 rfl rfl)
theorem dX6_goDrawn_62 : decode cX6_goDrawn 62 = .ok (.iload 5, 2) := dk_21 5 (dk_at dksX6_goDrawn_2 14 rfl rfl)
theorem dX6_goDrawn_64 : decode cX6_goDrawn 64 = .ok (.dup2, 1) := dk_92 (dk_at dksX6_goDrawn_2 16 rfl rfl)
theorem dX6_goDrawn_65 : decode cX6_goDrawn 65 = .ok (.iaload, 1) := dk_46 (dk_at dksX6_goDrawn_2 17 rfl rfl)
theorem dX6_goDrawn_66 : decode cX6_goDrawn 66 = .ok (.aload_n 0, 1) := dk_42 (dk_at dksX6_goDrawn_2 18 rfl rfl)
theorem dX6_goDrawn_67 : decode cX6_goDrawn 67 = .ok (.getfield 9, 3) := dk_180 0 9 (dk_at dksX6_goDrawn_2 19 rfl rfl)
theorem dX6_goDrawn_70 : decode cX6_goDrawn 70 = .ok (.iconst 2, 1) := dk_5 (dk_at dksX6_goDrawn_2 22 rfl rfl)
theorem dX6_goDrawn_71 : decode cX6_goDrawn 71 = .ok (.iaload, 1) := dk_46 (dk_at dksX6_goDrawn_2 23 rfl rfl)
theorem dX6_goDrawn_72 : decode cX6_goDrawn 72 = .ok (.iadd, 1) := dk_96 (dk_at dksX6_goDrawn_3 0 rfl rfl)
theorem dX6_goDrawn_73 : decode cX6_goDrawn 73 = .ok (.iastore, 1) := dk_79 (dk_at dksX6_goDrawn_3 1 rfl rfl)
theorem dX6_goDrawn_74 : decode cX6_goDrawn 74 = .ok (.aload_n 0, 1) := dk_42 (dk_at dksX6_goDrawn_3 2 rfl rfl)
theorem dX6_goDrawn_75 : decode cX6_goDrawn 75 = .ok (.dup, 1) := dk_89 (dk_at dksX6_goDrawn_3 3 rfl rfl)
theorem dX6_goDrawn_76 : decode cX6_goDrawn 76 = .ok (.getfield 383, 3) := dk_180 1 127 (dk_at dksX6_goDrawn_3 4 rfl rfl)
theorem dX6_goDrawn_79 : decode cX6_goDrawn 79 = .ok (.iconst 1, 1) := dk_4 (dk_at dksX6_goDrawn_3 7 rfl rfl)
theorem dX6_goDrawn_80 : decode cX6_goDrawn 80 = .ok (.iadd, 1) := dk_96 (dk_at dksX6_goDrawn_3 8 rfl rfl)
theorem dX6_goDrawn_81 : decode cX6_goDrawn 81 = .ok (.putfield 383, 3) := dk_181 1 127 (dk_at dksX6_goDrawn_3 9 rfl rfl)
theorem dX6_goDrawn_84 : decode cX6_goDrawn 84 = .ok (.iinc 5 1, 3) := dk_132 5 1 (dk_at dksX6_goDrawn_3 12 rfl rfl)
theorem dX6_goDrawn_87 : decode cX6_goDrawn 87 = .ok (.goto (-73), 3) := dk_167 255 183 (dk_at dksX6_goDrawn_3 15 rfl rfl)
theorem dX6_goDrawn_90 : decode cX6_goDrawn 90 = .ok (.aload_n 0, 1) := dk_42 (dk_at dksX6_goDrawn_3 18 rfl rfl)
theorem dX6_goDrawn_91 : decode cX6_goDrawn 91 = .ok (.invokevirtual 244, 3) := dk_182 0 244 (dk_at dksX6_goDrawn_3 19 rfl rfl)
theorem dX6_goDrawn_94 : decode cX6_goDrawn 94 = .ok (.return_, 1) := dk_177 (dk_at dksX6_goDrawn_3 22 rfl rfl)
abbrev cX6_luck : ByteArray := prog_14_method_126_code
def yX6_luck : MethodName := ⟨RX6, "luck", "(III)I"⟩
def dkwX6_luck_3 : List UInt8 := [167, 0, 4, 3, 96, 54, 4, 132, 5, 1, 167, 255, 215, 21, 4, 172]
abbrev dktX6_luck_3 : List UInt8 := dkwX6_luck_3 ++ []
def dkwX6_luck_2 : List UInt8 := [21, 5, 133, 97, 182, 1, 145, 21, 4, 42, 29, 3, 182, 1, 57, 19, 1, 41, 162, 0, 7, 4]
abbrev dktX6_luck_2 : List UInt8 := dkwX6_luck_2 ++ dktX6_luck_3
def dkwX6_luck_1 : List UInt8 := [182, 0, 219, 154, 0, 6, 16, 254, 172, 3, 54, 4, 3, 54, 5, 21, 5, 28, 162, 0, 41, 42, 27, 133]
abbrev dktX6_luck_1 : List UInt8 := dkwX6_luck_1 ++ dktX6_luck_2
def dkwX6_luck_0 : List UInt8 := [27, 184, 1, 142, 153, 0, 24, 28, 133, 10, 20, 1, 149, 184, 0, 92, 153, 0, 12, 42, 29, 133]
abbrev dktX6_luck_0 : List UInt8 := dkwX6_luck_0 ++ dktX6_luck_1
theorem dksX6_luck_0 : cX6_luck.data.toList.drop 0 = dktX6_luck_0 := by decide +kernel
theorem dksX6_luck_1 : cX6_luck.data.toList.drop 22 = dktX6_luck_1 := dk_seg dksX6_luck_0 22 rfl rfl
theorem dksX6_luck_2 : cX6_luck.data.toList.drop 46 = dktX6_luck_2 := dk_seg dksX6_luck_1 24 rfl rfl
theorem dksX6_luck_3 : cX6_luck.data.toList.drop 68 = dktX6_luck_3 := dk_seg dksX6_luck_2 22 rfl rfl
theorem dX6_luck_0 : decode cX6_luck 0 = .ok (.iload_n 1, 1) := dk_27 (dk_at dksX6_luck_0 0 rfl rfl)
theorem dX6_luck_1 : decode cX6_luck 1 = .ok (.invokestatic 398, 3) := dk_184 1 142 (dk_at dksX6_luck_0 1 rfl rfl)
theorem dX6_luck_4 : decode cX6_luck 4 = .ok (.ifCond .eq 24, 3) := dk_153 0 24 (dk_at dksX6_luck_0 4 rfl rfl)
theorem dX6_luck_7 : decode cX6_luck 7 = .ok (.iload_n 2, 1) := dk_28 (dk_at dksX6_luck_0 7 rfl rfl)
theorem dX6_luck_8 : decode cX6_luck 8 = .ok (.i2l, 1) := dk_133 (dk_at dksX6_luck_0 8 rfl rfl)
theorem dX6_luck_9 : decode cX6_luck 9 = .ok (.lconst 1, 1) := dk_10 (dk_at dksX6_luck_0 9 rfl rfl)
theorem dX6_luck_10 : decode cX6_luck 10 = .ok (.ldc2_w 405, 3) := dk_20 1 149 (dk_at dksX6_luck_0 10 rfl rfl)
theorem dX6_luck_13 : decode cX6_luck 13 = .ok (.invokestatic 92, 3) := dk_184 0 92 (dk_at dksX6_luck_0 13 rfl rfl)
theorem dX6_luck_16 : decode cX6_luck 16 = .ok (.ifCond .eq 12, 3) := dk_153 0 12 (dk_at dksX6_luck_0 16 rfl rfl)
theorem dX6_luck_19 : decode cX6_luck 19 = .ok (.aload_n 0, 1) := dk_42 (dk_at dksX6_luck_0 19 rfl rfl)
theorem dX6_luck_20 : decode cX6_luck 20 = .ok (.iload_n 3, 1) := dk_29 (dk_at dksX6_luck_0 20 rfl rfl)
theorem dX6_luck_21 : decode cX6_luck 21 = .ok (.i2l, 1) := dk_133 (dk_at dksX6_luck_0 21 rfl rfl)
theorem dX6_luck_22 : decode cX6_luck 22 = .ok (.invokevirtual 219, 3) := dk_182 0 219 (dk_at dksX6_luck_1 0 rfl rfl)
theorem dX6_luck_25 : decode cX6_luck 25 = .ok (.ifCond .ne 6, 3) := dk_154 0 6 (dk_at dksX6_luck_1 3 rfl rfl)
theorem dX6_luck_28 : decode cX6_luck 28 = .ok (.bipush (-2), 2) := dk_16 254 (dk_at dksX6_luck_1 6 rfl rfl)
theorem dX6_luck_30 : decode cX6_luck 30 = .ok (.ireturn, 1) := dk_172 (dk_at dksX6_luck_1 8 rfl rfl)
theorem dX6_luck_31 : decode cX6_luck 31 = .ok (.iconst 0, 1) := dk_3 (dk_at dksX6_luck_1 9 rfl rfl)
theorem dX6_luck_32 : decode cX6_luck 32 = .ok (.istore 4, 2) := dk_54 4 (dk_at dksX6_luck_1 10 rfl rfl)
theorem dX6_luck_34 : decode cX6_luck 34 = .ok (.iconst 0, 1) := dk_3 (dk_at dksX6_luck_1 12 rfl rfl)
theorem dX6_luck_35 : decode cX6_luck 35 = .ok (.istore 5, 2) := dk_54 5 (dk_at dksX6_luck_1 13 rfl rfl)
theorem dX6_luck_37 : decode cX6_luck 37 = .ok (.iload 5, 2) := dk_21 5 (dk_at dksX6_luck_1 15 rfl rfl)
theorem dX6_luck_39 : decode cX6_luck 39 = .ok (.iload_n 2, 1) := dk_28 (dk_at dksX6_luck_1 17 rfl rfl)
theorem dX6_luck_40 : decode cX6_luck 40 = .ok (.if_icmp .ge 41, 3) := dk_162 0 41 (dk_at dksX6_luck_1 18 rfl rfl)
theorem dX6_luck_43 : decode cX6_luck 43 = .ok (.aload_n 0, 1) := dk_42 (dk_at dksX6_luck_1 21 rfl rfl)
theorem dX6_luck_44 : decode cX6_luck 44 = .ok (.iload_n 1, 1) := dk_27 (dk_at dksX6_luck_1 22 rfl rfl)
theorem dX6_luck_45 : decode cX6_luck 45 = .ok (.i2l, 1) := dk_133 (dk_at dksX6_luck_1 23 rfl rfl)
theorem dX6_luck_46 : decode cX6_luck 46 = .ok (.iload 5, 2) := dk_21 5 (dk_at dksX6_luck_2 0 rfl rfl)
theorem dX6_luck_48 : decode cX6_luck 48 = .ok (.i2l, 1) := dk_133 (dk_at dksX6_luck_2 2 rfl rfl)
theorem dX6_luck_49 : decode cX6_luck 49 = .ok (.ladd, 1) := dk_97 (dk_at dksX6_luck_2 3 rfl rfl)
theorem dX6_luck_50 : decode cX6_luck 50 = .ok (.invokevirtual 401, 3) := dk_182 1 145 (dk_at dksX6_luck_2 4 rfl rfl)
theorem dX6_luck_53 : decode cX6_luck 53 = .ok (.iload 4, 2) := dk_21 4 (dk_at dksX6_luck_2 7 rfl rfl)
theorem dX6_luck_55 : decode cX6_luck 55 = .ok (.aload_n 0, 1) := dk_42 (dk_at dksX6_luck_2 9 rfl rfl)
theorem dX6_luck_56 : decode cX6_luck 56 = .ok (.iload_n 3, 1) := dk_29 (dk_at dksX6_luck_2 10 rfl rfl)
theorem dX6_luck_57 : decode cX6_luck 57 = .ok (.iconst 0, 1) := dk_3 (dk_at dksX6_luck_2 11 rfl rfl)
theorem dX6_luck_58 : decode cX6_luck 58 = .ok (.invokevirtual 313, 3) := dk_182 1 57 (dk_at dksX6_luck_2 12 rfl rfl)
theorem dX6_luck_61 : decode cX6_luck 61 = .ok (.ldc_w 297, 3) := dk_19 1 41 (dk_at dksX6_luck_2 15 rfl rfl)
theorem dX6_luck_64 : decode cX6_luck 64 = .ok (.if_icmp .ge 7, 3) := dk_162 0 7 (dk_at dksX6_luck_2 18 rfl rfl)
theorem dX6_luck_67 : decode cX6_luck 67 = .ok (.iconst 1, 1) := dk_4 (dk_at dksX6_luck_2 21 rfl rfl)
theorem dX6_luck_68 : decode cX6_luck 68 = .ok (.goto 4, 3) := dk_167 0 4 (dk_at dksX6_luck_3 0 rfl rfl)
theorem dX6_luck_71 : decode cX6_luck 71 = .ok (.iconst 0, 1) := dk_3 (dk_at dksX6_luck_3 3 rfl rfl)
theorem dX6_luck_72 : decode cX6_luck 72 = .ok (.iadd, 1) := dk_96 (dk_at dksX6_luck_3 4 rfl rfl)
theorem dX6_luck_73 : decode cX6_luck 73 = .ok (.istore 4, 2) := dk_54 4 (dk_at dksX6_luck_3 5 rfl rfl)
theorem dX6_luck_75 : decode cX6_luck 75 = .ok (.iinc 5 1, 3) := dk_132 5 1 (dk_at dksX6_luck_3 7 rfl rfl)
theorem dX6_luck_78 : decode cX6_luck 78 = .ok (.goto (-41), 3) := dk_167 255 215 (dk_at dksX6_luck_3 10 rfl rfl)
theorem dX6_luck_81 : decode cX6_luck 81 = .ok (.iload 4, 2) := dk_21 4 (dk_at dksX6_luck_3 13 rfl rfl)
theorem dX6_luck_83 : decode cX6_luck 83 = .ok (.ireturn, 1) := dk_172 (dk_at dksX6_luck_3 15 rfl rfl)
abbrev cX6_deepen : ByteArray := prog_14_method_127_code
def yX6_deepen : MethodName := ⟨RX6, "deepen", "(II)I"⟩
def dkwX6_deepen_2 : List UInt8 := [16, 8, 6, 27, 104, 96, 5, 96, 28, 79, 29, 172]
abbrev dktX6_deepen_2 : List UInt8 := dkwX6_deepen_2 ++ []
def dkwX6_deepen_1 : List UInt8 := [42, 180, 0, 9, 16, 6, 46, 158, 0, 6, 16, 251, 172, 42, 27, 5, 182, 0, 223, 62, 42, 180, 0, 9]
abbrev dktX6_deepen_1 : List UInt8 := dkwX6_deepen_1 ++ dktX6_deepen_2
def dkwX6_deepen_0 : List UInt8 := [42, 27, 133, 182, 0, 219, 153, 0, 15, 28, 133, 9, 20, 1, 149, 184, 0, 92, 154, 0, 6, 16, 254, 172]
abbrev dktX6_deepen_0 : List UInt8 := dkwX6_deepen_0 ++ dktX6_deepen_1
theorem dksX6_deepen_0 : cX6_deepen.data.toList.drop 0 = dktX6_deepen_0 := by decide +kernel
theorem dksX6_deepen_1 : cX6_deepen.data.toList.drop 24 = dktX6_deepen_1 := dk_seg dksX6_deepen_0 24 rfl rfl
theorem dksX6_deepen_2 : cX6_deepen.data.toList.drop 48 = dktX6_deepen_2 := dk_seg dksX6_deepen_1 24 rfl rfl
theorem dX6_deepen_0 : decode cX6_deepen 0 = .ok (.aload_n 0, 1) := dk_42 (dk_at dksX6_deepen_0 0 rfl rfl)
theorem dX6_deepen_1 : decode cX6_deepen 1 = .ok (.iload_n 1, 1) := dk_27 (dk_at dksX6_deepen_0 1 rfl rfl)
theorem dX6_deepen_2 : decode cX6_deepen 2 = .ok (.i2l, 1) := dk_133 (dk_at dksX6_deepen_0 2 rfl rfl)
theorem dX6_deepen_3 : decode cX6_deepen 3 = .ok (.invokevirtual 219, 3) := dk_182 0 219 (dk_at dksX6_deepen_0 3 rfl rfl)
theorem dX6_deepen_6 : decode cX6_deepen 6 = .ok (.ifCond .eq 15, 3) := dk_153 0 15 (dk_at dksX6_deepen_0 6 rfl rfl)
theorem dX6_deepen_9 : decode cX6_deepen 9 = .ok (.iload_n 2, 1) := dk_28 (dk_at dksX6_deepen_0 9 rfl rfl)
theorem dX6_deepen_10 : decode cX6_deepen 10 = .ok (.i2l, 1) := dk_133 (dk_at dksX6_deepen_0 10 rfl rfl)
theorem dX6_deepen_11 : decode cX6_deepen 11 = .ok (.lconst 0, 1) := dk_9 (dk_at dksX6_deepen_0 11 rfl rfl)
theorem dX6_deepen_12 : decode cX6_deepen 12 = .ok (.ldc2_w 405, 3) := dk_20 1 149 (dk_at dksX6_deepen_0 12 rfl rfl)
theorem dX6_deepen_15 : decode cX6_deepen 15 = .ok (.invokestatic 92, 3) := dk_184 0 92 (dk_at dksX6_deepen_0 15 rfl rfl)
theorem dX6_deepen_18 : decode cX6_deepen 18 = .ok (.ifCond .ne 6, 3) := dk_154 0 6 (dk_at dksX6_deepen_0 18 rfl rfl)
theorem dX6_deepen_21 : decode cX6_deepen 21 = .ok (.bipush (-2), 2) := dk_16 254 (dk_at dksX6_deepen_0 21 rfl rfl)
theorem dX6_deepen_23 : decode cX6_deepen 23 = .ok (.ireturn, 1) := dk_172 (dk_at dksX6_deepen_0 23 rfl rfl)
theorem dX6_deepen_24 : decode cX6_deepen 24 = .ok (.aload_n 0, 1) := dk_42 (dk_at dksX6_deepen_1 0 rfl rfl)
theorem dX6_deepen_25 : decode cX6_deepen 25 = .ok (.getfield 9, 3) := dk_180 0 9 (dk_at dksX6_deepen_1 1 rfl rfl)
theorem dX6_deepen_28 : decode cX6_deepen 28 = .ok (.bipush 6, 2) := dk_16 6 (dk_at dksX6_deepen_1 4 rfl rfl)
theorem dX6_deepen_30 : decode cX6_deepen 30 = .ok (.iaload, 1) := dk_46 (dk_at dksX6_deepen_1 6 rfl rfl)
theorem dX6_deepen_31 : decode cX6_deepen 31 = .ok (.ifCond .le 6, 3) := dk_158 0 6 (dk_at dksX6_deepen_1 7 rfl rfl)
theorem dX6_deepen_34 : decode cX6_deepen 34 = .ok (.bipush (-5), 2) := dk_16 251 (dk_at dksX6_deepen_1 10 rfl rfl)
theorem dX6_deepen_36 : decode cX6_deepen 36 = .ok (.ireturn, 1) := dk_172 (dk_at dksX6_deepen_1 12 rfl rfl)
theorem dX6_deepen_37 : decode cX6_deepen 37 = .ok (.aload_n 0, 1) := dk_42 (dk_at dksX6_deepen_1 13 rfl rfl)
theorem dX6_deepen_38 : decode cX6_deepen 38 = .ok (.iload_n 1, 1) := dk_27 (dk_at dksX6_deepen_1 14 rfl rfl)
theorem dX6_deepen_39 : decode cX6_deepen 39 = .ok (.iconst 2, 1) := dk_5 (dk_at dksX6_deepen_1 15 rfl rfl)
theorem dX6_deepen_40 : decode cX6_deepen 40 = .ok (.invokevirtual 223, 3) := dk_182 0 223 (dk_at dksX6_deepen_1 16 rfl rfl)
theorem dX6_deepen_43 : decode cX6_deepen 43 = .ok (.istore_n 3, 1) := dk_62 (dk_at dksX6_deepen_1 19 rfl rfl)
theorem dX6_deepen_44 : decode cX6_deepen 44 = .ok (.aload_n 0, 1) := dk_42 (dk_at dksX6_deepen_1 20 rfl rfl)
theorem dX6_deepen_45 : decode cX6_deepen 45 = .ok (.getfield 9, 3) := dk_180 0 9 (dk_at dksX6_deepen_1 21 rfl rfl)
theorem dX6_deepen_48 : decode cX6_deepen 48 = .ok (.bipush 8, 2) := dk_16 8 (dk_at dksX6_deepen_2 0 rfl rfl)
theorem dX6_deepen_50 : decode cX6_deepen 50 = .ok (.iconst 3, 1) := dk_6 (dk_at dksX6_deepen_2 2 rfl rfl)
theorem dX6_deepen_51 : decode cX6_deepen 51 = .ok (.iload_n 1, 1) := dk_27 (dk_at dksX6_deepen_2 3 rfl rfl)
theorem dX6_deepen_52 : decode cX6_deepen 52 = .ok (.imul, 1) := dk_104 (dk_at dksX6_deepen_2 4 rfl rfl)
theorem dX6_deepen_53 : decode cX6_deepen 53 = .ok (.iadd, 1) := dk_96 (dk_at dksX6_deepen_2 5 rfl rfl)
theorem dX6_deepen_54 : decode cX6_deepen 54 = .ok (.iconst 2, 1) := dk_5 (dk_at dksX6_deepen_2 6 rfl rfl)
theorem dX6_deepen_55 : decode cX6_deepen 55 = .ok (.iadd, 1) := dk_96 (dk_at dksX6_deepen_2 7 rfl rfl)
theorem dX6_deepen_56 : decode cX6_deepen 56 = .ok (.iload_n 2, 1) := dk_28 (dk_at dksX6_deepen_2 8 rfl rfl)
theorem dX6_deepen_57 : decode cX6_deepen 57 = .ok (.iastore, 1) := dk_79 (dk_at dksX6_deepen_2 9 rfl rfl)
theorem dX6_deepen_58 : decode cX6_deepen 58 = .ok (.iload_n 3, 1) := dk_29 (dk_at dksX6_deepen_2 10 rfl rfl)
theorem dX6_deepen_59 : decode cX6_deepen 59 = .ok (.ireturn, 1) := dk_172 (dk_at dksX6_deepen_2 11 rfl rfl)
abbrev cX6_count : ByteArray := prog_14_method_128_code
def yX6_count : MethodName := ⟨RX6, "count", "(I)I"⟩
def dkwX6_count_3 : List UInt8 := [167, 0, 4, 4, 96, 61, 132, 3, 1, 167, 255, 230, 28, 172]
abbrev dktX6_count_3 : List UInt8 := dkwX6_count_3 ++ []
def dkwX6_count_2 : List UInt8 := [172, 3, 61, 3, 62, 29, 7, 162, 0, 27, 28, 42, 180, 0, 75, 29, 46, 2, 160, 0, 7, 3]
abbrev dktX6_count_2 : List UInt8 := dkwX6_count_2 ++ dktX6_count_3
def dkwX6_count_1 : List UInt8 := [180, 0, 9, 27, 46, 172, 27, 16, 8, 160, 0, 8, 42, 180, 0, 98, 172, 27, 16, 9, 159, 0, 5, 2]
abbrev dktX6_count_1 : List UInt8 := dkwX6_count_1 ++ dktX6_count_2
def dkwX6_count_0 : List UInt8 := [27, 154, 0, 10, 42, 180, 0, 9, 3, 46, 172, 27, 133, 10, 20, 1, 151, 184, 0, 92, 153, 0, 10, 42]
abbrev dktX6_count_0 : List UInt8 := dkwX6_count_0 ++ dktX6_count_1
theorem dksX6_count_0 : cX6_count.data.toList.drop 0 = dktX6_count_0 := by decide +kernel
theorem dksX6_count_1 : cX6_count.data.toList.drop 24 = dktX6_count_1 := dk_seg dksX6_count_0 24 rfl rfl
theorem dksX6_count_2 : cX6_count.data.toList.drop 48 = dktX6_count_2 := dk_seg dksX6_count_1 24 rfl rfl
theorem dksX6_count_3 : cX6_count.data.toList.drop 70 = dktX6_count_3 := dk_seg dksX6_count_2 22 rfl rfl
theorem dX6_count_0 : decode cX6_count 0 = .ok (.iload_n 1, 1) := dk_27 (dk_at dksX6_count_0 0 rfl rfl)
theorem dX6_count_1 : decode cX6_count 1 = .ok (.ifCond .ne 10, 3) := dk_154 0 10 (dk_at dksX6_count_0 1 rfl rfl)
theorem dX6_count_4 : decode cX6_count 4 = .ok (.aload_n 0, 1) := dk_42 (dk_at dksX6_count_0 4 rfl rfl)
theorem dX6_count_5 : decode cX6_count 5 = .ok (.getfield 9, 3) := dk_180 0 9 (dk_at dksX6_count_0 5 rfl rfl)
theorem dX6_count_8 : decode cX6_count 8 = .ok (.iconst 0, 1) := dk_3 (dk_at dksX6_count_0 8 rfl rfl)
theorem dX6_count_9 : decode cX6_count 9 = .ok (.iaload, 1) := dk_46 (dk_at dksX6_count_0 9 rfl rfl)
theorem dX6_count_10 : decode cX6_count 10 = .ok (.ireturn, 1) := dk_172 (dk_at dksX6_count_0 10 rfl rfl)
theorem dX6_count_11 : decode cX6_count 11 = .ok (.iload_n 1, 1) := dk_27 (dk_at dksX6_count_0 11 rfl rfl)
theorem dX6_count_12 : decode cX6_count 12 = .ok (.i2l, 1) := dk_133 (dk_at dksX6_count_0 12 rfl rfl)
theorem dX6_count_13 : decode cX6_count 13 = .ok (.lconst 1, 1) := dk_10 (dk_at dksX6_count_0 13 rfl rfl)
theorem dX6_count_14 : decode cX6_count 14 = .ok (.ldc2_w 407, 3) := dk_20 1 151 (dk_at dksX6_count_0 14 rfl rfl)
theorem dX6_count_17 : decode cX6_count 17 = .ok (.invokestatic 92, 3) := dk_184 0 92 (dk_at dksX6_count_0 17 rfl rfl)
theorem dX6_count_20 : decode cX6_count 20 = .ok (.ifCond .eq 10, 3) := dk_153 0 10 (dk_at dksX6_count_0 20 rfl rfl)
theorem dX6_count_23 : decode cX6_count 23 = .ok (.aload_n 0, 1) := dk_42 (dk_at dksX6_count_0 23 rfl rfl)
theorem dX6_count_24 : decode cX6_count 24 = .ok (.getfield 9, 3) := dk_180 0 9 (dk_at dksX6_count_1 0 rfl rfl)
theorem dX6_count_27 : decode cX6_count 27 = .ok (.iload_n 1, 1) := dk_27 (dk_at dksX6_count_1 3 rfl rfl)
theorem dX6_count_28 : decode cX6_count 28 = .ok (.iaload, 1) := dk_46 (dk_at dksX6_count_1 4 rfl rfl)
theorem dX6_count_29 : decode cX6_count 29 = .ok (.ireturn, 1) := dk_172 (dk_at dksX6_count_1 5 rfl rfl)
theorem dX6_count_30 : decode cX6_count 30 = .ok (.iload_n 1, 1) := dk_27 (dk_at dksX6_count_1 6 rfl rfl)
theorem dX6_count_31 : decode cX6_count 31 = .ok (.bipush 8, 2) := dk_16 8 (dk_at dksX6_count_1 7 rfl rfl)
theorem dX6_count_33 : decode cX6_count 33 = .ok (.if_icmp .ne 8, 3) := dk_160 0 8 (dk_at dksX6_count_1 9 rfl rfl)
theorem dX6_count_36 : decode cX6_count 36 = .ok (.aload_n 0, 1) := dk_42 (dk_at dksX6_count_1 12 rfl rfl)
theorem dX6_count_37 : decode cX6_count 37 = .ok (.getfield 98, 3) := dk_180 0 98 (dk_at dksX6_count_1 13 rfl rfl)
theorem dX6_count_40 : decode cX6_count 40 = .ok (.ireturn, 1) := dk_172 (dk_at dksX6_count_1 16 rfl rfl)
theorem dX6_count_41 : decode cX6_count 41 = .ok (.iload_n 1, 1) := dk_27 (dk_at dksX6_count_1 17 rfl rfl)
theorem dX6_count_42 : decode cX6_count 42 = .ok (.bipush 9, 2) := dk_16 9 (dk_at dksX6_count_1 18 rfl rfl)
theorem dX6_count_44 : decode cX6_count 44 = .ok (.if_icmp .eq 5, 3) := dk_159 0 5 (dk_at dksX6_count_1 20 rfl rfl)
theorem dX6_count_47 : decode cX6_count 47 = .ok (.iconst (-1), 1) := dk_2 (dk_at dksX6_count_1 23 rfl rfl)
theorem dX6_count_48 : decode cX6_count 48 = .ok (.ireturn, 1) := dk_172 (dk_at dksX6_count_2 0 rfl rfl)
theorem dX6_count_49 : decode cX6_count 49 = .ok (.iconst 0, 1) := dk_3 (dk_at dksX6_count_2 1 rfl rfl)
theorem dX6_count_50 : decode cX6_count 50 = .ok (.istore_n 2, 1) := dk_61 (dk_at dksX6_count_2 2 rfl rfl)
theorem dX6_count_51 : decode cX6_count 51 = .ok (.iconst 0, 1) := dk_3 (dk_at dksX6_count_2 3 rfl rfl)
theorem dX6_count_52 : decode cX6_count 52 = .ok (.istore_n 3, 1) := dk_62 (dk_at dksX6_count_2 4 rfl rfl)
theorem dX6_count_53 : decode cX6_count 53 = .ok (.iload_n 3, 1) := dk_29 (dk_at dksX6_count_2 5 rfl rfl)
theorem dX6_count_54 : decode cX6_count 54 = .ok (.iconst 4, 1) := dk_7 (dk_at dksX6_count_2 6 rfl rfl)
theorem dX6_count_55 : decode cX6_count 55 = .ok (.if_icmp .ge 27, 3) := dk_162 0 27 (dk_at dksX6_count_2 7 rfl rfl)
theorem dX6_count_58 : decode cX6_count 58 = .ok (.iload_n 2, 1) := dk_28 (dk_at dksX6_count_2 10 rfl rfl)
theorem dX6_count_59 : decode cX6_count 59 = .ok (.aload_n 0, 1) := dk_42 (dk_at dksX6_count_2 11 rfl rfl)
theorem dX6_count_60 : decode cX6_count 60 = .ok (.getfield 75, 3) := dk_180 0 75 (dk_at dksX6_count_2 12 rfl rfl)
theorem dX6_count_63 : decode cX6_count 63 = .ok (.iload_n 3, 1) := dk_29 (dk_at dksX6_count_2 15 rfl rfl)
theorem dX6_count_64 : decode cX6_count 64 = .ok (.iaload, 1) := dk_46 (dk_at dksX6_count_2 16 rfl rfl)
theorem dX6_count_65 : decode cX6_count 65 = .ok (.iconst (-1), 1) := dk_2 (dk_at dksX6_count_2 17 rfl rfl)
theorem dX6_count_66 : decode cX6_count 66 = .ok (.if_icmp .ne 7, 3) := dk_160 0 7 (dk_at dksX6_count_2 18 rfl rfl)
theorem dX6_count_69 : decode cX6_count 69 = .ok (.iconst 0, 1) := dk_3 (dk_at dksX6_count_2 21 rfl rfl)
theorem dX6_count_70 : decode cX6_count 70 = .ok (.goto 4, 3) := dk_167 0 4 (dk_at dksX6_count_3 0 rfl rfl)
theorem dX6_count_73 : decode cX6_count 73 = .ok (.iconst 1, 1) := dk_4 (dk_at dksX6_count_3 3 rfl rfl)
theorem dX6_count_74 : decode cX6_count 74 = .ok (.iadd, 1) := dk_96 (dk_at dksX6_count_3 4 rfl rfl)
theorem dX6_count_75 : decode cX6_count 75 = .ok (.istore_n 2, 1) := dk_61 (dk_at dksX6_count_3 5 rfl rfl)
theorem dX6_count_76 : decode cX6_count 76 = .ok (.iinc 3 1, 3) := dk_132 3 1 (dk_at dksX6_count_3 6 rfl rfl)
theorem dX6_count_79 : decode cX6_count 79 = .ok (.goto (-26), 3) := dk_167 255 230 (dk_at dksX6_count_3 9 rfl rfl)
theorem dX6_count_82 : decode cX6_count 82 = .ok (.iload_n 2, 1) := dk_28 (dk_at dksX6_count_3 12 rfl rfl)
theorem dX6_count_83 : decode cX6_count 83 = .ok (.ireturn, 1) := dk_172 (dk_at dksX6_count_3 13 rfl rfl)
abbrev cX6_row : ByteArray := prog_14_method_131_code
def yX6_row : MethodName := ⟨RX6, "row", "(III)I"⟩
def dkwX6_row_3 : List UInt8 := [9, 80, 132, 4, 1, 167, 255, 233, 3, 172]
abbrev dktX6_row_3 : List UInt8 := dkwX6_row_3 ++ []
def dkwX6_row_2 : List UInt8 := [27, 28, 79, 3, 54, 4, 21, 4, 16, 60, 162, 0, 22, 42, 180, 0, 81, 16, 60, 27, 104, 21, 4, 96]
abbrev dktX6_row_2 : List UInt8 := dkwX6_row_2 ++ dktX6_row_3
def dkwX6_row_1 : List UInt8 := [164, 0, 6, 16, 254, 172, 29, 156, 0, 6, 16, 253, 172, 42, 180, 0, 75, 27, 29, 79, 42, 180, 0, 78]
abbrev dktX6_row_1 : List UInt8 := dkwX6_row_1 ++ dktX6_row_2
def dkwX6_row_0 : List UInt8 := [27, 184, 1, 60, 153, 0, 21, 28, 133, 9, 20, 0, 230, 184, 0, 92, 153, 0, 9, 29, 16, 60]
abbrev dktX6_row_0 : List UInt8 := dkwX6_row_0 ++ dktX6_row_1
theorem dksX6_row_0 : cX6_row.data.toList.drop 0 = dktX6_row_0 := by decide +kernel
theorem dksX6_row_1 : cX6_row.data.toList.drop 22 = dktX6_row_1 := dk_seg dksX6_row_0 22 rfl rfl
theorem dksX6_row_2 : cX6_row.data.toList.drop 46 = dktX6_row_2 := dk_seg dksX6_row_1 24 rfl rfl
theorem dksX6_row_3 : cX6_row.data.toList.drop 70 = dktX6_row_3 := dk_seg dksX6_row_2 24 rfl rfl
theorem dX6_row_0 : decode cX6_row 0 = .ok (.iload_n 1, 1) := dk_27 (dk_at dksX6_row_0 0 rfl rfl)
theorem dX6_row_1 : decode cX6_row 1 = .ok (.invokestatic 316, 3) := dk_184 1 60 (dk_at dksX6_row_0 1 rfl rfl)
theorem dX6_row_4 : decode cX6_row 4 = .ok (.ifCond .eq 21, 3) := dk_153 0 21 (dk_at dksX6_row_0 4 rfl rfl)
theorem dX6_row_7 : decode cX6_row 7 = .ok (.iload_n 2, 1) := dk_28 (dk_at dksX6_row_0 7 rfl rfl)
theorem dX6_row_8 : decode cX6_row 8 = .ok (.i2l, 1) := dk_133 (dk_at dksX6_row_0 8 rfl rfl)
theorem dX6_row_9 : decode cX6_row 9 = .ok (.lconst 0, 1) := dk_9 (dk_at dksX6_row_0 9 rfl rfl)
theorem dX6_row_10 : decode cX6_row 10 = .ok (.ldc2_w 230, 3) := dk_20 0 230 (dk_at dksX6_row_0 10 rfl rfl)
theorem dX6_row_13 : decode cX6_row 13 = .ok (.invokestatic 92, 3) := dk_184 0 92 (dk_at dksX6_row_0 13 rfl rfl)
theorem dX6_row_16 : decode cX6_row 16 = .ok (.ifCond .eq 9, 3) := dk_153 0 9 (dk_at dksX6_row_0 16 rfl rfl)
theorem dX6_row_19 : decode cX6_row 19 = .ok (.iload_n 3, 1) := dk_29 (dk_at dksX6_row_0 19 rfl rfl)
theorem dX6_row_20 : decode cX6_row 20 = .ok (.bipush 60, 2) := dk_16 60 (dk_at dksX6_row_0 20 rfl rfl)
theorem dX6_row_22 : decode cX6_row 22 = .ok (.if_icmp .le 6, 3) := dk_164 0 6 (dk_at dksX6_row_1 0 rfl rfl)
theorem dX6_row_25 : decode cX6_row 25 = .ok (.bipush (-2), 2) := dk_16 254 (dk_at dksX6_row_1 3 rfl rfl)
theorem dX6_row_27 : decode cX6_row 27 = .ok (.ireturn, 1) := dk_172 (dk_at dksX6_row_1 5 rfl rfl)
theorem dX6_row_28 : decode cX6_row 28 = .ok (.iload_n 3, 1) := dk_29 (dk_at dksX6_row_1 6 rfl rfl)
theorem dX6_row_29 : decode cX6_row 29 = .ok (.ifCond .ge 6, 3) := dk_156 0 6 (dk_at dksX6_row_1 7 rfl rfl)
theorem dX6_row_32 : decode cX6_row 32 = .ok (.bipush (-3), 2) := dk_16 253 (dk_at dksX6_row_1 10 rfl rfl)
theorem dX6_row_34 : decode cX6_row 34 = .ok (.ireturn, 1) := dk_172 (dk_at dksX6_row_1 12 rfl rfl)
theorem dX6_row_35 : decode cX6_row 35 = .ok (.aload_n 0, 1) := dk_42 (dk_at dksX6_row_1 13 rfl rfl)
theorem dX6_row_36 : decode cX6_row 36 = .ok (.getfield 75, 3) := dk_180 0 75 (dk_at dksX6_row_1 14 rfl rfl)
theorem dX6_row_39 : decode cX6_row 39 = .ok (.iload_n 1, 1) := dk_27 (dk_at dksX6_row_1 17 rfl rfl)
theorem dX6_row_40 : decode cX6_row 40 = .ok (.iload_n 3, 1) := dk_29 (dk_at dksX6_row_1 18 rfl rfl)
theorem dX6_row_41 : decode cX6_row 41 = .ok (.iastore, 1) := dk_79 (dk_at dksX6_row_1 19 rfl rfl)
theorem dX6_row_42 : decode cX6_row 42 = .ok (.aload_n 0, 1) := dk_42 (dk_at dksX6_row_1 20 rfl rfl)
theorem dX6_row_43 : decode cX6_row 43 = .ok (.getfield 78, 3) := dk_180 0 78 (dk_at dksX6_row_1 21 rfl rfl)
theorem dX6_row_46 : decode cX6_row 46 = .ok (.iload_n 1, 1) := dk_27 (dk_at dksX6_row_2 0 rfl rfl)
theorem dX6_row_47 : decode cX6_row 47 = .ok (.iload_n 2, 1) := dk_28 (dk_at dksX6_row_2 1 rfl rfl)
theorem dX6_row_48 : decode cX6_row 48 = .ok (.iastore, 1) := dk_79 (dk_at dksX6_row_2 2 rfl rfl)
theorem dX6_row_49 : decode cX6_row 49 = .ok (.iconst 0, 1) := dk_3 (dk_at dksX6_row_2 3 rfl rfl)
theorem dX6_row_50 : decode cX6_row 50 = .ok (.istore 4, 2) := dk_54 4 (dk_at dksX6_row_2 4 rfl rfl)
theorem dX6_row_52 : decode cX6_row 52 = .ok (.iload 4, 2) := dk_21 4 (dk_at dksX6_row_2 6 rfl rfl)
theorem dX6_row_54 : decode cX6_row 54 = .ok (.bipush 60, 2) := dk_16 60 (dk_at dksX6_row_2 8 rfl rfl)
theorem dX6_row_56 : decode cX6_row 56 = .ok (.if_icmp .ge 22, 3) := dk_162 0 22 (dk_at dksX6_row_2 10 rfl rfl)
theorem dX6_row_59 : decode cX6_row 59 = .ok (.aload_n 0, 1) := dk_42 (dk_at dksX6_row_2 13 rfl rfl)
theorem dX6_row_60 : decode cX6_row 60 = .ok (.getfield 81, 3) := dk_180 0 81 (dk_at dksX6_row_2 14 rfl rfl)
theorem dX6_row_63 : decode cX6_row 63 = .ok (.bipush 60, 2) := dk_16 60 (dk_at dksX6_row_2 17 rfl rfl)
theorem dX6_row_65 : decode cX6_row 65 = .ok (.iload_n 1, 1) := dk_27 (dk_at dksX6_row_2 19 rfl rfl)
theorem dX6_row_66 : decode cX6_row 66 = .ok (.imul, 1) := dk_104 (dk_at dksX6_row_2 20 rfl rfl)
theorem dX6_row_67 : decode cX6_row 67 = .ok (.iload 4, 2) := dk_21 4 (dk_at dksX6_row_2 21 rfl rfl)
theorem dX6_row_69 : decode cX6_row 69 = .ok (.iadd, 1) := dk_96 (dk_at dksX6_row_2 23 rfl rfl)
theorem dX6_row_70 : decode cX6_row 70 = .ok (.lconst 0, 1) := dk_9 (dk_at dksX6_row_3 0 rfl rfl)
theorem dX6_row_71 : decode cX6_row 71 = .ok (.lastore, 1) := dk_80 (dk_at dksX6_row_3 1 rfl rfl)
theorem dX6_row_72 : decode cX6_row 72 = .ok (.iinc 4 1, 3) := dk_132 4 1 (dk_at dksX6_row_3 2 rfl rfl)
theorem dX6_row_75 : decode cX6_row 75 = .ok (.goto (-23), 3) := dk_167 255 233 (dk_at dksX6_row_3 5 rfl rfl)
theorem dX6_row_78 : decode cX6_row 78 = .ok (.iconst 0, 1) := dk_3 (dk_at dksX6_row_3 8 rfl rfl)
theorem dX6_row_79 : decode cX6_row 79 = .ok (.ireturn, 1) := dk_172 (dk_at dksX6_row_3 9 rfl rfl)
abbrev cX6_write : ByteArray := prog_14_method_132_code
def yX6_write : MethodName := ⟨RX6, "write", "(IIJ)I"⟩
def dkwX6_write_2 : List UInt8 := [16, 60, 27, 104, 28, 96, 33, 42, 180, 0, 78, 27, 46, 184, 1, 153, 80, 3, 172]
abbrev dktX6_write_2 : List UInt8 := dkwX6_write_2 ++ []
def dkwX6_write_1 : List UInt8 := [133, 9, 42, 180, 0, 75, 27, 46, 4, 100, 133, 184, 0, 92, 154, 0, 6, 16, 249, 172, 42, 180, 0, 81]
abbrev dktX6_write_1 : List UInt8 := dkwX6_write_1 ++ dktX6_write_2
def dkwX6_write_0 : List UInt8 := [27, 184, 1, 60, 154, 0, 6, 16, 254, 172, 42, 180, 0, 75, 27, 46, 2, 160, 0, 6, 16, 250, 172, 28]
abbrev dktX6_write_0 : List UInt8 := dkwX6_write_0 ++ dktX6_write_1
theorem dksX6_write_0 : cX6_write.data.toList.drop 0 = dktX6_write_0 := by decide +kernel
theorem dksX6_write_1 : cX6_write.data.toList.drop 24 = dktX6_write_1 := dk_seg dksX6_write_0 24 rfl rfl
theorem dksX6_write_2 : cX6_write.data.toList.drop 48 = dktX6_write_2 := dk_seg dksX6_write_1 24 rfl rfl
theorem dX6_write_0 : decode cX6_write 0 = .ok (.iload_n 1, 1) := dk_27 (dk_at dksX6_write_0 0 rfl rfl)
theorem dX6_write_1 : decode cX6_write 1 = .ok (.invokestatic 316, 3) := dk_184 1 60 (dk_at dksX6_write_0 1 rfl rfl)
theorem dX6_write_4 : decode cX6_write 4 = .ok (.ifCond .ne 6, 3) := dk_154 0 6 (dk_at dksX6_write_0 4 rfl rfl)
theorem dX6_write_7 : decode cX6_write 7 = .ok (.bipush (-2), 2) := dk_16 254 (dk_at dksX6_write_0 7 rfl rfl)
theorem dX6_write_9 : decode cX6_write 9 = .ok (.ireturn, 1) := dk_172 (dk_at dksX6_write_0 9 rfl rfl)
theorem dX6_write_10 : decode cX6_write 10 = .ok (.aload_n 0, 1) := dk_42 (dk_at dksX6_write_0 10 rfl rfl)
theorem dX6_write_11 : decode cX6_write 11 = .ok (.getfield 75, 3) := dk_180 0 75 (dk_at dksX6_write_0 11 rfl rfl)
theorem dX6_write_14 : decode cX6_write 14 = .ok (.iload_n 1, 1) := dk_27 (dk_at dksX6_write_0 14 rfl rfl)
theorem dX6_write_15 : decode cX6_write 15 = .ok (.iaload, 1) := dk_46 (dk_at dksX6_write_0 15 rfl rfl)
theorem dX6_write_16 : decode cX6_write 16 = .ok (.iconst (-1), 1) := dk_2 (dk_at dksX6_write_0 16 rfl rfl)
theorem dX6_write_17 : decode cX6_write 17 = .ok (.if_icmp .ne 6, 3) := dk_160 0 6 (dk_at dksX6_write_0 17 rfl rfl)
theorem dX6_write_20 : decode cX6_write 20 = .ok (.bipush (-6), 2) := dk_16 250 (dk_at dksX6_write_0 20 rfl rfl)
theorem dX6_write_22 : decode cX6_write 22 = .ok (.ireturn, 1) := dk_172 (dk_at dksX6_write_0 22 rfl rfl)
theorem dX6_write_23 : decode cX6_write 23 = .ok (.iload_n 2, 1) := dk_28 (dk_at dksX6_write_0 23 rfl rfl)
theorem dX6_write_24 : decode cX6_write 24 = .ok (.i2l, 1) := dk_133 (dk_at dksX6_write_1 0 rfl rfl)
theorem dX6_write_25 : decode cX6_write 25 = .ok (.lconst 0, 1) := dk_9 (dk_at dksX6_write_1 1 rfl rfl)
theorem dX6_write_26 : decode cX6_write 26 = .ok (.aload_n 0, 1) := dk_42 (dk_at dksX6_write_1 2 rfl rfl)
theorem dX6_write_27 : decode cX6_write 27 = .ok (.getfield 75, 3) := dk_180 0 75 (dk_at dksX6_write_1 3 rfl rfl)
theorem dX6_write_30 : decode cX6_write 30 = .ok (.iload_n 1, 1) := dk_27 (dk_at dksX6_write_1 6 rfl rfl)
theorem dX6_write_31 : decode cX6_write 31 = .ok (.iaload, 1) := dk_46 (dk_at dksX6_write_1 7 rfl rfl)
theorem dX6_write_32 : decode cX6_write 32 = .ok (.iconst 1, 1) := dk_4 (dk_at dksX6_write_1 8 rfl rfl)
theorem dX6_write_33 : decode cX6_write 33 = .ok (.isub, 1) := dk_100 (dk_at dksX6_write_1 9 rfl rfl)
theorem dX6_write_34 : decode cX6_write 34 = .ok (.i2l, 1) := dk_133 (dk_at dksX6_write_1 10 rfl rfl)
theorem dX6_write_35 : decode cX6_write 35 = .ok (.invokestatic 92, 3) := dk_184 0 92 (dk_at dksX6_write_1 11 rfl rfl)
theorem dX6_write_38 : decode cX6_write 38 = .ok (.ifCond .ne 6, 3) := dk_154 0 6 (dk_at dksX6_write_1 14 rfl rfl)
theorem dX6_write_41 : decode cX6_write 41 = .ok (.bipush (-7), 2) := dk_16 249 (dk_at dksX6_write_1 17 rfl rfl)
theorem dX6_write_43 : decode cX6_write 43 = .ok (.ireturn, 1) := dk_172 (dk_at dksX6_write_1 19 rfl rfl)
theorem dX6_write_44 : decode cX6_write 44 = .ok (.aload_n 0, 1) := dk_42 (dk_at dksX6_write_1 20 rfl rfl)
theorem dX6_write_45 : decode cX6_write 45 = .ok (.getfield 81, 3) := dk_180 0 81 (dk_at dksX6_write_1 21 rfl rfl)
theorem dX6_write_48 : decode cX6_write 48 = .ok (.bipush 60, 2) := dk_16 60 (dk_at dksX6_write_2 0 rfl rfl)
theorem dX6_write_50 : decode cX6_write 50 = .ok (.iload_n 1, 1) := dk_27 (dk_at dksX6_write_2 2 rfl rfl)
theorem dX6_write_51 : decode cX6_write 51 = .ok (.imul, 1) := dk_104 (dk_at dksX6_write_2 3 rfl rfl)
theorem dX6_write_52 : decode cX6_write 52 = .ok (.iload_n 2, 1) := dk_28 (dk_at dksX6_write_2 4 rfl rfl)
theorem dX6_write_53 : decode cX6_write 53 = .ok (.iadd, 1) := dk_96 (dk_at dksX6_write_2 5 rfl rfl)
theorem dX6_write_54 : decode cX6_write 54 = .ok (.lload_n 3, 1) := dk_33 (dk_at dksX6_write_2 6 rfl rfl)
theorem dX6_write_55 : decode cX6_write 55 = .ok (.aload_n 0, 1) := dk_42 (dk_at dksX6_write_2 7 rfl rfl)
theorem dX6_write_56 : decode cX6_write 56 = .ok (.getfield 78, 3) := dk_180 0 78 (dk_at dksX6_write_2 8 rfl rfl)
theorem dX6_write_59 : decode cX6_write 59 = .ok (.iload_n 1, 1) := dk_27 (dk_at dksX6_write_2 11 rfl rfl)
theorem dX6_write_60 : decode cX6_write 60 = .ok (.iaload, 1) := dk_46 (dk_at dksX6_write_2 12 rfl rfl)
theorem dX6_write_61 : decode cX6_write 61 = .ok (.invokestatic 409, 3) := dk_184 1 153 (dk_at dksX6_write_2 13 rfl rfl)
theorem dX6_write_64 : decode cX6_write 64 = .ok (.lastore, 1) := dk_80 (dk_at dksX6_write_2 16 rfl rfl)
theorem dX6_write_65 : decode cX6_write 65 = .ok (.iconst 0, 1) := dk_3 (dk_at dksX6_write_2 17 rfl rfl)
theorem dX6_write_66 : decode cX6_write 66 = .ok (.ireturn, 1) := dk_172 (dk_at dksX6_write_2 18 rfl rfl)
abbrev cX6_cut : ByteArray := prog_14_method_130_code
def yX6_cut : MethodName := ⟨RX6, "cut", "(JI)J"⟩
def dkwX6_cut_0 : List UInt8 := [16, 64, 16, 8, 28, 120, 100, 62, 30, 29, 121, 29, 123, 173]
abbrev dktX6_cut_0 : List UInt8 := dkwX6_cut_0 ++ []
theorem dksX6_cut_0 : cX6_cut.data.toList.drop 0 = dktX6_cut_0 := by decide +kernel
theorem dX6_cut_0 : decode cX6_cut 0 = .ok (.bipush 64, 2) := dk_16 64 (dk_at dksX6_cut_0 0 rfl rfl)
theorem dX6_cut_2 : decode cX6_cut 2 = .ok (.bipush 8, 2) := dk_16 8 (dk_at dksX6_cut_0 2 rfl rfl)
theorem dX6_cut_4 : decode cX6_cut 4 = .ok (.iload_n 2, 1) := dk_28 (dk_at dksX6_cut_0 4 rfl rfl)
theorem dX6_cut_5 : decode cX6_cut 5 = .ok (.ishl, 1) := dk_120 (dk_at dksX6_cut_0 5 rfl rfl)
theorem dX6_cut_6 : decode cX6_cut 6 = .ok (.isub, 1) := dk_100 (dk_at dksX6_cut_0 6 rfl rfl)
theorem dX6_cut_7 : decode cX6_cut 7 = .ok (.istore_n 3, 1) := dk_62 (dk_at dksX6_cut_0 7 rfl rfl)
theorem dX6_cut_8 : decode cX6_cut 8 = .ok (.lload_n 0, 1) := dk_30 (dk_at dksX6_cut_0 8 rfl rfl)
theorem dX6_cut_9 : decode cX6_cut 9 = .ok (.iload_n 3, 1) := dk_29 (dk_at dksX6_cut_0 9 rfl rfl)
theorem dX6_cut_10 : decode cX6_cut 10 = .ok (.lshl, 1) := dk_121 (dk_at dksX6_cut_0 10 rfl rfl)
theorem dX6_cut_11 : decode cX6_cut 11 = .ok (.iload_n 3, 1) := dk_29 (dk_at dksX6_cut_0 11 rfl rfl)
theorem dX6_cut_12 : decode cX6_cut 12 = .ok (.lshr, 1) := dk_123 (dk_at dksX6_cut_0 12 rfl rfl)
theorem dX6_cut_13 : decode cX6_cut 13 = .ok (.lreturn, 1) := dk_173 (dk_at dksX6_cut_0 13 rfl rfl)
abbrev cX6_paste : ByteArray := prog_14_method_133_code
def yX6_paste : MethodName := ⟨RX6, "paste", "(IIIII)I"⟩
def dkwX6_paste_7 : List UInt8 := [29, 104, 21, 4, 96, 21, 6, 96, 42, 180, 0, 84, 21, 6, 47, 80, 132, 6, 1, 167, 255, 224, 3, 172]
abbrev dktX6_paste_7 : List UInt8 := dkwX6_paste_7 ++ []
def dkwX6_paste_6 : List UInt8 := [47, 80, 132, 6, 1, 167, 255, 225, 3, 54, 6, 21, 6, 21, 5, 162, 0, 31, 42, 180, 0, 81, 16, 60]
abbrev dktX6_paste_6 : List UInt8 := dkwX6_paste_6 ++ dktX6_paste_7
def dkwX6_paste_5 : List UInt8 := [21, 5, 162, 0, 30, 42, 180, 0, 84, 21, 6, 42, 180, 0, 81, 16, 60, 27, 104, 28, 96, 21, 6, 96]
abbrev dktX6_paste_5 : List UInt8 := dkwX6_paste_5 ++ dktX6_paste_6
def dkwX6_paste_4 : List UInt8 := [21, 5, 133, 97, 42, 180, 0, 75, 29, 46, 133, 148, 158, 0, 6, 16, 249, 172, 3, 54, 6, 21, 6]
abbrev dktX6_paste_4 : List UInt8 := dkwX6_paste_4 ++ dktX6_paste_5
def dkwX6_paste_3 : List UInt8 := [155, 0, 38, 28, 133, 21, 5, 133, 97, 42, 180, 0, 75, 27, 46, 133, 148, 157, 0, 21, 21, 4, 133]
abbrev dktX6_paste_3 : List UInt8 := dkwX6_paste_3 ++ dktX6_paste_4
def dkwX6_paste_2 : List UInt8 := [180, 0, 78, 29, 46, 159, 0, 6, 16, 248, 172, 28, 155, 0, 48, 21, 4, 155, 0, 43, 21, 5]
abbrev dktX6_paste_2 : List UInt8 := dkwX6_paste_2 ++ dktX6_paste_3
def dkwX6_paste_1 : List UInt8 := [159, 0, 13, 42, 180, 0, 75, 29, 46, 2, 160, 0, 6, 16, 250, 172, 42, 180, 0, 78, 27, 46, 42]
abbrev dktX6_paste_1 : List UInt8 := dkwX6_paste_1 ++ dktX6_paste_2
def dkwX6_paste_0 : List UInt8 := [27, 184, 1, 60, 153, 0, 10, 29, 184, 1, 60, 154, 0, 6, 16, 254, 172, 42, 180, 0, 75, 27, 46, 2]
abbrev dktX6_paste_0 : List UInt8 := dkwX6_paste_0 ++ dktX6_paste_1
theorem dksX6_paste_0 : cX6_paste.data.toList.drop 0 = dktX6_paste_0 := by decide +kernel
theorem dksX6_paste_1 : cX6_paste.data.toList.drop 24 = dktX6_paste_1 := dk_seg dksX6_paste_0 24 rfl rfl
theorem dksX6_paste_2 : cX6_paste.data.toList.drop 47 = dktX6_paste_2 := dk_seg dksX6_paste_1 23 rfl rfl
theorem dksX6_paste_3 : cX6_paste.data.toList.drop 69 = dktX6_paste_3 := dk_seg dksX6_paste_2 22 rfl rfl
theorem dksX6_paste_4 : cX6_paste.data.toList.drop 92 = dktX6_paste_4 := dk_seg dksX6_paste_3 23 rfl rfl
theorem dksX6_paste_5 : cX6_paste.data.toList.drop 115 = dktX6_paste_5 := dk_seg dksX6_paste_4 23 rfl rfl
theorem dksX6_paste_6 : cX6_paste.data.toList.drop 139 = dktX6_paste_6 := dk_seg dksX6_paste_5 24 rfl rfl
theorem dksX6_paste_7 : cX6_paste.data.toList.drop 163 = dktX6_paste_7 := dk_seg dksX6_paste_6 24 rfl rfl
theorem dX6_paste_0 : decode cX6_paste 0 = .ok (.iload_n 1, 1) := dk_27 (dk_at dksX6_paste_0 0 rfl rfl)
theorem dX6_paste_1 : decode cX6_paste 1 = .ok (.invokestatic 316, 3) := dk_184 1 60 (dk_at dksX6_paste_0 1 rfl rfl)
theorem dX6_paste_4 : decode cX6_paste 4 = .ok (.ifCond .eq 10, 3) := dk_153 0 10 (dk_at dksX6_paste_0 4 rfl rfl)
theorem dX6_paste_7 : decode cX6_paste 7 = .ok (.iload_n 3, 1) := dk_29 (dk_at dksX6_paste_0 7 rfl rfl)
theorem dX6_paste_8 : decode cX6_paste 8 = .ok (.invokestatic 316, 3) := dk_184 1 60 (dk_at dksX6_paste_0 8 rfl rfl)
theorem dX6_paste_11 : decode cX6_paste 11 = .ok (.ifCond .ne 6, 3) := dk_154 0 6 (dk_at dksX6_paste_0 11 rfl rfl)
theorem dX6_paste_14 : decode cX6_paste 14 = .ok (.bipush (-2), 2) := dk_16 254 (dk_at dksX6_paste_0 14 rfl rfl)
theorem dX6_paste_16 : decode cX6_paste 16 = .ok (.ireturn, 1) := dk_172 (dk_at dksX6_paste_0 16 rfl rfl)
theorem dX6_paste_17 : decode cX6_paste 17 = .ok (.aload_n 0, 1) := dk_42 (dk_at dksX6_paste_0 17 rfl rfl)
theorem dX6_paste_18 : decode cX6_paste 18 = .ok (.getfield 75, 3) := dk_180 0 75 (dk_at dksX6_paste_0 18 rfl rfl)
theorem dX6_paste_21 : decode cX6_paste 21 = .ok (.iload_n 1, 1) := dk_27 (dk_at dksX6_paste_0 21 rfl rfl)
theorem dX6_paste_22 : decode cX6_paste 22 = .ok (.iaload, 1) := dk_46 (dk_at dksX6_paste_0 22 rfl rfl)
theorem dX6_paste_23 : decode cX6_paste 23 = .ok (.iconst (-1), 1) := dk_2 (dk_at dksX6_paste_0 23 rfl rfl)
theorem dX6_paste_24 : decode cX6_paste 24 = .ok (.if_icmp .eq 13, 3) := dk_159 0 13 (dk_at dksX6_paste_1 0 rfl rfl)
theorem dX6_paste_27 : decode cX6_paste 27 = .ok (.aload_n 0, 1) := dk_42 (dk_at dksX6_paste_1 3 rfl rfl)
theorem dX6_paste_28 : decode cX6_paste 28 = .ok (.getfield 75, 3) := dk_180 0 75 (dk_at dksX6_paste_1 4 rfl rfl)
theorem dX6_paste_31 : decode cX6_paste 31 = .ok (.iload_n 3, 1) := dk_29 (dk_at dksX6_paste_1 7 rfl rfl)
theorem dX6_paste_32 : decode cX6_paste 32 = .ok (.iaload, 1) := dk_46 (dk_at dksX6_paste_1 8 rfl rfl)
theorem dX6_paste_33 : decode cX6_paste 33 = .ok (.iconst (-1), 1) := dk_2 (dk_at dksX6_paste_1 9 rfl rfl)
theorem dX6_paste_34 : decode cX6_paste 34 = .ok (.if_icmp .ne 6, 3) := dk_160 0 6 (dk_at dksX6_paste_1 10 rfl rfl)
theorem dX6_paste_37 : decode cX6_paste 37 = .ok (.bipush (-6), 2) := dk_16 250 (dk_at dksX6_paste_1 13 rfl rfl)
theorem dX6_paste_39 : decode cX6_paste 39 = .ok (.ireturn, 1) := dk_172 (dk_at dksX6_paste_1 15 rfl rfl)
theorem dX6_paste_40 : decode cX6_paste 40 = .ok (.aload_n 0, 1) := dk_42 (dk_at dksX6_paste_1 16 rfl rfl)
theorem dX6_paste_41 : decode cX6_paste 41 = .ok (.getfield 78, 3) := dk_180 0 78 (dk_at dksX6_paste_1 17 rfl rfl)
theorem dX6_paste_44 : decode cX6_paste 44 = .ok (.iload_n 1, 1) := dk_27 (dk_at dksX6_paste_1 20 rfl rfl)
theorem dX6_paste_45 : decode cX6_paste 45 = .ok (.iaload, 1) := dk_46 (dk_at dksX6_paste_1 21 rfl rfl)
theorem dX6_paste_46 : decode cX6_paste 46 = .ok (.aload_n 0, 1) := dk_42 (dk_at dksX6_paste_1 22 rfl rfl)
theorem dX6_paste_47 : decode cX6_paste 47 = .ok (.getfield 78, 3) := dk_180 0 78 (dk_at dksX6_paste_2 0 rfl rfl)
theorem dX6_paste_50 : decode cX6_paste 50 = .ok (.iload_n 3, 1) := dk_29 (dk_at dksX6_paste_2 3 rfl rfl)
theorem dX6_paste_51 : decode cX6_paste 51 = .ok (.iaload, 1) := dk_46 (dk_at dksX6_paste_2 4 rfl rfl)
theorem dX6_paste_52 : decode cX6_paste 52 = .ok (.if_icmp .eq 6, 3) := dk_159 0 6 (dk_at dksX6_paste_2 5 rfl rfl)
theorem dX6_paste_55 : decode cX6_paste 55 = .ok (.bipush (-8), 2) := dk_16 248 (dk_at dksX6_paste_2 8 rfl rfl)
theorem dX6_paste_57 : decode cX6_paste 57 = .ok (.ireturn, 1) := dk_172 (dk_at dksX6_paste_2 10 rfl rfl)
theorem dX6_paste_58 : decode cX6_paste 58 = .ok (.iload_n 2, 1) := dk_28 (dk_at dksX6_paste_2 11 rfl rfl)
theorem dX6_paste_59 : decode cX6_paste 59 = .ok (.ifCond .lt 48, 3) := dk_155 0 48 (dk_at dksX6_paste_2 12 rfl rfl)
theorem dX6_paste_62 : decode cX6_paste 62 = .ok (.iload 4, 2) := dk_21 4 (dk_at dksX6_paste_2 15 rfl rfl)
theorem dX6_paste_64 : decode cX6_paste 64 = .ok (.ifCond .lt 43, 3) := dk_155 0 43 (dk_at dksX6_paste_2 17 rfl rfl)
theorem dX6_paste_67 : decode cX6_paste 67 = .ok (.iload 5, 2) := dk_21 5 (dk_at dksX6_paste_2 20 rfl rfl)
theorem dX6_paste_69 : decode cX6_paste 69 = .ok (.ifCond .lt 38, 3) := dk_155 0 38 (dk_at dksX6_paste_3 0 rfl rfl)
theorem dX6_paste_72 : decode cX6_paste 72 = .ok (.iload_n 2, 1) := dk_28 (dk_at dksX6_paste_3 3 rfl rfl)
theorem dX6_paste_73 : decode cX6_paste 73 = .ok (.i2l, 1) := dk_133 (dk_at dksX6_paste_3 4 rfl rfl)
theorem dX6_paste_74 : decode cX6_paste 74 = .ok (.iload 5, 2) := dk_21 5 (dk_at dksX6_paste_3 5 rfl rfl)
theorem dX6_paste_76 : decode cX6_paste 76 = .ok (.i2l, 1) := dk_133 (dk_at dksX6_paste_3 7 rfl rfl)
theorem dX6_paste_77 : decode cX6_paste 77 = .ok (.ladd, 1) := dk_97 (dk_at dksX6_paste_3 8 rfl rfl)
theorem dX6_paste_78 : decode cX6_paste 78 = .ok (.aload_n 0, 1) := dk_42 (dk_at dksX6_paste_3 9 rfl rfl)
theorem dX6_paste_79 : decode cX6_paste 79 = .ok (.getfield 75, 3) := dk_180 0 75 (dk_at dksX6_paste_3 10 rfl rfl)
theorem dX6_paste_82 : decode cX6_paste 82 = .ok (.iload_n 1, 1) := dk_27 (dk_at dksX6_paste_3 13 rfl rfl)
theorem dX6_paste_83 : decode cX6_paste 83 = .ok (.iaload, 1) := dk_46 (dk_at dksX6_paste_3 14 rfl rfl)
theorem dX6_paste_84 : decode cX6_paste 84 = .ok (.i2l, 1) := dk_133 (dk_at dksX6_paste_3 15 rfl rfl)
theorem dX6_paste_85 : decode cX6_paste 85 = .ok (.lcmp, 1) := dk_148 (dk_at dksX6_paste_3 16 rfl rfl)
theorem dX6_paste_86 : decode cX6_paste 86 = .ok (.ifCond .gt 21, 3) := dk_157 0 21 (dk_at dksX6_paste_3 17 rfl rfl)
theorem dX6_paste_89 : decode cX6_paste 89 = .ok (.iload 4, 2) := dk_21 4 (dk_at dksX6_paste_3 20 rfl rfl)
theorem dX6_paste_91 : decode cX6_paste 91 = .ok (.i2l, 1) := dk_133 (dk_at dksX6_paste_3 22 rfl rfl)
theorem dX6_paste_92 : decode cX6_paste 92 = .ok (.iload 5, 2) := dk_21 5 (dk_at dksX6_paste_4 0 rfl rfl)
theorem dX6_paste_94 : decode cX6_paste 94 = .ok (.i2l, 1) := dk_133 (dk_at dksX6_paste_4 2 rfl rfl)
theorem dX6_paste_95 : decode cX6_paste 95 = .ok (.ladd, 1) := dk_97 (dk_at dksX6_paste_4 3 rfl rfl)
theorem dX6_paste_96 : decode cX6_paste 96 = .ok (.aload_n 0, 1) := dk_42 (dk_at dksX6_paste_4 4 rfl rfl)
theorem dX6_paste_97 : decode cX6_paste 97 = .ok (.getfield 75, 3) := dk_180 0 75 (dk_at dksX6_paste_4 5 rfl rfl)
theorem dX6_paste_100 : decode cX6_paste 100 = .ok (.iload_n 3, 1) := dk_29 (dk_at dksX6_paste_4 8 rfl rfl)
theorem dX6_paste_101 : decode cX6_paste 101 = .ok (.iaload, 1) := dk_46 (dk_at dksX6_paste_4 9 rfl rfl)
theorem dX6_paste_102 : decode cX6_paste 102 = .ok (.i2l, 1) := dk_133 (dk_at dksX6_paste_4 10 rfl rfl)
theorem dX6_paste_103 : decode cX6_paste 103 = .ok (.lcmp, 1) := dk_148 (dk_at dksX6_paste_4 11 rfl rfl)
theorem dX6_paste_104 : decode cX6_paste 104 = .ok (.ifCond .le 6, 3) := dk_158 0 6 (dk_at dksX6_paste_4 12 rfl rfl)
theorem dX6_paste_107 : decode cX6_paste 107 = .ok (.bipush (-7), 2) := dk_16 249 (dk_at dksX6_paste_4 15 rfl rfl)
theorem dX6_paste_109 : decode cX6_paste 109 = .ok (.ireturn, 1) := dk_172 (dk_at dksX6_paste_4 17 rfl rfl)
theorem dX6_paste_110 : decode cX6_paste 110 = .ok (.iconst 0, 1) := dk_3 (dk_at dksX6_paste_4 18 rfl rfl)
theorem dX6_paste_111 : decode cX6_paste 111 = .ok (.istore 6, 2) := dk_54 6 (dk_at dksX6_paste_4 19 rfl rfl)
theorem dX6_paste_113 : decode cX6_paste 113 = .ok (.iload 6, 2) := dk_21 6 (dk_at dksX6_paste_4 21 rfl rfl)
theorem dX6_paste_115 : decode cX6_paste 115 = .ok (.iload 5, 2) := dk_21 5 (dk_at dksX6_paste_5 0 rfl rfl)
theorem dX6_paste_117 : decode cX6_paste 117 = .ok (.if_icmp .ge 30, 3) := dk_162 0 30 (dk_at dksX6_paste_5 2 rfl rfl)
theorem dX6_paste_120 : decode cX6_paste 120 = .ok (.aload_n 0, 1) := dk_42 (dk_at dksX6_paste_5 5 rfl rfl)
theorem dX6_paste_121 : decode cX6_paste 121 = .ok (.getfield 84, 3) := dk_180 0 84 (dk_at dksX6_paste_5 6 rfl rfl)
theorem dX6_paste_124 : decode cX6_paste 124 = .ok (.iload 6, 2) := dk_21 6 (dk_at dksX6_paste_5 9 rfl rfl)
theorem dX6_paste_126 : decode cX6_paste 126 = .ok (.aload_n 0, 1) := dk_42 (dk_at dksX6_paste_5 11 rfl rfl)
theorem dX6_paste_127 : decode cX6_paste 127 = .ok (.getfield 81, 3) := dk_180 0 81 (dk_at dksX6_paste_5 12 rfl rfl)
theorem dX6_paste_130 : decode cX6_paste 130 = .ok (.bipush 60, 2) := dk_16 60 (dk_at dksX6_paste_5 15 rfl rfl)
theorem dX6_paste_132 : decode cX6_paste 132 = .ok (.iload_n 1, 1) := dk_27 (dk_at dksX6_paste_5 17 rfl rfl)
theorem dX6_paste_133 : decode cX6_paste 133 = .ok (.imul, 1) := dk_104 (dk_at dksX6_paste_5 18 rfl rfl)
theorem dX6_paste_134 : decode cX6_paste 134 = .ok (.iload_n 2, 1) := dk_28 (dk_at dksX6_paste_5 19 rfl rfl)
theorem dX6_paste_135 : decode cX6_paste 135 = .ok (.iadd, 1) := dk_96 (dk_at dksX6_paste_5 20 rfl rfl)
theorem dX6_paste_136 : decode cX6_paste 136 = .ok (.iload 6, 2) := dk_21 6 (dk_at dksX6_paste_5 21 rfl rfl)
theorem dX6_paste_138 : decode cX6_paste 138 = .ok (.iadd, 1) := dk_96 (dk_at dksX6_paste_5 23 rfl rfl)
theorem dX6_paste_139 : decode cX6_paste 139 = .ok (.laload, 1) := dk_47 (dk_at dksX6_paste_6 0 rfl rfl)
theorem dX6_paste_140 : decode cX6_paste 140 = .ok (.lastore, 1) := dk_80 (dk_at dksX6_paste_6 1 rfl rfl)
theorem dX6_paste_141 : decode cX6_paste 141 = .ok (.iinc 6 1, 3) := dk_132 6 1 (dk_at dksX6_paste_6 2 rfl rfl)
theorem dX6_paste_144 : decode cX6_paste 144 = .ok (.goto (-31), 3) := dk_167 255 225 (dk_at dksX6_paste_6 5 rfl rfl)
theorem dX6_paste_147 : decode cX6_paste 147 = .ok (.iconst 0, 1) := dk_3 (dk_at dksX6_paste_6 8 rfl rfl)
theorem dX6_paste_148 : decode cX6_paste 148 = .ok (.istore 6, 2) := dk_54 6 (dk_at dksX6_paste_6 9 rfl rfl)
theorem dX6_paste_150 : decode cX6_paste 150 = .ok (.iload 6, 2) := dk_21 6 (dk_at dksX6_paste_6 11 rfl rfl)
theorem dX6_paste_152 : decode cX6_paste 152 = .ok (.iload 5, 2) := dk_21 5 (dk_at dksX6_paste_6 13 rfl rfl)
theorem dX6_paste_154 : decode cX6_paste 154 = .ok (.if_icmp .ge 31, 3) := dk_162 0 31 (dk_at dksX6_paste_6 15 rfl rfl)
theorem dX6_paste_157 : decode cX6_paste 157 = .ok (.aload_n 0, 1) := dk_42 (dk_at dksX6_paste_6 18 rfl rfl)
theorem dX6_paste_158 : decode cX6_paste 158 = .ok (.getfield 81, 3) := dk_180 0 81 (dk_at dksX6_paste_6 19 rfl rfl)
theorem dX6_paste_161 : decode cX6_paste 161 = .ok (.bipush 60, 2) := dk_16 60 (dk_at dksX6_paste_6 22 rfl rfl)
theorem dX6_paste_163 : decode cX6_paste 163 = .ok (.iload_n 3, 1) := dk_29 (dk_at dksX6_paste_7 0 rfl rfl)
theorem dX6_paste_164 : decode cX6_paste 164 = .ok (.imul, 1) := dk_104 (dk_at dksX6_paste_7 1 rfl rfl)
theorem dX6_paste_165 : decode cX6_paste 165 = .ok (.iload 4, 2) := dk_21 4 (dk_at dksX6_paste_7 2 rfl rfl)
theorem dX6_paste_167 : decode cX6_paste 167 = .ok (.iadd, 1) := dk_96 (dk_at dksX6_paste_7 4 rfl rfl)
theorem dX6_paste_168 : decode cX6_paste 168 = .ok (.iload 6, 2) := dk_21 6 (dk_at dksX6_paste_7 5 rfl rfl)
theorem dX6_paste_170 : decode cX6_paste 170 = .ok (.iadd, 1) := dk_96 (dk_at dksX6_paste_7 7 rfl rfl)
theorem dX6_paste_171 : decode cX6_paste 171 = .ok (.aload_n 0, 1) := dk_42 (dk_at dksX6_paste_7 8 rfl rfl)
theorem dX6_paste_172 : decode cX6_paste 172 = .ok (.getfield 84, 3) := dk_180 0 84 (dk_at dksX6_paste_7 9 rfl rfl)
theorem dX6_paste_175 : decode cX6_paste 175 = .ok (.iload 6, 2) := dk_21 6 (dk_at dksX6_paste_7 12 rfl rfl)
theorem dX6_paste_177 : decode cX6_paste 177 = .ok (.laload, 1) := dk_47 (dk_at dksX6_paste_7 14 rfl rfl)
theorem dX6_paste_178 : decode cX6_paste 178 = .ok (.lastore, 1) := dk_80 (dk_at dksX6_paste_7 15 rfl rfl)
theorem dX6_paste_179 : decode cX6_paste 179 = .ok (.iinc 6 1, 3) := dk_132 6 1 (dk_at dksX6_paste_7 16 rfl rfl)
theorem dX6_paste_182 : decode cX6_paste 182 = .ok (.goto (-32), 3) := dk_167 255 224 (dk_at dksX6_paste_7 19 rfl rfl)
theorem dX6_paste_185 : decode cX6_paste 185 = .ok (.iconst 0, 1) := dk_3 (dk_at dksX6_paste_7 22 rfl rfl)
theorem dX6_paste_186 : decode cX6_paste 186 = .ok (.ireturn, 1) := dk_172 (dk_at dksX6_paste_7 23 rfl rfl)

