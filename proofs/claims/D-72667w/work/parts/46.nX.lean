/-! the class and its own: methods and words -/
set_option maxRecDepth 100000
abbrev cX0_init : ByteArray := prog_1_method_2_code
def yX0_init : MethodName := ⟨RX0, "<init>", "()V"⟩
def dkwX0_init_8 : List UInt8 := [182, 0, 107, 16, 97, 100, 27, 79, 132, 4, 1, 167, 255, 229, 132, 1, 1, 167, 255, 201, 177]
abbrev dktX0_init_8 : List UInt8 := dkwX0_init_8 ++ []
def dkwX0_init_7 : List UInt8 := [192, 0, 101, 78, 3, 54, 4, 21, 4, 45, 182, 0, 103, 162, 0, 24, 42, 180, 0, 9, 45, 21, 4]
abbrev dktX0_init_7 : List UInt8 := dkwX0_init_7 ++ dktX0_init_8
def dkwX0_init_6 : List UInt8 := [180, 0, 44, 185, 0, 87, 1, 0, 77, 44, 185, 0, 91, 1, 0, 153, 0, 52, 44, 185, 0, 97, 1, 0]
abbrev dktX0_init_6 : List UInt8 := dkwX0_init_6 ++ dktX0_init_7
def dkwX0_init_5 : List UInt8 := [197, 0, 77, 2, 181, 0, 79, 42, 8, 16, 15, 16, 15, 197, 0, 82, 3, 181, 0, 84, 5, 60, 42]
abbrev dktX0_init_5 : List UInt8 := dkwX0_init_5 ++ dktX0_init_6
def dkwX0_init_4 : List UInt8 := [181, 0, 68, 42, 16, 11, 188, 10, 181, 0, 71, 42, 16, 11, 188, 10, 181, 0, 74, 42, 16, 15, 16, 15]
abbrev dktX0_init_4 : List UInt8 := dkwX0_init_4 ++ dktX0_init_5
def dkwX0_init_3 : List UInt8 := [181, 0, 58, 42, 16, 11, 188, 10, 181, 0, 62, 42, 16, 11, 188, 10, 181, 0, 65, 42, 16, 11, 188, 10]
abbrev dktX0_init_3 : List UInt8 := dkwX0_init_3 ++ dktX0_init_4
def dkwX0_init_2 : List UInt8 := [181, 0, 44, 42, 187, 0, 48, 89, 16, 50, 183, 0, 50, 181, 0, 51, 42, 187, 0, 55, 89, 183, 0, 57]
abbrev dktX0_init_2 : List UInt8 := dkwX0_init_2 ++ dktX0_init_3
def dkwX0_init_1 : List UInt8 := [181, 0, 18, 42, 18, 22, 18, 24, 18, 26, 18, 28, 18, 30, 18, 32, 18, 34, 18, 36, 184, 0, 38]
abbrev dktX0_init_1 : List UInt8 := dkwX0_init_1 ++ dktX0_init_2
def dkwX0_init_0 : List UInt8 := [42, 183, 0, 1, 42, 16, 26, 188, 10, 181, 0, 9, 42, 187, 0, 13, 89, 16, 14, 183, 0, 15]
abbrev dktX0_init_0 : List UInt8 := dkwX0_init_0 ++ dktX0_init_1
theorem dksX0_init_0 : cX0_init.data.toList.drop 0 = dktX0_init_0 := by decide +kernel
theorem dksX0_init_1 : cX0_init.data.toList.drop 22 = dktX0_init_1 := dk_seg dksX0_init_0 22 rfl rfl
theorem dksX0_init_2 : cX0_init.data.toList.drop 45 = dktX0_init_2 := dk_seg dksX0_init_1 23 rfl rfl
theorem dksX0_init_3 : cX0_init.data.toList.drop 69 = dktX0_init_3 := dk_seg dksX0_init_2 24 rfl rfl
theorem dksX0_init_4 : cX0_init.data.toList.drop 93 = dktX0_init_4 := dk_seg dksX0_init_3 24 rfl rfl
theorem dksX0_init_5 : cX0_init.data.toList.drop 117 = dktX0_init_5 := dk_seg dksX0_init_4 24 rfl rfl
theorem dksX0_init_6 : cX0_init.data.toList.drop 140 = dktX0_init_6 := dk_seg dksX0_init_5 23 rfl rfl
theorem dksX0_init_7 : cX0_init.data.toList.drop 164 = dktX0_init_7 := dk_seg dksX0_init_6 24 rfl rfl
theorem dksX0_init_8 : cX0_init.data.toList.drop 187 = dktX0_init_8 := dk_seg dksX0_init_7 23 rfl rfl
theorem dX0_init_0 : decode cX0_init 0 = .ok (.aload_n 0, 1) := dk_42 (dk_at dksX0_init_0 0 rfl rfl)
theorem dX0_init_1 : decode cX0_init 1 = .ok (.invokespecial 1, 3) := dk_183 0 1 (dk_at dksX0_init_0 1 rfl rfl)
theorem dX0_init_4 : decode cX0_init 4 = .ok (.aload_n 0, 1) := dk_42 (dk_at dksX0_init_0 4 rfl rfl)
theorem dX0_init_5 : decode cX0_init 5 = .ok (.bipush 26, 2) := dk_16 26 (dk_at dksX0_init_0 5 rfl rfl)
theorem dX0_init_7 : decode cX0_init 7 = .ok (.newarray .int, 2) := dk_188_10 (dk_at dksX0_init_0 7 rfl rfl)
theorem dX0_init_9 : decode cX0_init 9 = .ok (.putfield 9, 3) := dk_181 0 9 (dk_at dksX0_init_0 9 rfl rfl)
theorem dX0_init_12 : decode cX0_init 12 = .ok (.aload_n 0, 1) := dk_42 (dk_at dksX0_init_0 12 rfl rfl)
theorem dX0_init_13 : decode cX0_init 13 = .ok (.new 13, 3) := dk_187 0 13 (dk_at dksX0_init_0 13 rfl rfl)
theorem dX0_init_16 : decode cX0_init 16 = .ok (.dup, 1) := dk_89 (dk_at dksX0_init_0 16 rfl rfl)
theorem dX0_init_17 : decode cX0_init 17 = .ok (.bipush 14, 2) := dk_16 14 (dk_at dksX0_init_0 17 rfl rfl)
theorem dX0_init_19 : decode cX0_init 19 = .ok (.invokespecial 15, 3) := dk_183 0 15 (dk_at dksX0_init_0 19 rfl rfl)
theorem dX0_init_22 : decode cX0_init 22 = .ok (.putfield 18, 3) := dk_181 0 18 (dk_at dksX0_init_1 0 rfl rfl)
theorem dX0_init_25 : decode cX0_init 25 = .ok (.aload_n 0, 1) := dk_42 (dk_at dksX0_init_1 3 rfl rfl)
theorem dX0_init_26 : decode cX0_init 26 = .ok (.ldc 22, 2) := dk_18 22 (dk_at dksX0_init_1 4 rfl rfl)
theorem dX0_init_28 : decode cX0_init 28 = .ok (.ldc 24, 2) := dk_18 24 (dk_at dksX0_init_1 6 rfl rfl)
theorem dX0_init_30 : decode cX0_init 30 = .ok (.ldc 26, 2) := dk_18 26 (dk_at dksX0_init_1 8 rfl rfl)
theorem dX0_init_32 : decode cX0_init 32 = .ok (.ldc 28, 2) := dk_18 28 (dk_at dksX0_init_1 10 rfl rfl)
theorem dX0_init_34 : decode cX0_init 34 = .ok (.ldc 30, 2) := dk_18 30 (dk_at dksX0_init_1 12 rfl rfl)
theorem dX0_init_36 : decode cX0_init 36 = .ok (.ldc 32, 2) := dk_18 32 (dk_at dksX0_init_1 14 rfl rfl)
theorem dX0_init_38 : decode cX0_init 38 = .ok (.ldc 34, 2) := dk_18 34 (dk_at dksX0_init_1 16 rfl rfl)
theorem dX0_init_40 : decode cX0_init 40 = .ok (.ldc 36, 2) := dk_18 36 (dk_at dksX0_init_1 18 rfl rfl)
theorem dX0_init_42 : decode cX0_init 42 = .ok (.invokestatic 38, 3) := dk_184 0 38 (dk_at dksX0_init_1 20 rfl rfl)
theorem dX0_init_45 : decode cX0_init 45 = .ok (.putfield 44, 3) := dk_181 0 44 (dk_at dksX0_init_2 0 rfl rfl)
theorem dX0_init_48 : decode cX0_init 48 = .ok (.aload_n 0, 1) := dk_42 (dk_at dksX0_init_2 3 rfl rfl)
theorem dX0_init_49 : decode cX0_init 49 = .ok (.new 48, 3) := dk_187 0 48 (dk_at dksX0_init_2 4 rfl rfl)
theorem dX0_init_52 : decode cX0_init 52 = .ok (.dup, 1) := dk_89 (dk_at dksX0_init_2 7 rfl rfl)
theorem dX0_init_53 : decode cX0_init 53 = .ok (.bipush 50, 2) := dk_16 50 (dk_at dksX0_init_2 8 rfl rfl)
theorem dX0_init_55 : decode cX0_init 55 = .ok (.invokespecial 50, 3) := dk_183 0 50 (dk_at dksX0_init_2 10 rfl rfl)
theorem dX0_init_58 : decode cX0_init 58 = .ok (.putfield 51, 3) := dk_181 0 51 (dk_at dksX0_init_2 13 rfl rfl)
theorem dX0_init_61 : decode cX0_init 61 = .ok (.aload_n 0, 1) := dk_42 (dk_at dksX0_init_2 16 rfl rfl)
theorem dX0_init_62 : decode cX0_init 62 = .ok (.new 55, 3) := dk_187 0 55 (dk_at dksX0_init_2 17 rfl rfl)
theorem dX0_init_65 : decode cX0_init 65 = .ok (.dup, 1) := dk_89 (dk_at dksX0_init_2 20 rfl rfl)
theorem dX0_init_66 : decode cX0_init 66 = .ok (.invokespecial 57, 3) := dk_183 0 57 (dk_at dksX0_init_2 21 rfl rfl)
theorem dX0_init_69 : decode cX0_init 69 = .ok (.putfield 58, 3) := dk_181 0 58 (dk_at dksX0_init_3 0 rfl rfl)
theorem dX0_init_72 : decode cX0_init 72 = .ok (.aload_n 0, 1) := dk_42 (dk_at dksX0_init_3 3 rfl rfl)
theorem dX0_init_73 : decode cX0_init 73 = .ok (.bipush 11, 2) := dk_16 11 (dk_at dksX0_init_3 4 rfl rfl)
theorem dX0_init_75 : decode cX0_init 75 = .ok (.newarray .int, 2) := dk_188_10 (dk_at dksX0_init_3 6 rfl rfl)
theorem dX0_init_77 : decode cX0_init 77 = .ok (.putfield 62, 3) := dk_181 0 62 (dk_at dksX0_init_3 8 rfl rfl)
theorem dX0_init_80 : decode cX0_init 80 = .ok (.aload_n 0, 1) := dk_42 (dk_at dksX0_init_3 11 rfl rfl)
theorem dX0_init_81 : decode cX0_init 81 = .ok (.bipush 11, 2) := dk_16 11 (dk_at dksX0_init_3 12 rfl rfl)
theorem dX0_init_83 : decode cX0_init 83 = .ok (.newarray .int, 2) := dk_188_10 (dk_at dksX0_init_3 14 rfl rfl)
theorem dX0_init_85 : decode cX0_init 85 = .ok (.putfield 65, 3) := dk_181 0 65 (dk_at dksX0_init_3 16 rfl rfl)
theorem dX0_init_88 : decode cX0_init 88 = .ok (.aload_n 0, 1) := dk_42 (dk_at dksX0_init_3 19 rfl rfl)
theorem dX0_init_89 : decode cX0_init 89 = .ok (.bipush 11, 2) := dk_16 11 (dk_at dksX0_init_3 20 rfl rfl)
theorem dX0_init_91 : decode cX0_init 91 = .ok (.newarray .int, 2) := dk_188_10 (dk_at dksX0_init_3 22 rfl rfl)
theorem dX0_init_93 : decode cX0_init 93 = .ok (.putfield 68, 3) := dk_181 0 68 (dk_at dksX0_init_4 0 rfl rfl)
theorem dX0_init_96 : decode cX0_init 96 = .ok (.aload_n 0, 1) := dk_42 (dk_at dksX0_init_4 3 rfl rfl)
theorem dX0_init_97 : decode cX0_init 97 = .ok (.bipush 11, 2) := dk_16 11 (dk_at dksX0_init_4 4 rfl rfl)
theorem dX0_init_99 : decode cX0_init 99 = .ok (.newarray .int, 2) := dk_188_10 (dk_at dksX0_init_4 6 rfl rfl)
theorem dX0_init_101 : decode cX0_init 101 = .ok (.putfield 71, 3) := dk_181 0 71 (dk_at dksX0_init_4 8 rfl rfl)
theorem dX0_init_104 : decode cX0_init 104 = .ok (.aload_n 0, 1) := dk_42 (dk_at dksX0_init_4 11 rfl rfl)
theorem dX0_init_105 : decode cX0_init 105 = .ok (.bipush 11, 2) := dk_16 11 (dk_at dksX0_init_4 12 rfl rfl)
theorem dX0_init_107 : decode cX0_init 107 = .ok (.newarray .int, 2) := dk_188_10 (dk_at dksX0_init_4 14 rfl rfl)
theorem dX0_init_109 : decode cX0_init 109 = .ok (.putfield 74, 3) := dk_181 0 74 (dk_at dksX0_init_4 16 rfl rfl)
theorem dX0_init_112 : decode cX0_init 112 = .ok (.aload_n 0, 1) := dk_42 (dk_at dksX0_init_4 19 rfl rfl)
theorem dX0_init_113 : decode cX0_init 113 = .ok (.bipush 15, 2) := dk_16 15 (dk_at dksX0_init_4 20 rfl rfl)
theorem dX0_init_115 : decode cX0_init 115 = .ok (.bipush 15, 2) := dk_16 15 (dk_at dksX0_init_4 22 rfl rfl)
theorem dX0_init_117 : decode cX0_init 117 = .ok (.multianewarray 77 2, 4) := by decide +kernel
theorem dX0_init_121 : decode cX0_init 121 = .ok (.putfield 79, 3) := dk_181 0 79 (dk_at dksX0_init_5 4 rfl rfl)
theorem dX0_init_124 : decode cX0_init 124 = .ok (.aload_n 0, 1) := dk_42 (dk_at dksX0_init_5 7 rfl rfl)
theorem dX0_init_125 : decode cX0_init 125 = .ok (.iconst 5, 1) := dk_8 (dk_at dksX0_init_5 8 rfl rfl)
theorem dX0_init_126 : decode cX0_init 126 = .ok (.bipush 15, 2) := dk_16 15 (dk_at dksX0_init_5 9 rfl rfl)
theorem dX0_init_128 : decode cX0_init 128 = .ok (.bipush 15, 2) := dk_16 15 (dk_at dksX0_init_5 11 rfl rfl)
theorem dX0_init_130 : decode cX0_init 130 = .ok (.multianewarray 82 3, 4) := by decide +kernel
theorem dX0_init_134 : decode cX0_init 134 = .ok (.putfield 84, 3) := dk_181 0 84 (dk_at dksX0_init_5 17 rfl rfl)
theorem dX0_init_137 : decode cX0_init 137 = .ok (.iconst 2, 1) := dk_5 (dk_at dksX0_init_5 20 rfl rfl)
theorem dX0_init_138 : decode cX0_init 138 = .ok (.istore_n 1, 1) := dk_60 (dk_at dksX0_init_5 21 rfl rfl)
theorem dX0_init_139 : decode cX0_init 139 = .ok (.aload_n 0, 1) := dk_42 (dk_at dksX0_init_5 22 rfl rfl)
theorem dX0_init_140 : decode cX0_init 140 = .ok (.getfield 44, 3) := dk_180 0 44 (dk_at dksX0_init_6 0 rfl rfl)
theorem dX0_init_143 : decode cX0_init 143 = .ok (.invokeinterface 87 1, 5) := by decide +kernel
theorem dX0_init_148 : decode cX0_init 148 = .ok (.astore_n 2, 1) := dk_77 (dk_at dksX0_init_6 8 rfl rfl)
theorem dX0_init_149 : decode cX0_init 149 = .ok (.aload_n 2, 1) := dk_44 (dk_at dksX0_init_6 9 rfl rfl)
theorem dX0_init_150 : decode cX0_init 150 = .ok (.invokeinterface 91 1, 5) := by decide +kernel
theorem dX0_init_155 : decode cX0_init 155 = .ok (.ifCond .eq 52, 3) := dk_153 0 52 (dk_at dksX0_init_6 15 rfl rfl)
theorem dX0_init_158 : decode cX0_init 158 = .ok (.aload_n 2, 1) := dk_44 (dk_at dksX0_init_6 18 rfl rfl)
theorem dX0_init_159 : decode cX0_init 159 = .ok (.invokeinterface 97 1, 5) := by decide +kernel
theorem dX0_init_164 : decode cX0_init 164 = .ok (.checkcast 101, 3) := dk_192 0 101 (dk_at dksX0_init_7 0 rfl rfl)
theorem dX0_init_167 : decode cX0_init 167 = .ok (.astore_n 3, 1) := dk_78 (dk_at dksX0_init_7 3 rfl rfl)
theorem dX0_init_168 : decode cX0_init 168 = .ok (.iconst 0, 1) := dk_3 (dk_at dksX0_init_7 4 rfl rfl)
theorem dX0_init_169 : decode cX0_init 169 = .ok (.istore 4, 2) := dk_54 4 (dk_at dksX0_init_7 5 rfl rfl)
theorem dX0_init_171 : decode cX0_init 171 = .ok (.iload 4, 2) := dk_21 4 (dk_at dksX0_init_7 7 rfl rfl)
theorem dX0_init_173 : decode cX0_init 173 = .ok (.aload_n 3, 1) := dk_45 (dk_at dksX0_init_7 9 rfl rfl)
theorem dX0_init_174 : decode cX0_init 174 = .ok (.invokevirtual 103, 3) := dk_182 0 103 (dk_at dksX0_init_7 10 rfl rfl)
theorem dX0_init_177 : decode cX0_init 177 = .ok (.if_icmp .ge 24, 3) := dk_162 0 24 (dk_at dksX0_init_7 13 rfl rfl)
theorem dX0_init_180 : decode cX0_init 180 = .ok (.aload_n 0, 1) := dk_42 (dk_at dksX0_init_7 16 rfl rfl)
theorem dX0_init_181 : decode cX0_init 181 = .ok (.getfield 9, 3) := dk_180 0 9 (dk_at dksX0_init_7 17 rfl rfl)
theorem dX0_init_184 : decode cX0_init 184 = .ok (.aload_n 3, 1) := dk_45 (dk_at dksX0_init_7 20 rfl rfl)
theorem dX0_init_185 : decode cX0_init 185 = .ok (.iload 4, 2) := dk_21 4 (dk_at dksX0_init_7 21 rfl rfl)
theorem dX0_init_187 : decode cX0_init 187 = .ok (.invokevirtual 107, 3) := dk_182 0 107 (dk_at dksX0_init_8 0 rfl rfl)
theorem dX0_init_190 : decode cX0_init 190 = .ok (.bipush 97, 2) := dk_16 97 (dk_at dksX0_init_8 3 rfl rfl)
theorem dX0_init_192 : decode cX0_init 192 = .ok (.isub, 1) := dk_100 (dk_at dksX0_init_8 5 rfl rfl)
theorem dX0_init_193 : decode cX0_init 193 = .ok (.iload_n 1, 1) := dk_27 (dk_at dksX0_init_8 6 rfl rfl)
theorem dX0_init_194 : decode cX0_init 194 = .ok (.iastore, 1) := dk_79 (dk_at dksX0_init_8 7 rfl rfl)
theorem dX0_init_195 : decode cX0_init 195 = .ok (.iinc 4 1, 3) := dk_132 4 1 (dk_at dksX0_init_8 8 rfl rfl)
theorem dX0_init_198 : decode cX0_init 198 = .ok (.goto (-27), 3) := dk_167 255 229 (dk_at dksX0_init_8 11 rfl rfl)
theorem dX0_init_201 : decode cX0_init 201 = .ok (.iinc 1 1, 3) := dk_132 1 1 (dk_at dksX0_init_8 14 rfl rfl)
theorem dX0_init_204 : decode cX0_init 204 = .ok (.goto (-55), 3) := dk_167 255 201 (dk_at dksX0_init_8 17 rfl rfl)
theorem dX0_init_207 : decode cX0_init 207 = .ok (.return_, 1) := dk_177 (dk_at dksX0_init_8 20 rfl rfl)
abbrev cX0_letter : ByteArray := prog_1_method_4_code
def yX0_letter : MethodName := ⟨RX0, "letter", "(I)I"⟩
def dkwX0_letter_1 : List UInt8 := [160, 0, 6, 16, 152, 172, 42, 180, 0, 51, 27, 146, 182, 0, 119, 87, 42, 180, 0, 51, 182, 0, 118, 172]
abbrev dktX0_letter_1 : List UInt8 := dkwX0_letter_1 ++ []
def dkwX0_letter_0 : List UInt8 := [27, 16, 32, 16, 126, 184, 0, 114, 154, 0, 6, 16, 154, 172, 42, 180, 0, 51, 182, 0, 118, 16, 50]
abbrev dktX0_letter_0 : List UInt8 := dkwX0_letter_0 ++ dktX0_letter_1
theorem dksX0_letter_0 : cX0_letter.data.toList.drop 0 = dktX0_letter_0 := by decide +kernel
theorem dksX0_letter_1 : cX0_letter.data.toList.drop 23 = dktX0_letter_1 := dk_seg dksX0_letter_0 23 rfl rfl
theorem dX0_letter_0 : decode cX0_letter 0 = .ok (.iload_n 1, 1) := dk_27 (dk_at dksX0_letter_0 0 rfl rfl)
theorem dX0_letter_1 : decode cX0_letter 1 = .ok (.bipush 32, 2) := dk_16 32 (dk_at dksX0_letter_0 1 rfl rfl)
theorem dX0_letter_3 : decode cX0_letter 3 = .ok (.bipush 126, 2) := dk_16 126 (dk_at dksX0_letter_0 3 rfl rfl)
theorem dX0_letter_5 : decode cX0_letter 5 = .ok (.invokestatic 114, 3) := dk_184 0 114 (dk_at dksX0_letter_0 5 rfl rfl)
theorem dX0_letter_8 : decode cX0_letter 8 = .ok (.ifCond .ne 6, 3) := dk_154 0 6 (dk_at dksX0_letter_0 8 rfl rfl)
theorem dX0_letter_11 : decode cX0_letter 11 = .ok (.bipush (-102), 2) := dk_16 154 (dk_at dksX0_letter_0 11 rfl rfl)
theorem dX0_letter_13 : decode cX0_letter 13 = .ok (.ireturn, 1) := dk_172 (dk_at dksX0_letter_0 13 rfl rfl)
theorem dX0_letter_14 : decode cX0_letter 14 = .ok (.aload_n 0, 1) := dk_42 (dk_at dksX0_letter_0 14 rfl rfl)
theorem dX0_letter_15 : decode cX0_letter 15 = .ok (.getfield 51, 3) := dk_180 0 51 (dk_at dksX0_letter_0 15 rfl rfl)
theorem dX0_letter_18 : decode cX0_letter 18 = .ok (.invokevirtual 118, 3) := dk_182 0 118 (dk_at dksX0_letter_0 18 rfl rfl)
theorem dX0_letter_21 : decode cX0_letter 21 = .ok (.bipush 50, 2) := dk_16 50 (dk_at dksX0_letter_0 21 rfl rfl)
theorem dX0_letter_23 : decode cX0_letter 23 = .ok (.if_icmp .ne 6, 3) := dk_160 0 6 (dk_at dksX0_letter_1 0 rfl rfl)
theorem dX0_letter_26 : decode cX0_letter 26 = .ok (.bipush (-104), 2) := dk_16 152 (dk_at dksX0_letter_1 3 rfl rfl)
theorem dX0_letter_28 : decode cX0_letter 28 = .ok (.ireturn, 1) := dk_172 (dk_at dksX0_letter_1 5 rfl rfl)
theorem dX0_letter_29 : decode cX0_letter 29 = .ok (.aload_n 0, 1) := dk_42 (dk_at dksX0_letter_1 6 rfl rfl)
theorem dX0_letter_30 : decode cX0_letter 30 = .ok (.getfield 51, 3) := dk_180 0 51 (dk_at dksX0_letter_1 7 rfl rfl)
theorem dX0_letter_33 : decode cX0_letter 33 = .ok (.iload_n 1, 1) := dk_27 (dk_at dksX0_letter_1 10 rfl rfl)
theorem dX0_letter_34 : decode cX0_letter 34 = .ok (.i2c, 1) := dk_146 (dk_at dksX0_letter_1 11 rfl rfl)
theorem dX0_letter_35 : decode cX0_letter 35 = .ok (.invokevirtual 119, 3) := dk_182 0 119 (dk_at dksX0_letter_1 12 rfl rfl)
theorem dX0_letter_38 : decode cX0_letter 38 = .ok (.pop, 1) := dk_87 (dk_at dksX0_letter_1 15 rfl rfl)
theorem dX0_letter_39 : decode cX0_letter 39 = .ok (.aload_n 0, 1) := dk_42 (dk_at dksX0_letter_1 16 rfl rfl)
theorem dX0_letter_40 : decode cX0_letter 40 = .ok (.getfield 51, 3) := dk_180 0 51 (dk_at dksX0_letter_1 17 rfl rfl)
theorem dX0_letter_43 : decode cX0_letter 43 = .ok (.invokevirtual 118, 3) := dk_182 0 118 (dk_at dksX0_letter_1 20 rfl rfl)
theorem dX0_letter_46 : decode cX0_letter 46 = .ok (.ireturn, 1) := dk_172 (dk_at dksX0_letter_1 23 rfl rfl)
abbrev cX0_in : ByteArray := prog_1_method_1_code
def yX0_in : MethodName := ⟨RX0, "in", "(III)Z"⟩
def dkwX0_in_0 : List UInt8 := [26, 27, 161, 0, 12, 26, 28, 163, 0, 7, 4, 167, 0, 4, 3, 172]
abbrev dktX0_in_0 : List UInt8 := dkwX0_in_0 ++ []
theorem dksX0_in_0 : cX0_in.data.toList.drop 0 = dktX0_in_0 := by decide +kernel
theorem dX0_in_0 : decode cX0_in 0 = .ok (.iload_n 0, 1) := dk_26 (dk_at dksX0_in_0 0 rfl rfl)
theorem dX0_in_1 : decode cX0_in 1 = .ok (.iload_n 1, 1) := dk_27 (dk_at dksX0_in_0 1 rfl rfl)
theorem dX0_in_2 : decode cX0_in 2 = .ok (.if_icmp .lt 12, 3) := dk_161 0 12 (dk_at dksX0_in_0 2 rfl rfl)
theorem dX0_in_5 : decode cX0_in 5 = .ok (.iload_n 0, 1) := dk_26 (dk_at dksX0_in_0 5 rfl rfl)
theorem dX0_in_6 : decode cX0_in 6 = .ok (.iload_n 2, 1) := dk_28 (dk_at dksX0_in_0 6 rfl rfl)
theorem dX0_in_7 : decode cX0_in 7 = .ok (.if_icmp .gt 7, 3) := dk_163 0 7 (dk_at dksX0_in_0 7 rfl rfl)
theorem dX0_in_10 : decode cX0_in 10 = .ok (.iconst 1, 1) := dk_4 (dk_at dksX0_in_0 10 rfl rfl)
theorem dX0_in_11 : decode cX0_in 11 = .ok (.goto 4, 3) := dk_167 0 4 (dk_at dksX0_in_0 11 rfl rfl)
theorem dX0_in_14 : decode cX0_in 14 = .ok (.iconst 0, 1) := dk_3 (dk_at dksX0_in_0 14 rfl rfl)
theorem dX0_in_15 : decode cX0_in 15 = .ok (.ireturn, 1) := dk_172 (dk_at dksX0_in_0 15 rfl rfl)
abbrev cX0_blank : ByteArray := prog_1_method_5_code
def yX0_blank : MethodName := ⟨RX0, "blank", "()I"⟩
def dkwX0_blank_0 : List UInt8 := [42, 180, 0, 51, 182, 0, 118, 60, 42, 180, 0, 51, 3, 182, 0, 123, 27, 172]
abbrev dktX0_blank_0 : List UInt8 := dkwX0_blank_0 ++ []
theorem dksX0_blank_0 : cX0_blank.data.toList.drop 0 = dktX0_blank_0 := by decide +kernel
theorem dX0_blank_0 : decode cX0_blank 0 = .ok (.aload_n 0, 1) := dk_42 (dk_at dksX0_blank_0 0 rfl rfl)
theorem dX0_blank_1 : decode cX0_blank 1 = .ok (.getfield 51, 3) := dk_180 0 51 (dk_at dksX0_blank_0 1 rfl rfl)
theorem dX0_blank_4 : decode cX0_blank 4 = .ok (.invokevirtual 118, 3) := dk_182 0 118 (dk_at dksX0_blank_0 4 rfl rfl)
theorem dX0_blank_7 : decode cX0_blank 7 = .ok (.istore_n 1, 1) := dk_60 (dk_at dksX0_blank_0 7 rfl rfl)
theorem dX0_blank_8 : decode cX0_blank 8 = .ok (.aload_n 0, 1) := dk_42 (dk_at dksX0_blank_0 8 rfl rfl)
theorem dX0_blank_9 : decode cX0_blank 9 = .ok (.getfield 51, 3) := dk_180 0 51 (dk_at dksX0_blank_0 9 rfl rfl)
theorem dX0_blank_12 : decode cX0_blank 12 = .ok (.iconst 0, 1) := dk_3 (dk_at dksX0_blank_0 12 rfl rfl)
theorem dX0_blank_13 : decode cX0_blank 13 = .ok (.invokevirtual 123, 3) := dk_182 0 123 (dk_at dksX0_blank_0 13 rfl rfl)
theorem dX0_blank_16 : decode cX0_blank 16 = .ok (.iload_n 1, 1) := dk_27 (dk_at dksX0_blank_0 16 rfl rfl)
theorem dX0_blank_17 : decode cX0_blank 17 = .ok (.ireturn, 1) := dk_172 (dk_at dksX0_blank_0 17 rfl rfl)
abbrev cX0_fault : ByteArray := prog_1_method_6_code
def yX0_fault : MethodName := ⟨RX0, "fault", "()I"⟩
def dkwX0_fault_0 : List UInt8 := [187, 0, 126, 89, 42, 183, 0, 128, 182, 0, 131, 180, 0, 135, 172]
abbrev dktX0_fault_0 : List UInt8 := dkwX0_fault_0 ++ []
theorem dksX0_fault_0 : cX0_fault.data.toList.drop 0 = dktX0_fault_0 := by decide +kernel
theorem dX0_fault_0 : decode cX0_fault 0 = .ok (.new 126, 3) := dk_187 0 126 (dk_at dksX0_fault_0 0 rfl rfl)
theorem dX0_fault_3 : decode cX0_fault 3 = .ok (.dup, 1) := dk_89 (dk_at dksX0_fault_0 3 rfl rfl)
theorem dX0_fault_4 : decode cX0_fault 4 = .ok (.aload_n 0, 1) := dk_42 (dk_at dksX0_fault_0 4 rfl rfl)
theorem dX0_fault_5 : decode cX0_fault 5 = .ok (.invokespecial 128, 3) := dk_183 0 128 (dk_at dksX0_fault_0 5 rfl rfl)
theorem dX0_fault_8 : decode cX0_fault 8 = .ok (.invokevirtual 131, 3) := dk_182 0 131 (dk_at dksX0_fault_0 8 rfl rfl)
theorem dX0_fault_11 : decode cX0_fault 11 = .ok (.getfield 135, 3) := dk_180 0 135 (dk_at dksX0_fault_0 11 rfl rfl)
theorem dX0_fault_14 : decode cX0_fault 14 = .ok (.ireturn, 1) := dk_172 (dk_at dksX0_fault_0 14 rfl rfl)
abbrev cX0_names : ByteArray := prog_1_method_8_code
def yX0_names : MethodName := ⟨RX0, "names", "()I"⟩
def dkwX0_names_8 : List UInt8 := [180, 0, 197, 4, 96, 181, 0, 197, 42, 180, 0, 51, 3, 182, 0, 123, 43, 180, 0, 154, 182, 0, 171, 172]
abbrev dktX0_names_8 : List UInt8 := dkwX0_names_8 ++ []
def dkwX0_names_7 : List UInt8 := [183, 0, 181, 182, 0, 184, 87, 167, 255, 203, 42, 180, 0, 18, 184, 0, 187, 42, 1, 181, 0, 193, 42, 89]
abbrev dktX0_names_7 : List UInt8 := dkwX0_names_7 ++ dktX0_names_8
def dkwX0_names_6 : List UInt8 := [187, 0, 140, 89, 42, 25, 4, 43, 180, 0, 154, 25, 4, 182, 0, 172, 192, 0, 176, 182, 0, 178]
abbrev dktX0_names_6 : List UInt8 := dkwX0_names_6 ++ dktX0_names_7
def dkwX0_names_5 : List UInt8 := [185, 0, 91, 1, 0, 153, 0, 50, 45, 185, 0, 97, 1, 0, 192, 0, 101, 58, 4, 42, 180, 0, 18]
abbrev dktX0_names_5 : List UInt8 := dkwX0_names_5 ++ dktX0_names_6
def dkwX0_names_4 : List UInt8 := [164, 0, 6, 16, 152, 172, 43, 180, 0, 154, 182, 0, 158, 185, 0, 164, 1, 0, 78, 45]
abbrev dktX0_names_4 : List UInt8 := dkwX0_names_4 ++ dktX0_names_5
def dkwX0_names_3 : List UInt8 := [154, 0, 6, 16, 153, 172, 42, 180, 0, 18, 182, 0, 111, 43, 180, 0, 154, 182, 0, 171, 96, 16, 14]
abbrev dktX0_names_3 : List UInt8 := dkwX0_names_3 ++ dktX0_names_4
def dkwX0_names_2 : List UInt8 := [58, 4, 28, 42, 25, 4, 182, 0, 167, 154, 0, 7, 4, 167, 0, 4, 3, 126, 61, 167, 255, 219, 28]
abbrev dktX0_names_2 : List UInt8 := dkwX0_names_2 ++ dktX0_names_3
def dkwX0_names_1 : List UInt8 := [185, 0, 164, 1, 0, 78, 45, 185, 0, 91, 1, 0, 153, 0, 34, 45, 185, 0, 97, 1, 0, 192, 0, 101]
abbrev dktX0_names_1 : List UInt8 := dkwX0_names_1 ++ dktX0_names_2
def dkwX0_names_0 : List UInt8 := [187, 0, 126, 89, 42, 183, 0, 128, 182, 0, 131, 76, 43, 180, 0, 150, 61, 43, 180, 0, 154, 182, 0, 158]
abbrev dktX0_names_0 : List UInt8 := dkwX0_names_0 ++ dktX0_names_1
theorem dksX0_names_0 : cX0_names.data.toList.drop 0 = dktX0_names_0 := by decide +kernel
theorem dksX0_names_1 : cX0_names.data.toList.drop 24 = dktX0_names_1 := dk_seg dksX0_names_0 24 rfl rfl
theorem dksX0_names_2 : cX0_names.data.toList.drop 48 = dktX0_names_2 := dk_seg dksX0_names_1 24 rfl rfl
theorem dksX0_names_3 : cX0_names.data.toList.drop 71 = dktX0_names_3 := dk_seg dksX0_names_2 23 rfl rfl
theorem dksX0_names_4 : cX0_names.data.toList.drop 94 = dktX0_names_4 := dk_seg dksX0_names_3 23 rfl rfl
theorem dksX0_names_5 : cX0_names.data.toList.drop 114 = dktX0_names_5 := dk_seg dksX0_names_4 20 rfl rfl
theorem dksX0_names_6 : cX0_names.data.toList.drop 137 = dktX0_names_6 := dk_seg dksX0_names_5 23 rfl rfl
theorem dksX0_names_7 : cX0_names.data.toList.drop 159 = dktX0_names_7 := dk_seg dksX0_names_6 22 rfl rfl
theorem dksX0_names_8 : cX0_names.data.toList.drop 183 = dktX0_names_8 := dk_seg dksX0_names_7 24 rfl rfl
theorem dX0_names_0 : decode cX0_names 0 = .ok (.new 126, 3) := dk_187 0 126 (dk_at dksX0_names_0 0 rfl rfl)
theorem dX0_names_3 : decode cX0_names 3 = .ok (.dup, 1) := dk_89 (dk_at dksX0_names_0 3 rfl rfl)
theorem dX0_names_4 : decode cX0_names 4 = .ok (.aload_n 0, 1) := dk_42 (dk_at dksX0_names_0 4 rfl rfl)
theorem dX0_names_5 : decode cX0_names 5 = .ok (.invokespecial 128, 3) := dk_183 0 128 (dk_at dksX0_names_0 5 rfl rfl)
theorem dX0_names_8 : decode cX0_names 8 = .ok (.invokevirtual 131, 3) := dk_182 0 131 (dk_at dksX0_names_0 8 rfl rfl)
theorem dX0_names_11 : decode cX0_names 11 = .ok (.astore_n 1, 1) := dk_76 (dk_at dksX0_names_0 11 rfl rfl)
theorem dX0_names_12 : decode cX0_names 12 = .ok (.aload_n 1, 1) := dk_43 (dk_at dksX0_names_0 12 rfl rfl)
theorem dX0_names_13 : decode cX0_names 13 = .ok (.getfield 150, 3) := dk_180 0 150 (dk_at dksX0_names_0 13 rfl rfl)
theorem dX0_names_16 : decode cX0_names 16 = .ok (.istore_n 2, 1) := dk_61 (dk_at dksX0_names_0 16 rfl rfl)
theorem dX0_names_17 : decode cX0_names 17 = .ok (.aload_n 1, 1) := dk_43 (dk_at dksX0_names_0 17 rfl rfl)
theorem dX0_names_18 : decode cX0_names 18 = .ok (.getfield 154, 3) := dk_180 0 154 (dk_at dksX0_names_0 18 rfl rfl)
theorem dX0_names_21 : decode cX0_names 21 = .ok (.invokevirtual 158, 3) := dk_182 0 158 (dk_at dksX0_names_0 21 rfl rfl)
theorem dX0_names_24 : decode cX0_names 24 = .ok (.invokeinterface 164 1, 5) := by decide +kernel
theorem dX0_names_29 : decode cX0_names 29 = .ok (.astore_n 3, 1) := dk_78 (dk_at dksX0_names_1 5 rfl rfl)
theorem dX0_names_30 : decode cX0_names 30 = .ok (.aload_n 3, 1) := dk_45 (dk_at dksX0_names_1 6 rfl rfl)
theorem dX0_names_31 : decode cX0_names 31 = .ok (.invokeinterface 91 1, 5) := by decide +kernel
theorem dX0_names_36 : decode cX0_names 36 = .ok (.ifCond .eq 34, 3) := dk_153 0 34 (dk_at dksX0_names_1 12 rfl rfl)
theorem dX0_names_39 : decode cX0_names 39 = .ok (.aload_n 3, 1) := dk_45 (dk_at dksX0_names_1 15 rfl rfl)
theorem dX0_names_40 : decode cX0_names 40 = .ok (.invokeinterface 97 1, 5) := by decide +kernel
theorem dX0_names_45 : decode cX0_names 45 = .ok (.checkcast 101, 3) := dk_192 0 101 (dk_at dksX0_names_1 21 rfl rfl)
theorem dX0_names_48 : decode cX0_names 48 = .ok (.astore 4, 2) := dk_58 4 (dk_at dksX0_names_2 0 rfl rfl)
theorem dX0_names_50 : decode cX0_names 50 = .ok (.iload_n 2, 1) := dk_28 (dk_at dksX0_names_2 2 rfl rfl)
theorem dX0_names_51 : decode cX0_names 51 = .ok (.aload_n 0, 1) := dk_42 (dk_at dksX0_names_2 3 rfl rfl)
theorem dX0_names_52 : decode cX0_names 52 = .ok (.aload 4, 2) := dk_25 4 (dk_at dksX0_names_2 4 rfl rfl)
theorem dX0_names_54 : decode cX0_names 54 = .ok (.invokevirtual 167, 3) := dk_182 0 167 (dk_at dksX0_names_2 6 rfl rfl)
theorem dX0_names_57 : decode cX0_names 57 = .ok (.ifCond .ne 7, 3) := dk_154 0 7 (dk_at dksX0_names_2 9 rfl rfl)
theorem dX0_names_60 : decode cX0_names 60 = .ok (.iconst 1, 1) := dk_4 (dk_at dksX0_names_2 12 rfl rfl)
theorem dX0_names_61 : decode cX0_names 61 = .ok (.goto 4, 3) := dk_167 0 4 (dk_at dksX0_names_2 13 rfl rfl)
theorem dX0_names_64 : decode cX0_names 64 = .ok (.iconst 0, 1) := dk_3 (dk_at dksX0_names_2 16 rfl rfl)
theorem dX0_names_65 : decode cX0_names 65 = .ok (.iand, 1) := dk_126 (dk_at dksX0_names_2 17 rfl rfl)
theorem dX0_names_66 : decode cX0_names 66 = .ok (.istore_n 2, 1) := dk_61 (dk_at dksX0_names_2 18 rfl rfl)
theorem dX0_names_67 : decode cX0_names 67 = .ok (.goto (-37), 3) := dk_167 255 219 (dk_at dksX0_names_2 19 rfl rfl)
theorem dX0_names_70 : decode cX0_names 70 = .ok (.iload_n 2, 1) := dk_28 (dk_at dksX0_names_2 22 rfl rfl)
theorem dX0_names_71 : decode cX0_names 71 = .ok (.ifCond .ne 6, 3) := dk_154 0 6 (dk_at dksX0_names_3 0 rfl rfl)
theorem dX0_names_74 : decode cX0_names 74 = .ok (.bipush (-103), 2) := dk_16 153 (dk_at dksX0_names_3 3 rfl rfl)
theorem dX0_names_76 : decode cX0_names 76 = .ok (.ireturn, 1) := dk_172 (dk_at dksX0_names_3 5 rfl rfl)
theorem dX0_names_77 : decode cX0_names 77 = .ok (.aload_n 0, 1) := dk_42 (dk_at dksX0_names_3 6 rfl rfl)
theorem dX0_names_78 : decode cX0_names 78 = .ok (.getfield 18, 3) := dk_180 0 18 (dk_at dksX0_names_3 7 rfl rfl)
theorem dX0_names_81 : decode cX0_names 81 = .ok (.invokevirtual 111, 3) := dk_182 0 111 (dk_at dksX0_names_3 10 rfl rfl)
theorem dX0_names_84 : decode cX0_names 84 = .ok (.aload_n 1, 1) := dk_43 (dk_at dksX0_names_3 13 rfl rfl)
theorem dX0_names_85 : decode cX0_names 85 = .ok (.getfield 154, 3) := dk_180 0 154 (dk_at dksX0_names_3 14 rfl rfl)
theorem dX0_names_88 : decode cX0_names 88 = .ok (.invokevirtual 171, 3) := dk_182 0 171 (dk_at dksX0_names_3 17 rfl rfl)
theorem dX0_names_91 : decode cX0_names 91 = .ok (.iadd, 1) := dk_96 (dk_at dksX0_names_3 20 rfl rfl)
theorem dX0_names_92 : decode cX0_names 92 = .ok (.bipush 14, 2) := dk_16 14 (dk_at dksX0_names_3 21 rfl rfl)
theorem dX0_names_94 : decode cX0_names 94 = .ok (.if_icmp .le 6, 3) := dk_164 0 6 (dk_at dksX0_names_4 0 rfl rfl)
theorem dX0_names_97 : decode cX0_names 97 = .ok (.bipush (-104), 2) := dk_16 152 (dk_at dksX0_names_4 3 rfl rfl)
theorem dX0_names_99 : decode cX0_names 99 = .ok (.ireturn, 1) := dk_172 (dk_at dksX0_names_4 5 rfl rfl)
theorem dX0_names_100 : decode cX0_names 100 = .ok (.aload_n 1, 1) := dk_43 (dk_at dksX0_names_4 6 rfl rfl)
theorem dX0_names_101 : decode cX0_names 101 = .ok (.getfield 154, 3) := dk_180 0 154 (dk_at dksX0_names_4 7 rfl rfl)
theorem dX0_names_104 : decode cX0_names 104 = .ok (.invokevirtual 158, 3) := dk_182 0 158 (dk_at dksX0_names_4 10 rfl rfl)
theorem dX0_names_107 : decode cX0_names 107 = .ok (.invokeinterface 164 1, 5) := by decide +kernel
theorem dX0_names_112 : decode cX0_names 112 = .ok (.astore_n 3, 1) := dk_78 (dk_at dksX0_names_4 18 rfl rfl)
theorem dX0_names_113 : decode cX0_names 113 = .ok (.aload_n 3, 1) := dk_45 (dk_at dksX0_names_4 19 rfl rfl)
theorem dX0_names_114 : decode cX0_names 114 = .ok (.invokeinterface 91 1, 5) := by decide +kernel
theorem dX0_names_119 : decode cX0_names 119 = .ok (.ifCond .eq 50, 3) := dk_153 0 50 (dk_at dksX0_names_5 5 rfl rfl)
theorem dX0_names_122 : decode cX0_names 122 = .ok (.aload_n 3, 1) := dk_45 (dk_at dksX0_names_5 8 rfl rfl)
theorem dX0_names_123 : decode cX0_names 123 = .ok (.invokeinterface 97 1, 5) := by decide +kernel
theorem dX0_names_128 : decode cX0_names 128 = .ok (.checkcast 101, 3) := dk_192 0 101 (dk_at dksX0_names_5 14 rfl rfl)
theorem dX0_names_131 : decode cX0_names 131 = .ok (.astore 4, 2) := dk_58 4 (dk_at dksX0_names_5 17 rfl rfl)
theorem dX0_names_133 : decode cX0_names 133 = .ok (.aload_n 0, 1) := dk_42 (dk_at dksX0_names_5 19 rfl rfl)
theorem dX0_names_134 : decode cX0_names 134 = .ok (.getfield 18, 3) := dk_180 0 18 (dk_at dksX0_names_5 20 rfl rfl)
theorem dX0_names_137 : decode cX0_names 137 = .ok (.new 140, 3) := dk_187 0 140 (dk_at dksX0_names_6 0 rfl rfl)
theorem dX0_names_140 : decode cX0_names 140 = .ok (.dup, 1) := dk_89 (dk_at dksX0_names_6 3 rfl rfl)
theorem dX0_names_141 : decode cX0_names 141 = .ok (.aload_n 0, 1) := dk_42 (dk_at dksX0_names_6 4 rfl rfl)
theorem dX0_names_142 : decode cX0_names 142 = .ok (.aload 4, 2) := dk_25 4 (dk_at dksX0_names_6 5 rfl rfl)
theorem dX0_names_144 : decode cX0_names 144 = .ok (.aload_n 1, 1) := dk_43 (dk_at dksX0_names_6 7 rfl rfl)
theorem dX0_names_145 : decode cX0_names 145 = .ok (.getfield 154, 3) := dk_180 0 154 (dk_at dksX0_names_6 8 rfl rfl)
theorem dX0_names_148 : decode cX0_names 148 = .ok (.aload 4, 2) := dk_25 4 (dk_at dksX0_names_6 11 rfl rfl)
theorem dX0_names_150 : decode cX0_names 150 = .ok (.invokevirtual 172, 3) := dk_182 0 172 (dk_at dksX0_names_6 13 rfl rfl)
theorem dX0_names_153 : decode cX0_names 153 = .ok (.checkcast 176, 3) := dk_192 0 176 (dk_at dksX0_names_6 16 rfl rfl)
theorem dX0_names_156 : decode cX0_names 156 = .ok (.invokevirtual 178, 3) := dk_182 0 178 (dk_at dksX0_names_6 19 rfl rfl)
theorem dX0_names_159 : decode cX0_names 159 = .ok (.invokespecial 181, 3) := dk_183 0 181 (dk_at dksX0_names_7 0 rfl rfl)
theorem dX0_names_162 : decode cX0_names 162 = .ok (.invokevirtual 184, 3) := dk_182 0 184 (dk_at dksX0_names_7 3 rfl rfl)
theorem dX0_names_165 : decode cX0_names 165 = .ok (.pop, 1) := dk_87 (dk_at dksX0_names_7 6 rfl rfl)
theorem dX0_names_166 : decode cX0_names 166 = .ok (.goto (-53), 3) := dk_167 255 203 (dk_at dksX0_names_7 7 rfl rfl)
theorem dX0_names_169 : decode cX0_names 169 = .ok (.aload_n 0, 1) := dk_42 (dk_at dksX0_names_7 10 rfl rfl)
theorem dX0_names_170 : decode cX0_names 170 = .ok (.getfield 18, 3) := dk_180 0 18 (dk_at dksX0_names_7 11 rfl rfl)
theorem dX0_names_173 : decode cX0_names 173 = .ok (.invokestatic 187, 3) := dk_184 0 187 (dk_at dksX0_names_7 14 rfl rfl)
theorem dX0_names_176 : decode cX0_names 176 = .ok (.aload_n 0, 1) := dk_42 (dk_at dksX0_names_7 17 rfl rfl)
theorem dX0_names_177 : decode cX0_names 177 = .ok (.aconst_null, 1) := dk_1 (dk_at dksX0_names_7 18 rfl rfl)
theorem dX0_names_178 : decode cX0_names 178 = .ok (.putfield 193, 3) := dk_181 0 193 (dk_at dksX0_names_7 19 rfl rfl)
theorem dX0_names_181 : decode cX0_names 181 = .ok (.aload_n 0, 1) := dk_42 (dk_at dksX0_names_7 22 rfl rfl)
theorem dX0_names_182 : decode cX0_names 182 = .ok (.dup, 1) := dk_89 (dk_at dksX0_names_7 23 rfl rfl)
theorem dX0_names_183 : decode cX0_names 183 = .ok (.getfield 197, 3) := dk_180 0 197 (dk_at dksX0_names_8 0 rfl rfl)
theorem dX0_names_186 : decode cX0_names 186 = .ok (.iconst 1, 1) := dk_4 (dk_at dksX0_names_8 3 rfl rfl)
theorem dX0_names_187 : decode cX0_names 187 = .ok (.iadd, 1) := dk_96 (dk_at dksX0_names_8 4 rfl rfl)
theorem dX0_names_188 : decode cX0_names 188 = .ok (.putfield 197, 3) := dk_181 0 197 (dk_at dksX0_names_8 5 rfl rfl)
theorem dX0_names_191 : decode cX0_names 191 = .ok (.aload_n 0, 1) := dk_42 (dk_at dksX0_names_8 8 rfl rfl)
theorem dX0_names_192 : decode cX0_names 192 = .ok (.getfield 51, 3) := dk_180 0 51 (dk_at dksX0_names_8 9 rfl rfl)
theorem dX0_names_195 : decode cX0_names 195 = .ok (.iconst 0, 1) := dk_3 (dk_at dksX0_names_8 12 rfl rfl)
theorem dX0_names_196 : decode cX0_names 196 = .ok (.invokevirtual 123, 3) := dk_182 0 123 (dk_at dksX0_names_8 13 rfl rfl)
theorem dX0_names_199 : decode cX0_names 199 = .ok (.aload_n 1, 1) := dk_43 (dk_at dksX0_names_8 16 rfl rfl)
theorem dX0_names_200 : decode cX0_names 200 = .ok (.getfield 154, 3) := dk_180 0 154 (dk_at dksX0_names_8 17 rfl rfl)
theorem dX0_names_203 : decode cX0_names 203 = .ok (.invokevirtual 171, 3) := dk_182 0 171 (dk_at dksX0_names_8 20 rfl rfl)
theorem dX0_names_206 : decode cX0_names 206 = .ok (.ireturn, 1) := dk_172 (dk_at dksX0_names_8 23 rfl rfl)
abbrev cX0_isThere : ByteArray := prog_1_method_7_code
def yX0_isThere : MethodName := ⟨RX0, "isThere", "(Ljava/lang/String;)Z"⟩
def dkwX0_isThere_2 : List UInt8 := [167, 255, 224, 28, 172]
abbrev dktX0_isThere_2 : List UInt8 := dkwX0_isThere_2 ++ []
def dkwX0_isThere_1 : List UInt8 := [185, 0, 97, 1, 0, 192, 0, 140, 58, 4, 28, 25, 4, 180, 0, 142, 43, 182, 0, 146, 128, 61]
abbrev dktX0_isThere_1 : List UInt8 := dkwX0_isThere_1 ++ dktX0_isThere_2
def dkwX0_isThere_0 : List UInt8 := [3, 61, 42, 180, 0, 18, 182, 0, 139, 78, 45, 185, 0, 91, 1, 0, 153, 0, 29, 45]
abbrev dktX0_isThere_0 : List UInt8 := dkwX0_isThere_0 ++ dktX0_isThere_1
theorem dksX0_isThere_0 : cX0_isThere.data.toList.drop 0 = dktX0_isThere_0 := by decide +kernel
theorem dksX0_isThere_1 : cX0_isThere.data.toList.drop 20 = dktX0_isThere_1 := dk_seg dksX0_isThere_0 20 rfl rfl
theorem dksX0_isThere_2 : cX0_isThere.data.toList.drop 42 = dktX0_isThere_2 := dk_seg dksX0_isThere_1 22 rfl rfl
theorem dX0_isThere_0 : decode cX0_isThere 0 = .ok (.iconst 0, 1) := dk_3 (dk_at dksX0_isThere_0 0 rfl rfl)
theorem dX0_isThere_1 : decode cX0_isThere 1 = .ok (.istore_n 2, 1) := dk_61 (dk_at dksX0_isThere_0 1 rfl rfl)
theorem dX0_isThere_2 : decode cX0_isThere 2 = .ok (.aload_n 0, 1) := dk_42 (dk_at dksX0_isThere_0 2 rfl rfl)
theorem dX0_isThere_3 : decode cX0_isThere 3 = .ok (.getfield 18, 3) := dk_180 0 18 (dk_at dksX0_isThere_0 3 rfl rfl)
theorem dX0_isThere_6 : decode cX0_isThere 6 = .ok (.invokevirtual 139, 3) := dk_182 0 139 (dk_at dksX0_isThere_0 6 rfl rfl)
theorem dX0_isThere_9 : decode cX0_isThere 9 = .ok (.astore_n 3, 1) := dk_78 (dk_at dksX0_isThere_0 9 rfl rfl)
theorem dX0_isThere_10 : decode cX0_isThere 10 = .ok (.aload_n 3, 1) := dk_45 (dk_at dksX0_isThere_0 10 rfl rfl)
theorem dX0_isThere_11 : decode cX0_isThere 11 = .ok (.invokeinterface 91 1, 5) := by decide +kernel
theorem dX0_isThere_16 : decode cX0_isThere 16 = .ok (.ifCond .eq 29, 3) := dk_153 0 29 (dk_at dksX0_isThere_0 16 rfl rfl)
theorem dX0_isThere_19 : decode cX0_isThere 19 = .ok (.aload_n 3, 1) := dk_45 (dk_at dksX0_isThere_0 19 rfl rfl)
theorem dX0_isThere_20 : decode cX0_isThere 20 = .ok (.invokeinterface 97 1, 5) := by decide +kernel
theorem dX0_isThere_25 : decode cX0_isThere 25 = .ok (.checkcast 140, 3) := dk_192 0 140 (dk_at dksX0_isThere_1 5 rfl rfl)
theorem dX0_isThere_28 : decode cX0_isThere 28 = .ok (.astore 4, 2) := dk_58 4 (dk_at dksX0_isThere_1 8 rfl rfl)
theorem dX0_isThere_30 : decode cX0_isThere 30 = .ok (.iload_n 2, 1) := dk_28 (dk_at dksX0_isThere_1 10 rfl rfl)
theorem dX0_isThere_31 : decode cX0_isThere 31 = .ok (.aload 4, 2) := dk_25 4 (dk_at dksX0_isThere_1 11 rfl rfl)
theorem dX0_isThere_33 : decode cX0_isThere 33 = .ok (.getfield 142, 3) := dk_180 0 142 (dk_at dksX0_isThere_1 13 rfl rfl)
theorem dX0_isThere_36 : decode cX0_isThere 36 = .ok (.aload_n 1, 1) := dk_43 (dk_at dksX0_isThere_1 16 rfl rfl)
theorem dX0_isThere_37 : decode cX0_isThere 37 = .ok (.invokevirtual 146, 3) := dk_182 0 146 (dk_at dksX0_isThere_1 17 rfl rfl)
theorem dX0_isThere_40 : decode cX0_isThere 40 = .ok (.ior, 1) := dk_128 (dk_at dksX0_isThere_1 20 rfl rfl)
theorem dX0_isThere_41 : decode cX0_isThere 41 = .ok (.istore_n 2, 1) := dk_61 (dk_at dksX0_isThere_1 21 rfl rfl)
theorem dX0_isThere_42 : decode cX0_isThere 42 = .ok (.goto (-32), 3) := dk_167 255 224 (dk_at dksX0_isThere_2 0 rfl rfl)
theorem dX0_isThere_45 : decode cX0_isThere 45 = .ok (.iload_n 2, 1) := dk_28 (dk_at dksX0_isThere_2 3 rfl rfl)
theorem dX0_isThere_46 : decode cX0_isThere 46 = .ok (.ireturn, 1) := dk_172 (dk_at dksX0_isThere_2 4 rfl rfl)
abbrev cX0_dial : ByteArray := prog_1_method_10_code
def yX0_dial : MethodName := ⟨RX0, "dial", "()I"⟩
def dkwX0_dial_4 : List UInt8 := [182, 0, 123, 28, 172]
abbrev dktX0_dial_4 : List UInt8 := dkwX0_dial_4 ++ []
def dkwX0_dial_3 : List UInt8 := [167, 255, 235, 132, 4, 1, 167, 255, 207, 42, 89, 180, 0, 224, 4, 96, 181, 0, 224, 42, 180, 0, 51, 3]
abbrev dktX0_dial_3 : List UInt8 := dkwX0_dial_3 ++ dktX0_dial_4
def dkwX0_dial_2 : List UInt8 := [54, 6, 21, 6, 21, 5, 162, 0, 20, 42, 180, 0, 9, 29, 21, 4, 79, 132, 3, 1, 132, 6, 1]
abbrev dktX0_dial_2 : List UInt8 := dkwX0_dial_2 ++ dktX0_dial_3
def dkwX0_dial_1 : List UInt8 := [62, 5, 54, 4, 21, 4, 16, 9, 163, 0, 48, 43, 182, 0, 221, 192, 0, 176, 182, 0, 178, 54, 5, 3]
abbrev dktX0_dial_1 : List UInt8 := dkwX0_dial_1 ++ dktX0_dial_2
def dkwX0_dial_0 : List UInt8 := [42, 182, 0, 213, 76, 43, 199, 0, 6, 16, 153, 172, 43, 184, 0, 217, 192, 0, 176, 182, 0, 178, 61, 3]
abbrev dktX0_dial_0 : List UInt8 := dkwX0_dial_0 ++ dktX0_dial_1
theorem dksX0_dial_0 : cX0_dial.data.toList.drop 0 = dktX0_dial_0 := by decide +kernel
theorem dksX0_dial_1 : cX0_dial.data.toList.drop 24 = dktX0_dial_1 := dk_seg dksX0_dial_0 24 rfl rfl
theorem dksX0_dial_2 : cX0_dial.data.toList.drop 48 = dktX0_dial_2 := dk_seg dksX0_dial_1 24 rfl rfl
theorem dksX0_dial_3 : cX0_dial.data.toList.drop 71 = dktX0_dial_3 := dk_seg dksX0_dial_2 23 rfl rfl
theorem dksX0_dial_4 : cX0_dial.data.toList.drop 95 = dktX0_dial_4 := dk_seg dksX0_dial_3 24 rfl rfl
theorem dX0_dial_0 : decode cX0_dial 0 = .ok (.aload_n 0, 1) := dk_42 (dk_at dksX0_dial_0 0 rfl rfl)
theorem dX0_dial_1 : decode cX0_dial 1 = .ok (.invokevirtual 213, 3) := dk_182 0 213 (dk_at dksX0_dial_0 1 rfl rfl)
theorem dX0_dial_4 : decode cX0_dial 4 = .ok (.astore_n 1, 1) := dk_76 (dk_at dksX0_dial_0 4 rfl rfl)
theorem dX0_dial_5 : decode cX0_dial 5 = .ok (.aload_n 1, 1) := dk_43 (dk_at dksX0_dial_0 5 rfl rfl)
theorem dX0_dial_6 : decode cX0_dial 6 = .ok (.ifnonnull 6, 3) := dk_199 0 6 (dk_at dksX0_dial_0 6 rfl rfl)
theorem dX0_dial_9 : decode cX0_dial 9 = .ok (.bipush (-103), 2) := dk_16 153 (dk_at dksX0_dial_0 9 rfl rfl)
theorem dX0_dial_11 : decode cX0_dial 11 = .ok (.ireturn, 1) := dk_172 (dk_at dksX0_dial_0 11 rfl rfl)
theorem dX0_dial_12 : decode cX0_dial 12 = .ok (.aload_n 1, 1) := dk_43 (dk_at dksX0_dial_0 12 rfl rfl)
theorem dX0_dial_13 : decode cX0_dial 13 = .ok (.invokestatic 217, 3) := dk_184 0 217 (dk_at dksX0_dial_0 13 rfl rfl)
theorem dX0_dial_16 : decode cX0_dial 16 = .ok (.checkcast 176, 3) := dk_192 0 176 (dk_at dksX0_dial_0 16 rfl rfl)
theorem dX0_dial_19 : decode cX0_dial 19 = .ok (.invokevirtual 178, 3) := dk_182 0 178 (dk_at dksX0_dial_0 19 rfl rfl)
theorem dX0_dial_22 : decode cX0_dial 22 = .ok (.istore_n 2, 1) := dk_61 (dk_at dksX0_dial_0 22 rfl rfl)
theorem dX0_dial_23 : decode cX0_dial 23 = .ok (.iconst 0, 1) := dk_3 (dk_at dksX0_dial_0 23 rfl rfl)
theorem dX0_dial_24 : decode cX0_dial 24 = .ok (.istore_n 3, 1) := dk_62 (dk_at dksX0_dial_1 0 rfl rfl)
theorem dX0_dial_25 : decode cX0_dial 25 = .ok (.iconst 2, 1) := dk_5 (dk_at dksX0_dial_1 1 rfl rfl)
theorem dX0_dial_26 : decode cX0_dial 26 = .ok (.istore 4, 2) := dk_54 4 (dk_at dksX0_dial_1 2 rfl rfl)
theorem dX0_dial_28 : decode cX0_dial 28 = .ok (.iload 4, 2) := dk_21 4 (dk_at dksX0_dial_1 4 rfl rfl)
theorem dX0_dial_30 : decode cX0_dial 30 = .ok (.bipush 9, 2) := dk_16 9 (dk_at dksX0_dial_1 6 rfl rfl)
theorem dX0_dial_32 : decode cX0_dial 32 = .ok (.if_icmp .gt 48, 3) := dk_163 0 48 (dk_at dksX0_dial_1 8 rfl rfl)
theorem dX0_dial_35 : decode cX0_dial 35 = .ok (.aload_n 1, 1) := dk_43 (dk_at dksX0_dial_1 11 rfl rfl)
theorem dX0_dial_36 : decode cX0_dial 36 = .ok (.invokevirtual 221, 3) := dk_182 0 221 (dk_at dksX0_dial_1 12 rfl rfl)
theorem dX0_dial_39 : decode cX0_dial 39 = .ok (.checkcast 176, 3) := dk_192 0 176 (dk_at dksX0_dial_1 15 rfl rfl)
theorem dX0_dial_42 : decode cX0_dial 42 = .ok (.invokevirtual 178, 3) := dk_182 0 178 (dk_at dksX0_dial_1 18 rfl rfl)
theorem dX0_dial_45 : decode cX0_dial 45 = .ok (.istore 5, 2) := dk_54 5 (dk_at dksX0_dial_1 21 rfl rfl)
theorem dX0_dial_47 : decode cX0_dial 47 = .ok (.iconst 0, 1) := dk_3 (dk_at dksX0_dial_1 23 rfl rfl)
theorem dX0_dial_48 : decode cX0_dial 48 = .ok (.istore 6, 2) := dk_54 6 (dk_at dksX0_dial_2 0 rfl rfl)
theorem dX0_dial_50 : decode cX0_dial 50 = .ok (.iload 6, 2) := dk_21 6 (dk_at dksX0_dial_2 2 rfl rfl)
theorem dX0_dial_52 : decode cX0_dial 52 = .ok (.iload 5, 2) := dk_21 5 (dk_at dksX0_dial_2 4 rfl rfl)
theorem dX0_dial_54 : decode cX0_dial 54 = .ok (.if_icmp .ge 20, 3) := dk_162 0 20 (dk_at dksX0_dial_2 6 rfl rfl)
theorem dX0_dial_57 : decode cX0_dial 57 = .ok (.aload_n 0, 1) := dk_42 (dk_at dksX0_dial_2 9 rfl rfl)
theorem dX0_dial_58 : decode cX0_dial 58 = .ok (.getfield 9, 3) := dk_180 0 9 (dk_at dksX0_dial_2 10 rfl rfl)
theorem dX0_dial_61 : decode cX0_dial 61 = .ok (.iload_n 3, 1) := dk_29 (dk_at dksX0_dial_2 13 rfl rfl)
theorem dX0_dial_62 : decode cX0_dial 62 = .ok (.iload 4, 2) := dk_21 4 (dk_at dksX0_dial_2 14 rfl rfl)
theorem dX0_dial_64 : decode cX0_dial 64 = .ok (.iastore, 1) := dk_79 (dk_at dksX0_dial_2 16 rfl rfl)
theorem dX0_dial_65 : decode cX0_dial 65 = .ok (.iinc 3 1, 3) := dk_132 3 1 (dk_at dksX0_dial_2 17 rfl rfl)
theorem dX0_dial_68 : decode cX0_dial 68 = .ok (.iinc 6 1, 3) := dk_132 6 1 (dk_at dksX0_dial_2 20 rfl rfl)
theorem dX0_dial_71 : decode cX0_dial 71 = .ok (.goto (-21), 3) := dk_167 255 235 (dk_at dksX0_dial_3 0 rfl rfl)
theorem dX0_dial_74 : decode cX0_dial 74 = .ok (.iinc 4 1, 3) := dk_132 4 1 (dk_at dksX0_dial_3 3 rfl rfl)
theorem dX0_dial_77 : decode cX0_dial 77 = .ok (.goto (-49), 3) := dk_167 255 207 (dk_at dksX0_dial_3 6 rfl rfl)
theorem dX0_dial_80 : decode cX0_dial 80 = .ok (.aload_n 0, 1) := dk_42 (dk_at dksX0_dial_3 9 rfl rfl)
theorem dX0_dial_81 : decode cX0_dial 81 = .ok (.dup, 1) := dk_89 (dk_at dksX0_dial_3 10 rfl rfl)
theorem dX0_dial_82 : decode cX0_dial 82 = .ok (.getfield 224, 3) := dk_180 0 224 (dk_at dksX0_dial_3 11 rfl rfl)
theorem dX0_dial_85 : decode cX0_dial 85 = .ok (.iconst 1, 1) := dk_4 (dk_at dksX0_dial_3 14 rfl rfl)
theorem dX0_dial_86 : decode cX0_dial 86 = .ok (.iadd, 1) := dk_96 (dk_at dksX0_dial_3 15 rfl rfl)
theorem dX0_dial_87 : decode cX0_dial 87 = .ok (.putfield 224, 3) := dk_181 0 224 (dk_at dksX0_dial_3 16 rfl rfl)
theorem dX0_dial_90 : decode cX0_dial 90 = .ok (.aload_n 0, 1) := dk_42 (dk_at dksX0_dial_3 19 rfl rfl)
theorem dX0_dial_91 : decode cX0_dial 91 = .ok (.getfield 51, 3) := dk_180 0 51 (dk_at dksX0_dial_3 20 rfl rfl)
theorem dX0_dial_94 : decode cX0_dial 94 = .ok (.iconst 0, 1) := dk_3 (dk_at dksX0_dial_3 23 rfl rfl)
theorem dX0_dial_95 : decode cX0_dial 95 = .ok (.invokevirtual 123, 3) := dk_182 0 123 (dk_at dksX0_dial_4 0 rfl rfl)
theorem dX0_dial_98 : decode cX0_dial 98 = .ok (.iload_n 2, 1) := dk_28 (dk_at dksX0_dial_4 3 rfl rfl)
theorem dX0_dial_99 : decode cX0_dial 99 = .ok (.ireturn, 1) := dk_172 (dk_at dksX0_dial_4 4 rfl rfl)
abbrev cX0_groups : ByteArray := prog_1_method_9_code
def yX0_groups : MethodName := ⟨RX0, "groups", "()Ljava/util/ArrayDeque;"⟩
def dkwX0_groups_6 : List UInt8 := [43, 167, 0, 4, 1, 176]
abbrev dktX0_groups_6 : List UInt8 := dkwX0_groups_6 ++ []
def dkwX0_groups_5 : List UInt8 := [21, 4, 153, 0, 26, 28, 16, 26, 160, 0, 20, 29, 158, 0, 16, 43, 182, 0, 212, 16, 8, 160, 0, 7]
abbrev dktX0_groups_5 : List UInt8 := dkwX0_groups_5 ++ dktX0_groups_6
def dkwX0_groups_4 : List UInt8 := [3, 54, 4, 132, 2, 1, 132, 3, 1, 132, 5, 1, 167, 255, 166, 43, 29, 184, 0, 204, 182, 0, 208]
abbrev dktX0_groups_4 : List UInt8 := dkwX0_groups_4 ++ dktX0_groups_5
def dkwX0_groups_3 : List UInt8 := [3, 62, 167, 0, 31, 28, 16, 26, 162, 0, 16, 21, 6, 16, 97, 28, 96, 160, 0, 7, 4, 167, 0, 4]
abbrev dktX0_groups_3 : List UInt8 := dkwX0_groups_3 ++ dktX0_groups_4
def dkwX0_groups_2 : List UInt8 := [16, 44, 160, 0, 27, 29, 158, 0, 7, 4, 167, 0, 4, 3, 54, 4, 43, 29, 184, 0, 204, 182, 0, 208]
abbrev dktX0_groups_2 : List UInt8 := dkwX0_groups_2 ++ dktX0_groups_3
def dkwX0_groups_1 : List UInt8 := [182, 0, 118, 162, 0, 84, 21, 4, 153, 0, 79, 42, 180, 0, 51, 21, 5, 182, 0, 203, 54, 6, 21, 6]
abbrev dktX0_groups_1 : List UInt8 := dkwX0_groups_1 ++ dktX0_groups_2
def dkwX0_groups_0 : List UInt8 := [187, 0, 200, 89, 183, 0, 202, 76, 3, 61, 3, 62, 4, 54, 4, 3, 54, 5, 21, 5, 42, 180, 0, 51]
abbrev dktX0_groups_0 : List UInt8 := dkwX0_groups_0 ++ dktX0_groups_1
theorem dksX0_groups_0 : cX0_groups.data.toList.drop 0 = dktX0_groups_0 := by decide +kernel
theorem dksX0_groups_1 : cX0_groups.data.toList.drop 24 = dktX0_groups_1 := dk_seg dksX0_groups_0 24 rfl rfl
theorem dksX0_groups_2 : cX0_groups.data.toList.drop 48 = dktX0_groups_2 := dk_seg dksX0_groups_1 24 rfl rfl
theorem dksX0_groups_3 : cX0_groups.data.toList.drop 72 = dktX0_groups_3 := dk_seg dksX0_groups_2 24 rfl rfl
theorem dksX0_groups_4 : cX0_groups.data.toList.drop 96 = dktX0_groups_4 := dk_seg dksX0_groups_3 24 rfl rfl
theorem dksX0_groups_5 : cX0_groups.data.toList.drop 119 = dktX0_groups_5 := dk_seg dksX0_groups_4 23 rfl rfl
theorem dksX0_groups_6 : cX0_groups.data.toList.drop 143 = dktX0_groups_6 := dk_seg dksX0_groups_5 24 rfl rfl
theorem dX0_groups_0 : decode cX0_groups 0 = .ok (.new 200, 3) := dk_187 0 200 (dk_at dksX0_groups_0 0 rfl rfl)
theorem dX0_groups_3 : decode cX0_groups 3 = .ok (.dup, 1) := dk_89 (dk_at dksX0_groups_0 3 rfl rfl)
theorem dX0_groups_4 : decode cX0_groups 4 = .ok (.invokespecial 202, 3) := dk_183 0 202 (dk_at dksX0_groups_0 4 rfl rfl)
theorem dX0_groups_7 : decode cX0_groups 7 = .ok (.astore_n 1, 1) := dk_76 (dk_at dksX0_groups_0 7 rfl rfl)
theorem dX0_groups_8 : decode cX0_groups 8 = .ok (.iconst 0, 1) := dk_3 (dk_at dksX0_groups_0 8 rfl rfl)
theorem dX0_groups_9 : decode cX0_groups 9 = .ok (.istore_n 2, 1) := dk_61 (dk_at dksX0_groups_0 9 rfl rfl)
theorem dX0_groups_10 : decode cX0_groups 10 = .ok (.iconst 0, 1) := dk_3 (dk_at dksX0_groups_0 10 rfl rfl)
theorem dX0_groups_11 : decode cX0_groups 11 = .ok (.istore_n 3, 1) := dk_62 (dk_at dksX0_groups_0 11 rfl rfl)
theorem dX0_groups_12 : decode cX0_groups 12 = .ok (.iconst 1, 1) := dk_4 (dk_at dksX0_groups_0 12 rfl rfl)
theorem dX0_groups_13 : decode cX0_groups 13 = .ok (.istore 4, 2) := dk_54 4 (dk_at dksX0_groups_0 13 rfl rfl)
theorem dX0_groups_15 : decode cX0_groups 15 = .ok (.iconst 0, 1) := dk_3 (dk_at dksX0_groups_0 15 rfl rfl)
theorem dX0_groups_16 : decode cX0_groups 16 = .ok (.istore 5, 2) := dk_54 5 (dk_at dksX0_groups_0 16 rfl rfl)
theorem dX0_groups_18 : decode cX0_groups 18 = .ok (.iload 5, 2) := dk_21 5 (dk_at dksX0_groups_0 18 rfl rfl)
theorem dX0_groups_20 : decode cX0_groups 20 = .ok (.aload_n 0, 1) := dk_42 (dk_at dksX0_groups_0 20 rfl rfl)
theorem dX0_groups_21 : decode cX0_groups 21 = .ok (.getfield 51, 3) := dk_180 0 51 (dk_at dksX0_groups_0 21 rfl rfl)
theorem dX0_groups_24 : decode cX0_groups 24 = .ok (.invokevirtual 118, 3) := dk_182 0 118 (dk_at dksX0_groups_1 0 rfl rfl)
theorem dX0_groups_27 : decode cX0_groups 27 = .ok (.if_icmp .ge 84, 3) := dk_162 0 84 (dk_at dksX0_groups_1 3 rfl rfl)
theorem dX0_groups_30 : decode cX0_groups 30 = .ok (.iload 4, 2) := dk_21 4 (dk_at dksX0_groups_1 6 rfl rfl)
theorem dX0_groups_32 : decode cX0_groups 32 = .ok (.ifCond .eq 79, 3) := dk_153 0 79 (dk_at dksX0_groups_1 8 rfl rfl)
theorem dX0_groups_35 : decode cX0_groups 35 = .ok (.aload_n 0, 1) := dk_42 (dk_at dksX0_groups_1 11 rfl rfl)
theorem dX0_groups_36 : decode cX0_groups 36 = .ok (.getfield 51, 3) := dk_180 0 51 (dk_at dksX0_groups_1 12 rfl rfl)
theorem dX0_groups_39 : decode cX0_groups 39 = .ok (.iload 5, 2) := dk_21 5 (dk_at dksX0_groups_1 15 rfl rfl)
theorem dX0_groups_41 : decode cX0_groups 41 = .ok (.invokevirtual 203, 3) := dk_182 0 203 (dk_at dksX0_groups_1 17 rfl rfl)
theorem dX0_groups_44 : decode cX0_groups 44 = .ok (.istore 6, 2) := dk_54 6 (dk_at dksX0_groups_1 20 rfl rfl)
theorem dX0_groups_46 : decode cX0_groups 46 = .ok (.iload 6, 2) := dk_21 6 (dk_at dksX0_groups_1 22 rfl rfl)
theorem dX0_groups_48 : decode cX0_groups 48 = .ok (.bipush 44, 2) := dk_16 44 (dk_at dksX0_groups_2 0 rfl rfl)
theorem dX0_groups_50 : decode cX0_groups 50 = .ok (.if_icmp .ne 27, 3) := dk_160 0 27 (dk_at dksX0_groups_2 2 rfl rfl)
theorem dX0_groups_53 : decode cX0_groups 53 = .ok (.iload_n 3, 1) := dk_29 (dk_at dksX0_groups_2 5 rfl rfl)
theorem dX0_groups_54 : decode cX0_groups 54 = .ok (.ifCond .le 7, 3) := dk_158 0 7 (dk_at dksX0_groups_2 6 rfl rfl)
theorem dX0_groups_57 : decode cX0_groups 57 = .ok (.iconst 1, 1) := dk_4 (dk_at dksX0_groups_2 9 rfl rfl)
theorem dX0_groups_58 : decode cX0_groups 58 = .ok (.goto 4, 3) := dk_167 0 4 (dk_at dksX0_groups_2 10 rfl rfl)
theorem dX0_groups_61 : decode cX0_groups 61 = .ok (.iconst 0, 1) := dk_3 (dk_at dksX0_groups_2 13 rfl rfl)
theorem dX0_groups_62 : decode cX0_groups 62 = .ok (.istore 4, 2) := dk_54 4 (dk_at dksX0_groups_2 14 rfl rfl)
theorem dX0_groups_64 : decode cX0_groups 64 = .ok (.aload_n 1, 1) := dk_43 (dk_at dksX0_groups_2 16 rfl rfl)
theorem dX0_groups_65 : decode cX0_groups 65 = .ok (.iload_n 3, 1) := dk_29 (dk_at dksX0_groups_2 17 rfl rfl)
theorem dX0_groups_66 : decode cX0_groups 66 = .ok (.invokestatic 204, 3) := dk_184 0 204 (dk_at dksX0_groups_2 18 rfl rfl)
theorem dX0_groups_69 : decode cX0_groups 69 = .ok (.invokevirtual 208, 3) := dk_182 0 208 (dk_at dksX0_groups_2 21 rfl rfl)
theorem dX0_groups_72 : decode cX0_groups 72 = .ok (.iconst 0, 1) := dk_3 (dk_at dksX0_groups_3 0 rfl rfl)
theorem dX0_groups_73 : decode cX0_groups 73 = .ok (.istore_n 3, 1) := dk_62 (dk_at dksX0_groups_3 1 rfl rfl)
theorem dX0_groups_74 : decode cX0_groups 74 = .ok (.goto 31, 3) := dk_167 0 31 (dk_at dksX0_groups_3 2 rfl rfl)
theorem dX0_groups_77 : decode cX0_groups 77 = .ok (.iload_n 2, 1) := dk_28 (dk_at dksX0_groups_3 5 rfl rfl)
theorem dX0_groups_78 : decode cX0_groups 78 = .ok (.bipush 26, 2) := dk_16 26 (dk_at dksX0_groups_3 6 rfl rfl)
theorem dX0_groups_80 : decode cX0_groups 80 = .ok (.if_icmp .ge 16, 3) := dk_162 0 16 (dk_at dksX0_groups_3 8 rfl rfl)
theorem dX0_groups_83 : decode cX0_groups 83 = .ok (.iload 6, 2) := dk_21 6 (dk_at dksX0_groups_3 11 rfl rfl)
theorem dX0_groups_85 : decode cX0_groups 85 = .ok (.bipush 97, 2) := dk_16 97 (dk_at dksX0_groups_3 13 rfl rfl)
theorem dX0_groups_87 : decode cX0_groups 87 = .ok (.iload_n 2, 1) := dk_28 (dk_at dksX0_groups_3 15 rfl rfl)
theorem dX0_groups_88 : decode cX0_groups 88 = .ok (.iadd, 1) := dk_96 (dk_at dksX0_groups_3 16 rfl rfl)
theorem dX0_groups_89 : decode cX0_groups 89 = .ok (.if_icmp .ne 7, 3) := dk_160 0 7 (dk_at dksX0_groups_3 17 rfl rfl)
theorem dX0_groups_92 : decode cX0_groups 92 = .ok (.iconst 1, 1) := dk_4 (dk_at dksX0_groups_3 20 rfl rfl)
theorem dX0_groups_93 : decode cX0_groups 93 = .ok (.goto 4, 3) := dk_167 0 4 (dk_at dksX0_groups_3 21 rfl rfl)
theorem dX0_groups_96 : decode cX0_groups 96 = .ok (.iconst 0, 1) := dk_3 (dk_at dksX0_groups_4 0 rfl rfl)
theorem dX0_groups_97 : decode cX0_groups 97 = .ok (.istore 4, 2) := dk_54 4 (dk_at dksX0_groups_4 1 rfl rfl)
theorem dX0_groups_99 : decode cX0_groups 99 = .ok (.iinc 2 1, 3) := dk_132 2 1 (dk_at dksX0_groups_4 3 rfl rfl)
theorem dX0_groups_102 : decode cX0_groups 102 = .ok (.iinc 3 1, 3) := dk_132 3 1 (dk_at dksX0_groups_4 6 rfl rfl)
theorem dX0_groups_105 : decode cX0_groups 105 = .ok (.iinc 5 1, 3) := dk_132 5 1 (dk_at dksX0_groups_4 9 rfl rfl)
theorem dX0_groups_108 : decode cX0_groups 108 = .ok (.goto (-90), 3) := dk_167 255 166 (dk_at dksX0_groups_4 12 rfl rfl)
theorem dX0_groups_111 : decode cX0_groups 111 = .ok (.aload_n 1, 1) := dk_43 (dk_at dksX0_groups_4 15 rfl rfl)
theorem dX0_groups_112 : decode cX0_groups 112 = .ok (.iload_n 3, 1) := dk_29 (dk_at dksX0_groups_4 16 rfl rfl)
theorem dX0_groups_113 : decode cX0_groups 113 = .ok (.invokestatic 204, 3) := dk_184 0 204 (dk_at dksX0_groups_4 17 rfl rfl)
theorem dX0_groups_116 : decode cX0_groups 116 = .ok (.invokevirtual 208, 3) := dk_182 0 208 (dk_at dksX0_groups_4 20 rfl rfl)
theorem dX0_groups_119 : decode cX0_groups 119 = .ok (.iload 4, 2) := dk_21 4 (dk_at dksX0_groups_5 0 rfl rfl)
theorem dX0_groups_121 : decode cX0_groups 121 = .ok (.ifCond .eq 26, 3) := dk_153 0 26 (dk_at dksX0_groups_5 2 rfl rfl)
theorem dX0_groups_124 : decode cX0_groups 124 = .ok (.iload_n 2, 1) := dk_28 (dk_at dksX0_groups_5 5 rfl rfl)
theorem dX0_groups_125 : decode cX0_groups 125 = .ok (.bipush 26, 2) := dk_16 26 (dk_at dksX0_groups_5 6 rfl rfl)
theorem dX0_groups_127 : decode cX0_groups 127 = .ok (.if_icmp .ne 20, 3) := dk_160 0 20 (dk_at dksX0_groups_5 8 rfl rfl)
theorem dX0_groups_130 : decode cX0_groups 130 = .ok (.iload_n 3, 1) := dk_29 (dk_at dksX0_groups_5 11 rfl rfl)
theorem dX0_groups_131 : decode cX0_groups 131 = .ok (.ifCond .le 16, 3) := dk_158 0 16 (dk_at dksX0_groups_5 12 rfl rfl)
theorem dX0_groups_134 : decode cX0_groups 134 = .ok (.aload_n 1, 1) := dk_43 (dk_at dksX0_groups_5 15 rfl rfl)
theorem dX0_groups_135 : decode cX0_groups 135 = .ok (.invokevirtual 212, 3) := dk_182 0 212 (dk_at dksX0_groups_5 16 rfl rfl)
theorem dX0_groups_138 : decode cX0_groups 138 = .ok (.bipush 8, 2) := dk_16 8 (dk_at dksX0_groups_5 19 rfl rfl)
theorem dX0_groups_140 : decode cX0_groups 140 = .ok (.if_icmp .ne 7, 3) := dk_160 0 7 (dk_at dksX0_groups_5 21 rfl rfl)
theorem dX0_groups_143 : decode cX0_groups 143 = .ok (.aload_n 1, 1) := dk_43 (dk_at dksX0_groups_6 0 rfl rfl)
theorem dX0_groups_144 : decode cX0_groups 144 = .ok (.goto 4, 3) := dk_167 0 4 (dk_at dksX0_groups_6 1 rfl rfl)
theorem dX0_groups_147 : decode cX0_groups 147 = .ok (.aconst_null, 1) := dk_1 (dk_at dksX0_groups_6 4 rfl rfl)
theorem dX0_groups_148 : decode cX0_groups 148 = .ok (.areturn, 1) := dk_176 (dk_at dksX0_groups_6 5 rfl rfl)
abbrev cX0_drop : ByteArray := prog_1_method_11_code
def yX0_drop : MethodName := ⟨RX0, "drop", "(I)I"⟩
def dkwX0_drop_2 : List UInt8 := [181, 0, 193, 42, 89, 180, 0, 234, 4, 96, 181, 0, 234, 42, 180, 0, 18, 182, 0, 111, 172]
abbrev dktX0_drop_2 : List UInt8 := dkwX0_drop_2 ++ []
def dkwX0_drop_1 : List UInt8 := [163, 0, 16, 44, 185, 0, 97, 1, 0, 87, 132, 3, 1, 167, 255, 241, 44, 185, 0, 231, 1, 0, 42, 1]
abbrev dktX0_drop_1 : List UInt8 := dkwX0_drop_1 ++ dktX0_drop_2
def dkwX0_drop_0 : List UInt8 := [42, 27, 182, 0, 227, 154, 0, 6, 16, 155, 172, 42, 180, 0, 18, 182, 0, 139, 77, 3, 62, 29, 27]
abbrev dktX0_drop_0 : List UInt8 := dkwX0_drop_0 ++ dktX0_drop_1
theorem dksX0_drop_0 : cX0_drop.data.toList.drop 0 = dktX0_drop_0 := by decide +kernel
theorem dksX0_drop_1 : cX0_drop.data.toList.drop 23 = dktX0_drop_1 := dk_seg dksX0_drop_0 23 rfl rfl
theorem dksX0_drop_2 : cX0_drop.data.toList.drop 47 = dktX0_drop_2 := dk_seg dksX0_drop_1 24 rfl rfl
theorem dX0_drop_0 : decode cX0_drop 0 = .ok (.aload_n 0, 1) := dk_42 (dk_at dksX0_drop_0 0 rfl rfl)
theorem dX0_drop_1 : decode cX0_drop 1 = .ok (.iload_n 1, 1) := dk_27 (dk_at dksX0_drop_0 1 rfl rfl)
theorem dX0_drop_2 : decode cX0_drop 2 = .ok (.invokevirtual 227, 3) := dk_182 0 227 (dk_at dksX0_drop_0 2 rfl rfl)
theorem dX0_drop_5 : decode cX0_drop 5 = .ok (.ifCond .ne 6, 3) := dk_154 0 6 (dk_at dksX0_drop_0 5 rfl rfl)
theorem dX0_drop_8 : decode cX0_drop 8 = .ok (.bipush (-101), 2) := dk_16 155 (dk_at dksX0_drop_0 8 rfl rfl)
theorem dX0_drop_10 : decode cX0_drop 10 = .ok (.ireturn, 1) := dk_172 (dk_at dksX0_drop_0 10 rfl rfl)
theorem dX0_drop_11 : decode cX0_drop 11 = .ok (.aload_n 0, 1) := dk_42 (dk_at dksX0_drop_0 11 rfl rfl)
theorem dX0_drop_12 : decode cX0_drop 12 = .ok (.getfield 18, 3) := dk_180 0 18 (dk_at dksX0_drop_0 12 rfl rfl)
theorem dX0_drop_15 : decode cX0_drop 15 = .ok (.invokevirtual 139, 3) := dk_182 0 139 (dk_at dksX0_drop_0 15 rfl rfl)
theorem dX0_drop_18 : decode cX0_drop 18 = .ok (.astore_n 2, 1) := dk_77 (dk_at dksX0_drop_0 18 rfl rfl)
theorem dX0_drop_19 : decode cX0_drop 19 = .ok (.iconst 0, 1) := dk_3 (dk_at dksX0_drop_0 19 rfl rfl)
theorem dX0_drop_20 : decode cX0_drop 20 = .ok (.istore_n 3, 1) := dk_62 (dk_at dksX0_drop_0 20 rfl rfl)
theorem dX0_drop_21 : decode cX0_drop 21 = .ok (.iload_n 3, 1) := dk_29 (dk_at dksX0_drop_0 21 rfl rfl)
theorem dX0_drop_22 : decode cX0_drop 22 = .ok (.iload_n 1, 1) := dk_27 (dk_at dksX0_drop_0 22 rfl rfl)
theorem dX0_drop_23 : decode cX0_drop 23 = .ok (.if_icmp .gt 16, 3) := dk_163 0 16 (dk_at dksX0_drop_1 0 rfl rfl)
theorem dX0_drop_26 : decode cX0_drop 26 = .ok (.aload_n 2, 1) := dk_44 (dk_at dksX0_drop_1 3 rfl rfl)
theorem dX0_drop_27 : decode cX0_drop 27 = .ok (.invokeinterface 97 1, 5) := by decide +kernel
theorem dX0_drop_32 : decode cX0_drop 32 = .ok (.pop, 1) := dk_87 (dk_at dksX0_drop_1 9 rfl rfl)
theorem dX0_drop_33 : decode cX0_drop 33 = .ok (.iinc 3 1, 3) := dk_132 3 1 (dk_at dksX0_drop_1 10 rfl rfl)
theorem dX0_drop_36 : decode cX0_drop 36 = .ok (.goto (-15), 3) := dk_167 255 241 (dk_at dksX0_drop_1 13 rfl rfl)
theorem dX0_drop_39 : decode cX0_drop 39 = .ok (.aload_n 2, 1) := dk_44 (dk_at dksX0_drop_1 16 rfl rfl)
theorem dX0_drop_40 : decode cX0_drop 40 = .ok (.invokeinterface 231 1, 5) := by decide +kernel
theorem dX0_drop_45 : decode cX0_drop 45 = .ok (.aload_n 0, 1) := dk_42 (dk_at dksX0_drop_1 22 rfl rfl)
theorem dX0_drop_46 : decode cX0_drop 46 = .ok (.aconst_null, 1) := dk_1 (dk_at dksX0_drop_1 23 rfl rfl)
theorem dX0_drop_47 : decode cX0_drop 47 = .ok (.putfield 193, 3) := dk_181 0 193 (dk_at dksX0_drop_2 0 rfl rfl)
theorem dX0_drop_50 : decode cX0_drop 50 = .ok (.aload_n 0, 1) := dk_42 (dk_at dksX0_drop_2 3 rfl rfl)
theorem dX0_drop_51 : decode cX0_drop 51 = .ok (.dup, 1) := dk_89 (dk_at dksX0_drop_2 4 rfl rfl)
theorem dX0_drop_52 : decode cX0_drop 52 = .ok (.getfield 234, 3) := dk_180 0 234 (dk_at dksX0_drop_2 5 rfl rfl)
theorem dX0_drop_55 : decode cX0_drop 55 = .ok (.iconst 1, 1) := dk_4 (dk_at dksX0_drop_2 8 rfl rfl)
theorem dX0_drop_56 : decode cX0_drop 56 = .ok (.iadd, 1) := dk_96 (dk_at dksX0_drop_2 9 rfl rfl)
theorem dX0_drop_57 : decode cX0_drop 57 = .ok (.putfield 234, 3) := dk_181 0 234 (dk_at dksX0_drop_2 10 rfl rfl)
theorem dX0_drop_60 : decode cX0_drop 60 = .ok (.aload_n 0, 1) := dk_42 (dk_at dksX0_drop_2 13 rfl rfl)
theorem dX0_drop_61 : decode cX0_drop 61 = .ok (.getfield 18, 3) := dk_180 0 18 (dk_at dksX0_drop_2 14 rfl rfl)
theorem dX0_drop_64 : decode cX0_drop 64 = .ok (.invokevirtual 111, 3) := dk_182 0 111 (dk_at dksX0_drop_2 17 rfl rfl)
theorem dX0_drop_67 : decode cX0_drop 67 = .ok (.ireturn, 1) := dk_172 (dk_at dksX0_drop_2 20 rfl rfl)
abbrev cX0_isName : ByteArray := prog_1_method_3_code
def yX0_isName : MethodName := ⟨RX0, "isName", "(I)Z"⟩
def dkwX0_isName_0 : List UInt8 := [27, 3, 42, 180, 0, 18, 182, 0, 111, 4, 100, 184, 0, 114, 172]
abbrev dktX0_isName_0 : List UInt8 := dkwX0_isName_0 ++ []
theorem dksX0_isName_0 : cX0_isName.data.toList.drop 0 = dktX0_isName_0 := by decide +kernel
theorem dX0_isName_0 : decode cX0_isName 0 = .ok (.iload_n 1, 1) := dk_27 (dk_at dksX0_isName_0 0 rfl rfl)
theorem dX0_isName_1 : decode cX0_isName 1 = .ok (.iconst 0, 1) := dk_3 (dk_at dksX0_isName_0 1 rfl rfl)
theorem dX0_isName_2 : decode cX0_isName 2 = .ok (.aload_n 0, 1) := dk_42 (dk_at dksX0_isName_0 2 rfl rfl)
theorem dX0_isName_3 : decode cX0_isName 3 = .ok (.getfield 18, 3) := dk_180 0 18 (dk_at dksX0_isName_0 3 rfl rfl)
theorem dX0_isName_6 : decode cX0_isName 6 = .ok (.invokevirtual 111, 3) := dk_182 0 111 (dk_at dksX0_isName_0 6 rfl rfl)
theorem dX0_isName_9 : decode cX0_isName 9 = .ok (.iconst 1, 1) := dk_4 (dk_at dksX0_isName_0 9 rfl rfl)
theorem dX0_isName_10 : decode cX0_isName 10 = .ok (.isub, 1) := dk_100 (dk_at dksX0_isName_0 10 rfl rfl)
theorem dX0_isName_11 : decode cX0_isName 11 = .ok (.invokestatic 114, 3) := dk_184 0 114 (dk_at dksX0_isName_0 11 rfl rfl)
theorem dX0_isName_14 : decode cX0_isName 14 = .ok (.ireturn, 1) := dk_172 (dk_at dksX0_isName_0 14 rfl rfl)
abbrev cX0_use : ByteArray := prog_1_method_12_code
def yX0_use : MethodName := ⟨RX0, "use", "(II)I"⟩
def dkwX0_use_2 : List UInt8 := [192, 0, 140, 28, 181, 0, 240, 29, 172]
abbrev dktX0_use_2 : List UInt8 := dkwX0_use_2 ++ []
def dkwX0_use_1 : List UInt8 := [42, 180, 0, 18, 27, 182, 0, 237, 192, 0, 140, 180, 0, 240, 62, 42, 180, 0, 18, 27, 182, 0, 237]
abbrev dktX0_use_1 : List UInt8 := dkwX0_use_1 ++ dktX0_use_2
def dkwX0_use_0 : List UInt8 := [42, 27, 182, 0, 227, 154, 0, 6, 16, 155, 172, 28, 4, 16, 99, 184, 0, 114, 154, 0, 6, 16, 154, 172]
abbrev dktX0_use_0 : List UInt8 := dkwX0_use_0 ++ dktX0_use_1
theorem dksX0_use_0 : cX0_use.data.toList.drop 0 = dktX0_use_0 := by decide +kernel
theorem dksX0_use_1 : cX0_use.data.toList.drop 24 = dktX0_use_1 := dk_seg dksX0_use_0 24 rfl rfl
theorem dksX0_use_2 : cX0_use.data.toList.drop 47 = dktX0_use_2 := dk_seg dksX0_use_1 23 rfl rfl
theorem dX0_use_0 : decode cX0_use 0 = .ok (.aload_n 0, 1) := dk_42 (dk_at dksX0_use_0 0 rfl rfl)
theorem dX0_use_1 : decode cX0_use 1 = .ok (.iload_n 1, 1) := dk_27 (dk_at dksX0_use_0 1 rfl rfl)
theorem dX0_use_2 : decode cX0_use 2 = .ok (.invokevirtual 227, 3) := dk_182 0 227 (dk_at dksX0_use_0 2 rfl rfl)
theorem dX0_use_5 : decode cX0_use 5 = .ok (.ifCond .ne 6, 3) := dk_154 0 6 (dk_at dksX0_use_0 5 rfl rfl)
theorem dX0_use_8 : decode cX0_use 8 = .ok (.bipush (-101), 2) := dk_16 155 (dk_at dksX0_use_0 8 rfl rfl)
theorem dX0_use_10 : decode cX0_use 10 = .ok (.ireturn, 1) := dk_172 (dk_at dksX0_use_0 10 rfl rfl)
theorem dX0_use_11 : decode cX0_use 11 = .ok (.iload_n 2, 1) := dk_28 (dk_at dksX0_use_0 11 rfl rfl)
theorem dX0_use_12 : decode cX0_use 12 = .ok (.iconst 1, 1) := dk_4 (dk_at dksX0_use_0 12 rfl rfl)
theorem dX0_use_13 : decode cX0_use 13 = .ok (.bipush 99, 2) := dk_16 99 (dk_at dksX0_use_0 13 rfl rfl)
theorem dX0_use_15 : decode cX0_use 15 = .ok (.invokestatic 114, 3) := dk_184 0 114 (dk_at dksX0_use_0 15 rfl rfl)
theorem dX0_use_18 : decode cX0_use 18 = .ok (.ifCond .ne 6, 3) := dk_154 0 6 (dk_at dksX0_use_0 18 rfl rfl)
theorem dX0_use_21 : decode cX0_use 21 = .ok (.bipush (-102), 2) := dk_16 154 (dk_at dksX0_use_0 21 rfl rfl)
theorem dX0_use_23 : decode cX0_use 23 = .ok (.ireturn, 1) := dk_172 (dk_at dksX0_use_0 23 rfl rfl)
theorem dX0_use_24 : decode cX0_use 24 = .ok (.aload_n 0, 1) := dk_42 (dk_at dksX0_use_1 0 rfl rfl)
theorem dX0_use_25 : decode cX0_use 25 = .ok (.getfield 18, 3) := dk_180 0 18 (dk_at dksX0_use_1 1 rfl rfl)
theorem dX0_use_28 : decode cX0_use 28 = .ok (.iload_n 1, 1) := dk_27 (dk_at dksX0_use_1 4 rfl rfl)
theorem dX0_use_29 : decode cX0_use 29 = .ok (.invokevirtual 237, 3) := dk_182 0 237 (dk_at dksX0_use_1 5 rfl rfl)
theorem dX0_use_32 : decode cX0_use 32 = .ok (.checkcast 140, 3) := dk_192 0 140 (dk_at dksX0_use_1 8 rfl rfl)
theorem dX0_use_35 : decode cX0_use 35 = .ok (.getfield 240, 3) := dk_180 0 240 (dk_at dksX0_use_1 11 rfl rfl)
theorem dX0_use_38 : decode cX0_use 38 = .ok (.istore_n 3, 1) := dk_62 (dk_at dksX0_use_1 14 rfl rfl)
theorem dX0_use_39 : decode cX0_use 39 = .ok (.aload_n 0, 1) := dk_42 (dk_at dksX0_use_1 15 rfl rfl)
theorem dX0_use_40 : decode cX0_use 40 = .ok (.getfield 18, 3) := dk_180 0 18 (dk_at dksX0_use_1 16 rfl rfl)
theorem dX0_use_43 : decode cX0_use 43 = .ok (.iload_n 1, 1) := dk_27 (dk_at dksX0_use_1 19 rfl rfl)
theorem dX0_use_44 : decode cX0_use 44 = .ok (.invokevirtual 237, 3) := dk_182 0 237 (dk_at dksX0_use_1 20 rfl rfl)
theorem dX0_use_47 : decode cX0_use 47 = .ok (.checkcast 140, 3) := dk_192 0 140 (dk_at dksX0_use_2 0 rfl rfl)
theorem dX0_use_50 : decode cX0_use 50 = .ok (.iload_n 2, 1) := dk_28 (dk_at dksX0_use_2 3 rfl rfl)
theorem dX0_use_51 : decode cX0_use 51 = .ok (.putfield 240, 3) := dk_181 0 240 (dk_at dksX0_use_2 4 rfl rfl)
theorem dX0_use_54 : decode cX0_use 54 = .ok (.iload_n 3, 1) := dk_29 (dk_at dksX0_use_2 7 rfl rfl)
theorem dX0_use_55 : decode cX0_use 55 = .ok (.ireturn, 1) := dk_172 (dk_at dksX0_use_2 8 rfl rfl)
abbrev cX0_name : ByteArray := prog_1_method_18_code
def yX0_name : MethodName := ⟨RX0, "name", "(II)I"⟩
def dkwX0_name_1 : List UInt8 := [182, 1, 39, 167, 0, 5, 16, 154, 172]
abbrev dktX0_name_1 : List UInt8 := dkwX0_name_1 ++ []
def dkwX0_name_0 : List UInt8 := [42, 27, 182, 0, 227, 154, 0, 6, 16, 155, 172, 28, 3, 16, 7, 184, 0, 114, 153, 0, 12, 42, 27, 28]
abbrev dktX0_name_0 : List UInt8 := dkwX0_name_0 ++ dktX0_name_1
theorem dksX0_name_0 : cX0_name.data.toList.drop 0 = dktX0_name_0 := by decide +kernel
theorem dksX0_name_1 : cX0_name.data.toList.drop 24 = dktX0_name_1 := dk_seg dksX0_name_0 24 rfl rfl
theorem dX0_name_0 : decode cX0_name 0 = .ok (.aload_n 0, 1) := dk_42 (dk_at dksX0_name_0 0 rfl rfl)
theorem dX0_name_1 : decode cX0_name 1 = .ok (.iload_n 1, 1) := dk_27 (dk_at dksX0_name_0 1 rfl rfl)
theorem dX0_name_2 : decode cX0_name 2 = .ok (.invokevirtual 227, 3) := dk_182 0 227 (dk_at dksX0_name_0 2 rfl rfl)
theorem dX0_name_5 : decode cX0_name 5 = .ok (.ifCond .ne 6, 3) := dk_154 0 6 (dk_at dksX0_name_0 5 rfl rfl)
theorem dX0_name_8 : decode cX0_name 8 = .ok (.bipush (-101), 2) := dk_16 155 (dk_at dksX0_name_0 8 rfl rfl)
theorem dX0_name_10 : decode cX0_name 10 = .ok (.ireturn, 1) := dk_172 (dk_at dksX0_name_0 10 rfl rfl)
theorem dX0_name_11 : decode cX0_name 11 = .ok (.iload_n 2, 1) := dk_28 (dk_at dksX0_name_0 11 rfl rfl)
theorem dX0_name_12 : decode cX0_name 12 = .ok (.iconst 0, 1) := dk_3 (dk_at dksX0_name_0 12 rfl rfl)
theorem dX0_name_13 : decode cX0_name 13 = .ok (.bipush 7, 2) := dk_16 7 (dk_at dksX0_name_0 13 rfl rfl)
theorem dX0_name_15 : decode cX0_name 15 = .ok (.invokestatic 114, 3) := dk_184 0 114 (dk_at dksX0_name_0 15 rfl rfl)
theorem dX0_name_18 : decode cX0_name 18 = .ok (.ifCond .eq 12, 3) := dk_153 0 12 (dk_at dksX0_name_0 18 rfl rfl)
theorem dX0_name_21 : decode cX0_name 21 = .ok (.aload_n 0, 1) := dk_42 (dk_at dksX0_name_0 21 rfl rfl)
theorem dX0_name_22 : decode cX0_name 22 = .ok (.iload_n 1, 1) := dk_27 (dk_at dksX0_name_0 22 rfl rfl)
theorem dX0_name_23 : decode cX0_name 23 = .ok (.iload_n 2, 1) := dk_28 (dk_at dksX0_name_0 23 rfl rfl)
theorem dX0_name_24 : decode cX0_name 24 = .ok (.invokevirtual 295, 3) := dk_182 1 39 (dk_at dksX0_name_1 0 rfl rfl)
theorem dX0_name_27 : decode cX0_name 27 = .ok (.goto 5, 3) := dk_167 0 5 (dk_at dksX0_name_1 3 rfl rfl)
theorem dX0_name_30 : decode cX0_name 30 = .ok (.bipush (-102), 2) := dk_16 154 (dk_at dksX0_name_1 6 rfl rfl)
theorem dX0_name_32 : decode cX0_name 32 = .ok (.ireturn, 1) := dk_172 (dk_at dksX0_name_1 8 rfl rfl)
abbrev cX0_nameTold : ByteArray := prog_1_method_17_code
def yX0_nameTold : MethodName := ⟨RX0, "nameTold", "(II)I"⟩
def dkwX0_nameTold_4 : List UInt8 := [2, 167, 0, 14, 42, 180, 0, 193, 27, 182, 1, 29, 182, 1, 35, 172, 42, 6, 27, 182, 1, 36, 172]
abbrev dktX0_nameTold_4 : List UInt8 := dkwX0_nameTold_4 ++ []
def dkwX0_nameTold_3 : List UInt8 := [172, 42, 27, 182, 1, 26, 172, 42, 27, 45, 182, 1, 7, 182, 1, 9, 172, 42, 180, 0, 193, 199, 0, 7]
abbrev dktX0_nameTold_3 : List UInt8 := dkwX0_nameTold_3 ++ dktX0_nameTold_4
def dkwX0_nameTold_2 : List UInt8 := [45, 182, 1, 7, 172, 45, 180, 0, 240, 172, 42, 27, 182, 1, 15, 182, 1, 19, 172, 42, 27, 182, 1, 22]
abbrev dktX0_nameTold_2 : List UInt8 := dkwX0_nameTold_2 ++ dktX0_nameTold_3
def dkwX0_nameTold_1 : List UInt8 := [170, 0, 0, 0, 0, 0, 107, 0, 0, 0, 0, 0, 0, 0, 6, 0, 0, 0, 43, 0, 0, 0, 48, 0, 0, 0, 53, 0, 0, 0, 62, 0, 0, 0, 68, 0, 0, 0, 74, 0, 0, 0, 84]
abbrev dktX0_nameTold_1 : List UInt8 := dkwX0_nameTold_1 ++ dktX0_nameTold_2
def dkwX0_nameTold_0 : List UInt8 := [42, 180, 0, 18, 27, 182, 0, 237, 192, 0, 140, 78, 28]
abbrev dktX0_nameTold_0 : List UInt8 := dkwX0_nameTold_0 ++ dktX0_nameTold_1
theorem dksX0_nameTold_0 : cX0_nameTold.data.toList.drop 0 = dktX0_nameTold_0 := by decide +kernel
theorem dksX0_nameTold_1 : cX0_nameTold.data.toList.drop 13 = dktX0_nameTold_1 := dk_seg dksX0_nameTold_0 13 rfl rfl
theorem dksX0_nameTold_2 : cX0_nameTold.data.toList.drop 56 = dktX0_nameTold_2 := dk_seg dksX0_nameTold_1 43 rfl rfl
theorem dksX0_nameTold_3 : cX0_nameTold.data.toList.drop 80 = dktX0_nameTold_3 := dk_seg dksX0_nameTold_2 24 rfl rfl
theorem dksX0_nameTold_4 : cX0_nameTold.data.toList.drop 104 = dktX0_nameTold_4 := dk_seg dksX0_nameTold_3 24 rfl rfl
theorem dX0_nameTold_0 : decode cX0_nameTold 0 = .ok (.aload_n 0, 1) := dk_42 (dk_at dksX0_nameTold_0 0 rfl rfl)
theorem dX0_nameTold_1 : decode cX0_nameTold 1 = .ok (.getfield 18, 3) := dk_180 0 18 (dk_at dksX0_nameTold_0 1 rfl rfl)
theorem dX0_nameTold_4 : decode cX0_nameTold 4 = .ok (.iload_n 1, 1) := dk_27 (dk_at dksX0_nameTold_0 4 rfl rfl)
theorem dX0_nameTold_5 : decode cX0_nameTold 5 = .ok (.invokevirtual 237, 3) := dk_182 0 237 (dk_at dksX0_nameTold_0 5 rfl rfl)
theorem dX0_nameTold_8 : decode cX0_nameTold 8 = .ok (.checkcast 140, 3) := dk_192 0 140 (dk_at dksX0_nameTold_0 8 rfl rfl)
theorem dX0_nameTold_11 : decode cX0_nameTold 11 = .ok (.astore_n 3, 1) := dk_78 (dk_at dksX0_nameTold_0 11 rfl rfl)
theorem dX0_nameTold_12 : decode cX0_nameTold 12 = .ok (.iload_n 2, 1) := dk_28 (dk_at dksX0_nameTold_0 12 rfl rfl)
theorem dX0_nameTold_13 : decode cX0_nameTold 13 = .ok (.tableswitch 107 0 6 #[43, 48, 53, 62, 68, 74, 84], 43) := by decide +kernel
theorem dX0_nameTold_56 : decode cX0_nameTold 56 = .ok (.aload_n 3, 1) := dk_45 (dk_at dksX0_nameTold_2 0 rfl rfl)
theorem dX0_nameTold_57 : decode cX0_nameTold 57 = .ok (.invokevirtual 263, 3) := dk_182 1 7 (dk_at dksX0_nameTold_2 1 rfl rfl)
theorem dX0_nameTold_60 : decode cX0_nameTold 60 = .ok (.ireturn, 1) := dk_172 (dk_at dksX0_nameTold_2 4 rfl rfl)
theorem dX0_nameTold_61 : decode cX0_nameTold 61 = .ok (.aload_n 3, 1) := dk_45 (dk_at dksX0_nameTold_2 5 rfl rfl)
theorem dX0_nameTold_62 : decode cX0_nameTold 62 = .ok (.getfield 240, 3) := dk_180 0 240 (dk_at dksX0_nameTold_2 6 rfl rfl)
theorem dX0_nameTold_65 : decode cX0_nameTold 65 = .ok (.ireturn, 1) := dk_172 (dk_at dksX0_nameTold_2 9 rfl rfl)
theorem dX0_nameTold_66 : decode cX0_nameTold 66 = .ok (.aload_n 0, 1) := dk_42 (dk_at dksX0_nameTold_2 10 rfl rfl)
theorem dX0_nameTold_67 : decode cX0_nameTold 67 = .ok (.iload_n 1, 1) := dk_27 (dk_at dksX0_nameTold_2 11 rfl rfl)
theorem dX0_nameTold_68 : decode cX0_nameTold 68 = .ok (.invokevirtual 271, 3) := dk_182 1 15 (dk_at dksX0_nameTold_2 12 rfl rfl)
theorem dX0_nameTold_71 : decode cX0_nameTold 71 = .ok (.invokevirtual 275, 3) := dk_182 1 19 (dk_at dksX0_nameTold_2 15 rfl rfl)
theorem dX0_nameTold_74 : decode cX0_nameTold 74 = .ok (.ireturn, 1) := dk_172 (dk_at dksX0_nameTold_2 18 rfl rfl)
theorem dX0_nameTold_75 : decode cX0_nameTold 75 = .ok (.aload_n 0, 1) := dk_42 (dk_at dksX0_nameTold_2 19 rfl rfl)
theorem dX0_nameTold_76 : decode cX0_nameTold 76 = .ok (.iload_n 1, 1) := dk_27 (dk_at dksX0_nameTold_2 20 rfl rfl)
theorem dX0_nameTold_77 : decode cX0_nameTold 77 = .ok (.invokevirtual 278, 3) := dk_182 1 22 (dk_at dksX0_nameTold_2 21 rfl rfl)
theorem dX0_nameTold_80 : decode cX0_nameTold 80 = .ok (.ireturn, 1) := dk_172 (dk_at dksX0_nameTold_3 0 rfl rfl)
theorem dX0_nameTold_81 : decode cX0_nameTold 81 = .ok (.aload_n 0, 1) := dk_42 (dk_at dksX0_nameTold_3 1 rfl rfl)
theorem dX0_nameTold_82 : decode cX0_nameTold 82 = .ok (.iload_n 1, 1) := dk_27 (dk_at dksX0_nameTold_3 2 rfl rfl)
theorem dX0_nameTold_83 : decode cX0_nameTold 83 = .ok (.invokevirtual 282, 3) := dk_182 1 26 (dk_at dksX0_nameTold_3 3 rfl rfl)
theorem dX0_nameTold_86 : decode cX0_nameTold 86 = .ok (.ireturn, 1) := dk_172 (dk_at dksX0_nameTold_3 6 rfl rfl)
theorem dX0_nameTold_87 : decode cX0_nameTold 87 = .ok (.aload_n 0, 1) := dk_42 (dk_at dksX0_nameTold_3 7 rfl rfl)
theorem dX0_nameTold_88 : decode cX0_nameTold 88 = .ok (.iload_n 1, 1) := dk_27 (dk_at dksX0_nameTold_3 8 rfl rfl)
theorem dX0_nameTold_89 : decode cX0_nameTold 89 = .ok (.aload_n 3, 1) := dk_45 (dk_at dksX0_nameTold_3 9 rfl rfl)
theorem dX0_nameTold_90 : decode cX0_nameTold 90 = .ok (.invokevirtual 263, 3) := dk_182 1 7 (dk_at dksX0_nameTold_3 10 rfl rfl)
theorem dX0_nameTold_93 : decode cX0_nameTold 93 = .ok (.invokevirtual 265, 3) := dk_182 1 9 (dk_at dksX0_nameTold_3 13 rfl rfl)
theorem dX0_nameTold_96 : decode cX0_nameTold 96 = .ok (.ireturn, 1) := dk_172 (dk_at dksX0_nameTold_3 16 rfl rfl)
theorem dX0_nameTold_97 : decode cX0_nameTold 97 = .ok (.aload_n 0, 1) := dk_42 (dk_at dksX0_nameTold_3 17 rfl rfl)
theorem dX0_nameTold_98 : decode cX0_nameTold 98 = .ok (.getfield 193, 3) := dk_180 0 193 (dk_at dksX0_nameTold_3 18 rfl rfl)
theorem dX0_nameTold_101 : decode cX0_nameTold 101 = .ok (.ifnonnull 7, 3) := dk_199 0 7 (dk_at dksX0_nameTold_3 21 rfl rfl)
theorem dX0_nameTold_104 : decode cX0_nameTold 104 = .ok (.iconst (-1), 1) := dk_2 (dk_at dksX0_nameTold_4 0 rfl rfl)
theorem dX0_nameTold_105 : decode cX0_nameTold 105 = .ok (.goto 14, 3) := dk_167 0 14 (dk_at dksX0_nameTold_4 1 rfl rfl)
theorem dX0_nameTold_108 : decode cX0_nameTold 108 = .ok (.aload_n 0, 1) := dk_42 (dk_at dksX0_nameTold_4 4 rfl rfl)
theorem dX0_nameTold_109 : decode cX0_nameTold 109 = .ok (.getfield 193, 3) := dk_180 0 193 (dk_at dksX0_nameTold_4 5 rfl rfl)
theorem dX0_nameTold_112 : decode cX0_nameTold 112 = .ok (.iload_n 1, 1) := dk_27 (dk_at dksX0_nameTold_4 8 rfl rfl)
theorem dX0_nameTold_113 : decode cX0_nameTold 113 = .ok (.invokevirtual 285, 3) := dk_182 1 29 (dk_at dksX0_nameTold_4 9 rfl rfl)
theorem dX0_nameTold_116 : decode cX0_nameTold 116 = .ok (.invokevirtual 291, 3) := dk_182 1 35 (dk_at dksX0_nameTold_4 12 rfl rfl)
theorem dX0_nameTold_119 : decode cX0_nameTold 119 = .ok (.ireturn, 1) := dk_172 (dk_at dksX0_nameTold_4 15 rfl rfl)
theorem dX0_nameTold_120 : decode cX0_nameTold 120 = .ok (.aload_n 0, 1) := dk_42 (dk_at dksX0_nameTold_4 16 rfl rfl)
theorem dX0_nameTold_121 : decode cX0_nameTold 121 = .ok (.iconst 3, 1) := dk_6 (dk_at dksX0_nameTold_4 17 rfl rfl)
theorem dX0_nameTold_122 : decode cX0_nameTold 122 = .ok (.iload_n 1, 1) := dk_27 (dk_at dksX0_nameTold_4 18 rfl rfl)
theorem dX0_nameTold_123 : decode cX0_nameTold 123 = .ok (.invokevirtual 292, 3) := dk_182 1 36 (dk_at dksX0_nameTold_4 19 rfl rfl)
theorem dX0_nameTold_126 : decode cX0_nameTold 126 = .ok (.ireturn, 1) := dk_172 (dk_at dksX0_nameTold_4 22 rfl rfl)
abbrev cX0_twins : ByteArray := prog_1_method_13_code
def yX0_twins : MethodName := ⟨RX0, "twins", "(I)Ljava/util/BitSet;"⟩
def dkwX0_twins_3 : List UInt8 := [167, 255, 199, 44, 176]
abbrev dktX0_twins_3 : List UInt8 := dkwX0_twins_3 ++ []
def dkwX0_twins_2 : List UInt8 := [182, 0, 237, 192, 0, 140, 182, 0, 246, 153, 0, 7, 4, 167, 0, 4, 3, 182, 0, 250, 132, 3, 1]
abbrev dktX0_twins_2 : List UInt8 := dkwX0_twins_2 ++ dktX0_twins_3
def dkwX0_twins_1 : List UInt8 := [29, 29, 27, 159, 0, 35, 42, 180, 0, 18, 29, 182, 0, 237, 192, 0, 140, 42, 180, 0, 18, 27]
abbrev dktX0_twins_1 : List UInt8 := dkwX0_twins_1 ++ dktX0_twins_2
def dkwX0_twins_0 : List UInt8 := [187, 0, 243, 89, 16, 14, 183, 0, 245, 77, 3, 62, 29, 42, 180, 0, 18, 182, 0, 111, 162, 0, 52, 44]
abbrev dktX0_twins_0 : List UInt8 := dkwX0_twins_0 ++ dktX0_twins_1
theorem dksX0_twins_0 : cX0_twins.data.toList.drop 0 = dktX0_twins_0 := by decide +kernel
theorem dksX0_twins_1 : cX0_twins.data.toList.drop 24 = dktX0_twins_1 := dk_seg dksX0_twins_0 24 rfl rfl
theorem dksX0_twins_2 : cX0_twins.data.toList.drop 46 = dktX0_twins_2 := dk_seg dksX0_twins_1 22 rfl rfl
theorem dksX0_twins_3 : cX0_twins.data.toList.drop 69 = dktX0_twins_3 := dk_seg dksX0_twins_2 23 rfl rfl
theorem dX0_twins_0 : decode cX0_twins 0 = .ok (.new 243, 3) := dk_187 0 243 (dk_at dksX0_twins_0 0 rfl rfl)
theorem dX0_twins_3 : decode cX0_twins 3 = .ok (.dup, 1) := dk_89 (dk_at dksX0_twins_0 3 rfl rfl)
theorem dX0_twins_4 : decode cX0_twins 4 = .ok (.bipush 14, 2) := dk_16 14 (dk_at dksX0_twins_0 4 rfl rfl)
theorem dX0_twins_6 : decode cX0_twins 6 = .ok (.invokespecial 245, 3) := dk_183 0 245 (dk_at dksX0_twins_0 6 rfl rfl)
theorem dX0_twins_9 : decode cX0_twins 9 = .ok (.astore_n 2, 1) := dk_77 (dk_at dksX0_twins_0 9 rfl rfl)
theorem dX0_twins_10 : decode cX0_twins 10 = .ok (.iconst 0, 1) := dk_3 (dk_at dksX0_twins_0 10 rfl rfl)
theorem dX0_twins_11 : decode cX0_twins 11 = .ok (.istore_n 3, 1) := dk_62 (dk_at dksX0_twins_0 11 rfl rfl)
theorem dX0_twins_12 : decode cX0_twins 12 = .ok (.iload_n 3, 1) := dk_29 (dk_at dksX0_twins_0 12 rfl rfl)
theorem dX0_twins_13 : decode cX0_twins 13 = .ok (.aload_n 0, 1) := dk_42 (dk_at dksX0_twins_0 13 rfl rfl)
theorem dX0_twins_14 : decode cX0_twins 14 = .ok (.getfield 18, 3) := dk_180 0 18 (dk_at dksX0_twins_0 14 rfl rfl)
theorem dX0_twins_17 : decode cX0_twins 17 = .ok (.invokevirtual 111, 3) := dk_182 0 111 (dk_at dksX0_twins_0 17 rfl rfl)
theorem dX0_twins_20 : decode cX0_twins 20 = .ok (.if_icmp .ge 52, 3) := dk_162 0 52 (dk_at dksX0_twins_0 20 rfl rfl)
theorem dX0_twins_23 : decode cX0_twins 23 = .ok (.aload_n 2, 1) := dk_44 (dk_at dksX0_twins_0 23 rfl rfl)
theorem dX0_twins_24 : decode cX0_twins 24 = .ok (.iload_n 3, 1) := dk_29 (dk_at dksX0_twins_1 0 rfl rfl)
theorem dX0_twins_25 : decode cX0_twins 25 = .ok (.iload_n 3, 1) := dk_29 (dk_at dksX0_twins_1 1 rfl rfl)
theorem dX0_twins_26 : decode cX0_twins 26 = .ok (.iload_n 1, 1) := dk_27 (dk_at dksX0_twins_1 2 rfl rfl)
theorem dX0_twins_27 : decode cX0_twins 27 = .ok (.if_icmp .eq 35, 3) := dk_159 0 35 (dk_at dksX0_twins_1 3 rfl rfl)
theorem dX0_twins_30 : decode cX0_twins 30 = .ok (.aload_n 0, 1) := dk_42 (dk_at dksX0_twins_1 6 rfl rfl)
theorem dX0_twins_31 : decode cX0_twins 31 = .ok (.getfield 18, 3) := dk_180 0 18 (dk_at dksX0_twins_1 7 rfl rfl)
theorem dX0_twins_34 : decode cX0_twins 34 = .ok (.iload_n 3, 1) := dk_29 (dk_at dksX0_twins_1 10 rfl rfl)
theorem dX0_twins_35 : decode cX0_twins 35 = .ok (.invokevirtual 237, 3) := dk_182 0 237 (dk_at dksX0_twins_1 11 rfl rfl)
theorem dX0_twins_38 : decode cX0_twins 38 = .ok (.checkcast 140, 3) := dk_192 0 140 (dk_at dksX0_twins_1 14 rfl rfl)
theorem dX0_twins_41 : decode cX0_twins 41 = .ok (.aload_n 0, 1) := dk_42 (dk_at dksX0_twins_1 17 rfl rfl)
theorem dX0_twins_42 : decode cX0_twins 42 = .ok (.getfield 18, 3) := dk_180 0 18 (dk_at dksX0_twins_1 18 rfl rfl)
theorem dX0_twins_45 : decode cX0_twins 45 = .ok (.iload_n 1, 1) := dk_27 (dk_at dksX0_twins_1 21 rfl rfl)
theorem dX0_twins_46 : decode cX0_twins 46 = .ok (.invokevirtual 237, 3) := dk_182 0 237 (dk_at dksX0_twins_2 0 rfl rfl)
theorem dX0_twins_49 : decode cX0_twins 49 = .ok (.checkcast 140, 3) := dk_192 0 140 (dk_at dksX0_twins_2 3 rfl rfl)
theorem dX0_twins_52 : decode cX0_twins 52 = .ok (.invokevirtual 246, 3) := dk_182 0 246 (dk_at dksX0_twins_2 6 rfl rfl)
theorem dX0_twins_55 : decode cX0_twins 55 = .ok (.ifCond .eq 7, 3) := dk_153 0 7 (dk_at dksX0_twins_2 9 rfl rfl)
theorem dX0_twins_58 : decode cX0_twins 58 = .ok (.iconst 1, 1) := dk_4 (dk_at dksX0_twins_2 12 rfl rfl)
theorem dX0_twins_59 : decode cX0_twins 59 = .ok (.goto 4, 3) := dk_167 0 4 (dk_at dksX0_twins_2 13 rfl rfl)
theorem dX0_twins_62 : decode cX0_twins 62 = .ok (.iconst 0, 1) := dk_3 (dk_at dksX0_twins_2 16 rfl rfl)
theorem dX0_twins_63 : decode cX0_twins 63 = .ok (.invokevirtual 250, 3) := dk_182 0 250 (dk_at dksX0_twins_2 17 rfl rfl)
theorem dX0_twins_66 : decode cX0_twins 66 = .ok (.iinc 3 1, 3) := dk_132 3 1 (dk_at dksX0_twins_2 20 rfl rfl)
theorem dX0_twins_69 : decode cX0_twins 69 = .ok (.goto (-57), 3) := dk_167 255 199 (dk_at dksX0_twins_3 0 rfl rfl)
theorem dX0_twins_72 : decode cX0_twins 72 = .ok (.aload_n 2, 1) := dk_44 (dk_at dksX0_twins_3 3 rfl rfl)
theorem dX0_twins_73 : decode cX0_twins 73 = .ok (.areturn, 1) := dk_176 (dk_at dksX0_twins_3 4 rfl rfl)
abbrev cX0_telling : ByteArray := prog_1_method_14_code
def yX0_telling : MethodName := ⟨RX0, "telling", "(I)I"⟩
def dkwX0_telling_3 : List UInt8 := [192, 0, 140, 182, 1, 7, 163, 0, 7, 28, 167, 0, 4, 2, 172]
abbrev dktX0_telling_3 : List UInt8 := dkwX0_telling_3 ++ []
def dkwX0_telling_2 : List UInt8 := [182, 0, 254, 4, 96, 184, 1, 2, 61, 132, 3, 1, 167, 255, 201, 28, 42, 180, 0, 18, 27, 182, 0, 237]
abbrev dktX0_telling_2 : List UInt8 := dkwX0_telling_2 ++ dktX0_telling_3
def dkwX0_telling_1 : List UInt8 := [28, 42, 180, 0, 18, 27, 182, 0, 237, 192, 0, 140, 42, 180, 0, 18, 29, 182, 0, 237, 192, 0, 140]
abbrev dktX0_telling_1 : List UInt8 := dkwX0_telling_1 ++ dktX0_telling_2
def dkwX0_telling_0 : List UInt8 := [3, 61, 3, 62, 29, 42, 180, 0, 18, 182, 0, 111, 162, 0, 50, 29, 27, 160, 0, 7, 28, 167, 0, 34]
abbrev dktX0_telling_0 : List UInt8 := dkwX0_telling_0 ++ dktX0_telling_1
theorem dksX0_telling_0 : cX0_telling.data.toList.drop 0 = dktX0_telling_0 := by decide +kernel
theorem dksX0_telling_1 : cX0_telling.data.toList.drop 24 = dktX0_telling_1 := dk_seg dksX0_telling_0 24 rfl rfl
theorem dksX0_telling_2 : cX0_telling.data.toList.drop 47 = dktX0_telling_2 := dk_seg dksX0_telling_1 23 rfl rfl
theorem dksX0_telling_3 : cX0_telling.data.toList.drop 71 = dktX0_telling_3 := dk_seg dksX0_telling_2 24 rfl rfl
theorem dX0_telling_0 : decode cX0_telling 0 = .ok (.iconst 0, 1) := dk_3 (dk_at dksX0_telling_0 0 rfl rfl)
theorem dX0_telling_1 : decode cX0_telling 1 = .ok (.istore_n 2, 1) := dk_61 (dk_at dksX0_telling_0 1 rfl rfl)
theorem dX0_telling_2 : decode cX0_telling 2 = .ok (.iconst 0, 1) := dk_3 (dk_at dksX0_telling_0 2 rfl rfl)
theorem dX0_telling_3 : decode cX0_telling 3 = .ok (.istore_n 3, 1) := dk_62 (dk_at dksX0_telling_0 3 rfl rfl)
theorem dX0_telling_4 : decode cX0_telling 4 = .ok (.iload_n 3, 1) := dk_29 (dk_at dksX0_telling_0 4 rfl rfl)
theorem dX0_telling_5 : decode cX0_telling 5 = .ok (.aload_n 0, 1) := dk_42 (dk_at dksX0_telling_0 5 rfl rfl)
theorem dX0_telling_6 : decode cX0_telling 6 = .ok (.getfield 18, 3) := dk_180 0 18 (dk_at dksX0_telling_0 6 rfl rfl)
theorem dX0_telling_9 : decode cX0_telling 9 = .ok (.invokevirtual 111, 3) := dk_182 0 111 (dk_at dksX0_telling_0 9 rfl rfl)
theorem dX0_telling_12 : decode cX0_telling 12 = .ok (.if_icmp .ge 50, 3) := dk_162 0 50 (dk_at dksX0_telling_0 12 rfl rfl)
theorem dX0_telling_15 : decode cX0_telling 15 = .ok (.iload_n 3, 1) := dk_29 (dk_at dksX0_telling_0 15 rfl rfl)
theorem dX0_telling_16 : decode cX0_telling 16 = .ok (.iload_n 1, 1) := dk_27 (dk_at dksX0_telling_0 16 rfl rfl)
theorem dX0_telling_17 : decode cX0_telling 17 = .ok (.if_icmp .ne 7, 3) := dk_160 0 7 (dk_at dksX0_telling_0 17 rfl rfl)
theorem dX0_telling_20 : decode cX0_telling 20 = .ok (.iload_n 2, 1) := dk_28 (dk_at dksX0_telling_0 20 rfl rfl)
theorem dX0_telling_21 : decode cX0_telling 21 = .ok (.goto 34, 3) := dk_167 0 34 (dk_at dksX0_telling_0 21 rfl rfl)
theorem dX0_telling_24 : decode cX0_telling 24 = .ok (.iload_n 2, 1) := dk_28 (dk_at dksX0_telling_1 0 rfl rfl)
theorem dX0_telling_25 : decode cX0_telling 25 = .ok (.aload_n 0, 1) := dk_42 (dk_at dksX0_telling_1 1 rfl rfl)
theorem dX0_telling_26 : decode cX0_telling 26 = .ok (.getfield 18, 3) := dk_180 0 18 (dk_at dksX0_telling_1 2 rfl rfl)
theorem dX0_telling_29 : decode cX0_telling 29 = .ok (.iload_n 1, 1) := dk_27 (dk_at dksX0_telling_1 5 rfl rfl)
theorem dX0_telling_30 : decode cX0_telling 30 = .ok (.invokevirtual 237, 3) := dk_182 0 237 (dk_at dksX0_telling_1 6 rfl rfl)
theorem dX0_telling_33 : decode cX0_telling 33 = .ok (.checkcast 140, 3) := dk_192 0 140 (dk_at dksX0_telling_1 9 rfl rfl)
theorem dX0_telling_36 : decode cX0_telling 36 = .ok (.aload_n 0, 1) := dk_42 (dk_at dksX0_telling_1 12 rfl rfl)
theorem dX0_telling_37 : decode cX0_telling 37 = .ok (.getfield 18, 3) := dk_180 0 18 (dk_at dksX0_telling_1 13 rfl rfl)
theorem dX0_telling_40 : decode cX0_telling 40 = .ok (.iload_n 3, 1) := dk_29 (dk_at dksX0_telling_1 16 rfl rfl)
theorem dX0_telling_41 : decode cX0_telling 41 = .ok (.invokevirtual 237, 3) := dk_182 0 237 (dk_at dksX0_telling_1 17 rfl rfl)
theorem dX0_telling_44 : decode cX0_telling 44 = .ok (.checkcast 140, 3) := dk_192 0 140 (dk_at dksX0_telling_1 20 rfl rfl)
theorem dX0_telling_47 : decode cX0_telling 47 = .ok (.invokevirtual 254, 3) := dk_182 0 254 (dk_at dksX0_telling_2 0 rfl rfl)
theorem dX0_telling_50 : decode cX0_telling 50 = .ok (.iconst 1, 1) := dk_4 (dk_at dksX0_telling_2 3 rfl rfl)
theorem dX0_telling_51 : decode cX0_telling 51 = .ok (.iadd, 1) := dk_96 (dk_at dksX0_telling_2 4 rfl rfl)
theorem dX0_telling_52 : decode cX0_telling 52 = .ok (.invokestatic 258, 3) := dk_184 1 2 (dk_at dksX0_telling_2 5 rfl rfl)
theorem dX0_telling_55 : decode cX0_telling 55 = .ok (.istore_n 2, 1) := dk_61 (dk_at dksX0_telling_2 8 rfl rfl)
theorem dX0_telling_56 : decode cX0_telling 56 = .ok (.iinc 3 1, 3) := dk_132 3 1 (dk_at dksX0_telling_2 9 rfl rfl)
theorem dX0_telling_59 : decode cX0_telling 59 = .ok (.goto (-55), 3) := dk_167 255 201 (dk_at dksX0_telling_2 12 rfl rfl)
theorem dX0_telling_62 : decode cX0_telling 62 = .ok (.iload_n 2, 1) := dk_28 (dk_at dksX0_telling_2 15 rfl rfl)
theorem dX0_telling_63 : decode cX0_telling 63 = .ok (.aload_n 0, 1) := dk_42 (dk_at dksX0_telling_2 16 rfl rfl)
theorem dX0_telling_64 : decode cX0_telling 64 = .ok (.getfield 18, 3) := dk_180 0 18 (dk_at dksX0_telling_2 17 rfl rfl)
theorem dX0_telling_67 : decode cX0_telling 67 = .ok (.iload_n 1, 1) := dk_27 (dk_at dksX0_telling_2 20 rfl rfl)
theorem dX0_telling_68 : decode cX0_telling 68 = .ok (.invokevirtual 237, 3) := dk_182 0 237 (dk_at dksX0_telling_2 21 rfl rfl)
theorem dX0_telling_71 : decode cX0_telling 71 = .ok (.checkcast 140, 3) := dk_192 0 140 (dk_at dksX0_telling_3 0 rfl rfl)
theorem dX0_telling_74 : decode cX0_telling 74 = .ok (.invokevirtual 263, 3) := dk_182 1 7 (dk_at dksX0_telling_3 3 rfl rfl)
theorem dX0_telling_77 : decode cX0_telling 77 = .ok (.if_icmp .gt 7, 3) := dk_163 0 7 (dk_at dksX0_telling_3 6 rfl rfl)
theorem dX0_telling_80 : decode cX0_telling 80 = .ok (.iload_n 2, 1) := dk_28 (dk_at dksX0_telling_3 9 rfl rfl)
theorem dX0_telling_81 : decode cX0_telling 81 = .ok (.goto 4, 3) := dk_167 0 4 (dk_at dksX0_telling_3 10 rfl rfl)
theorem dX0_telling_84 : decode cX0_telling 84 = .ok (.iconst (-1), 1) := dk_2 (dk_at dksX0_telling_3 13 rfl rfl)
theorem dX0_telling_85 : decode cX0_telling 85 = .ok (.ireturn, 1) := dk_172 (dk_at dksX0_telling_3 14 rfl rfl)
abbrev cX0_presses : ByteArray := prog_1_method_16_code
def yX0_presses : MethodName := ⟨RX0, "presses", "(I)I"⟩
def dkwX0_presses_1 : List UInt8 := [28, 29, 42, 27, 29, 182, 1, 9, 96, 4, 96, 184, 1, 12, 61, 132, 3, 1, 167, 255, 220, 28, 172]
abbrev dktX0_presses_1 : List UInt8 := dkwX0_presses_1 ++ []
def dkwX0_presses_0 : List UInt8 := [19, 1, 8, 61, 3, 62, 29, 42, 180, 0, 18, 27, 182, 0, 237, 192, 0, 140, 182, 1, 7, 163, 0, 24]
abbrev dktX0_presses_0 : List UInt8 := dkwX0_presses_0 ++ dktX0_presses_1
theorem dksX0_presses_0 : cX0_presses.data.toList.drop 0 = dktX0_presses_0 := by decide +kernel
theorem dksX0_presses_1 : cX0_presses.data.toList.drop 24 = dktX0_presses_1 := dk_seg dksX0_presses_0 24 rfl rfl
theorem dX0_presses_0 : decode cX0_presses 0 = .ok (.ldc_w 264, 3) := dk_19 1 8 (dk_at dksX0_presses_0 0 rfl rfl)
theorem dX0_presses_3 : decode cX0_presses 3 = .ok (.istore_n 2, 1) := dk_61 (dk_at dksX0_presses_0 3 rfl rfl)
theorem dX0_presses_4 : decode cX0_presses 4 = .ok (.iconst 0, 1) := dk_3 (dk_at dksX0_presses_0 4 rfl rfl)
theorem dX0_presses_5 : decode cX0_presses 5 = .ok (.istore_n 3, 1) := dk_62 (dk_at dksX0_presses_0 5 rfl rfl)
theorem dX0_presses_6 : decode cX0_presses 6 = .ok (.iload_n 3, 1) := dk_29 (dk_at dksX0_presses_0 6 rfl rfl)
theorem dX0_presses_7 : decode cX0_presses 7 = .ok (.aload_n 0, 1) := dk_42 (dk_at dksX0_presses_0 7 rfl rfl)
theorem dX0_presses_8 : decode cX0_presses 8 = .ok (.getfield 18, 3) := dk_180 0 18 (dk_at dksX0_presses_0 8 rfl rfl)
theorem dX0_presses_11 : decode cX0_presses 11 = .ok (.iload_n 1, 1) := dk_27 (dk_at dksX0_presses_0 11 rfl rfl)
theorem dX0_presses_12 : decode cX0_presses 12 = .ok (.invokevirtual 237, 3) := dk_182 0 237 (dk_at dksX0_presses_0 12 rfl rfl)
theorem dX0_presses_15 : decode cX0_presses 15 = .ok (.checkcast 140, 3) := dk_192 0 140 (dk_at dksX0_presses_0 15 rfl rfl)
theorem dX0_presses_18 : decode cX0_presses 18 = .ok (.invokevirtual 263, 3) := dk_182 1 7 (dk_at dksX0_presses_0 18 rfl rfl)
theorem dX0_presses_21 : decode cX0_presses 21 = .ok (.if_icmp .gt 24, 3) := dk_163 0 24 (dk_at dksX0_presses_0 21 rfl rfl)
theorem dX0_presses_24 : decode cX0_presses 24 = .ok (.iload_n 2, 1) := dk_28 (dk_at dksX0_presses_1 0 rfl rfl)
theorem dX0_presses_25 : decode cX0_presses 25 = .ok (.iload_n 3, 1) := dk_29 (dk_at dksX0_presses_1 1 rfl rfl)
theorem dX0_presses_26 : decode cX0_presses 26 = .ok (.aload_n 0, 1) := dk_42 (dk_at dksX0_presses_1 2 rfl rfl)
theorem dX0_presses_27 : decode cX0_presses 27 = .ok (.iload_n 1, 1) := dk_27 (dk_at dksX0_presses_1 3 rfl rfl)
theorem dX0_presses_28 : decode cX0_presses 28 = .ok (.iload_n 3, 1) := dk_29 (dk_at dksX0_presses_1 4 rfl rfl)
theorem dX0_presses_29 : decode cX0_presses 29 = .ok (.invokevirtual 265, 3) := dk_182 1 9 (dk_at dksX0_presses_1 5 rfl rfl)
theorem dX0_presses_32 : decode cX0_presses 32 = .ok (.iadd, 1) := dk_96 (dk_at dksX0_presses_1 8 rfl rfl)
theorem dX0_presses_33 : decode cX0_presses 33 = .ok (.iconst 1, 1) := dk_4 (dk_at dksX0_presses_1 9 rfl rfl)
theorem dX0_presses_34 : decode cX0_presses 34 = .ok (.iadd, 1) := dk_96 (dk_at dksX0_presses_1 10 rfl rfl)
theorem dX0_presses_35 : decode cX0_presses 35 = .ok (.invokestatic 268, 3) := dk_184 1 12 (dk_at dksX0_presses_1 11 rfl rfl)
theorem dX0_presses_38 : decode cX0_presses 38 = .ok (.istore_n 2, 1) := dk_61 (dk_at dksX0_presses_1 14 rfl rfl)
theorem dX0_presses_39 : decode cX0_presses 39 = .ok (.iinc 3 1, 3) := dk_132 3 1 (dk_at dksX0_presses_1 15 rfl rfl)
theorem dX0_presses_42 : decode cX0_presses 42 = .ok (.goto (-36), 3) := dk_167 255 220 (dk_at dksX0_presses_1 18 rfl rfl)
theorem dX0_presses_45 : decode cX0_presses 45 = .ok (.iload_n 2, 1) := dk_28 (dk_at dksX0_presses_1 21 rfl rfl)
theorem dX0_presses_46 : decode cX0_presses 46 = .ok (.ireturn, 1) := dk_172 (dk_at dksX0_presses_1 22 rfl rfl)
abbrev cX0_ahead : ByteArray := prog_1_method_15_code
def yX0_ahead : MethodName := ⟨RX0, "ahead", "(II)I"⟩
def dkwX0_ahead_5 : List UInt8 := [167, 255, 159, 21, 4, 172]
abbrev dktX0_ahead_5 : List UInt8 := dkwX0_ahead_5 ++ []
def dkwX0_ahead_4 : List UInt8 := [167, 0, 4, 3, 54, 7, 21, 4, 21, 7, 153, 0, 7, 4, 167, 0, 4, 3, 96, 54, 4, 132, 5, 1]
abbrev dktX0_ahead_4 : List UInt8 := dkwX0_ahead_4 ++ dktX0_ahead_5
def dkwX0_ahead_3 : List UInt8 := [163, 0, 21, 25, 6, 180, 0, 240, 45, 180, 0, 240, 160, 0, 13, 21, 5, 27, 162, 0, 7, 4]
abbrev dktX0_ahead_3 : List UInt8 := dkwX0_ahead_3 ++ dktX0_ahead_4
def dkwX0_ahead_2 : List UInt8 := [159, 0, 47, 45, 25, 6, 182, 0, 254, 28, 161, 0, 37, 25, 6, 180, 0, 240, 45, 180, 0, 240]
abbrev dktX0_ahead_2 : List UInt8 := dkwX0_ahead_2 ++ dktX0_ahead_3
def dkwX0_ahead_1 : List UInt8 := [182, 0, 111, 162, 0, 91, 42, 180, 0, 18, 21, 5, 182, 0, 237, 192, 0, 140, 58, 6, 21, 5, 27]
abbrev dktX0_ahead_1 : List UInt8 := dkwX0_ahead_1 ++ dktX0_ahead_2
def dkwX0_ahead_0 : List UInt8 := [42, 180, 0, 18, 27, 182, 0, 237, 192, 0, 140, 78, 3, 54, 4, 3, 54, 5, 21, 5, 42, 180, 0, 18]
abbrev dktX0_ahead_0 : List UInt8 := dkwX0_ahead_0 ++ dktX0_ahead_1
theorem dksX0_ahead_0 : cX0_ahead.data.toList.drop 0 = dktX0_ahead_0 := by decide +kernel
theorem dksX0_ahead_1 : cX0_ahead.data.toList.drop 24 = dktX0_ahead_1 := dk_seg dksX0_ahead_0 24 rfl rfl
theorem dksX0_ahead_2 : cX0_ahead.data.toList.drop 47 = dktX0_ahead_2 := dk_seg dksX0_ahead_1 23 rfl rfl
theorem dksX0_ahead_3 : cX0_ahead.data.toList.drop 69 = dktX0_ahead_3 := dk_seg dksX0_ahead_2 22 rfl rfl
theorem dksX0_ahead_4 : cX0_ahead.data.toList.drop 91 = dktX0_ahead_4 := dk_seg dksX0_ahead_3 22 rfl rfl
theorem dksX0_ahead_5 : cX0_ahead.data.toList.drop 115 = dktX0_ahead_5 := dk_seg dksX0_ahead_4 24 rfl rfl
theorem dX0_ahead_0 : decode cX0_ahead 0 = .ok (.aload_n 0, 1) := dk_42 (dk_at dksX0_ahead_0 0 rfl rfl)
theorem dX0_ahead_1 : decode cX0_ahead 1 = .ok (.getfield 18, 3) := dk_180 0 18 (dk_at dksX0_ahead_0 1 rfl rfl)
theorem dX0_ahead_4 : decode cX0_ahead 4 = .ok (.iload_n 1, 1) := dk_27 (dk_at dksX0_ahead_0 4 rfl rfl)
theorem dX0_ahead_5 : decode cX0_ahead 5 = .ok (.invokevirtual 237, 3) := dk_182 0 237 (dk_at dksX0_ahead_0 5 rfl rfl)
theorem dX0_ahead_8 : decode cX0_ahead 8 = .ok (.checkcast 140, 3) := dk_192 0 140 (dk_at dksX0_ahead_0 8 rfl rfl)
theorem dX0_ahead_11 : decode cX0_ahead 11 = .ok (.astore_n 3, 1) := dk_78 (dk_at dksX0_ahead_0 11 rfl rfl)
theorem dX0_ahead_12 : decode cX0_ahead 12 = .ok (.iconst 0, 1) := dk_3 (dk_at dksX0_ahead_0 12 rfl rfl)
theorem dX0_ahead_13 : decode cX0_ahead 13 = .ok (.istore 4, 2) := dk_54 4 (dk_at dksX0_ahead_0 13 rfl rfl)
theorem dX0_ahead_15 : decode cX0_ahead 15 = .ok (.iconst 0, 1) := dk_3 (dk_at dksX0_ahead_0 15 rfl rfl)
theorem dX0_ahead_16 : decode cX0_ahead 16 = .ok (.istore 5, 2) := dk_54 5 (dk_at dksX0_ahead_0 16 rfl rfl)
theorem dX0_ahead_18 : decode cX0_ahead 18 = .ok (.iload 5, 2) := dk_21 5 (dk_at dksX0_ahead_0 18 rfl rfl)
theorem dX0_ahead_20 : decode cX0_ahead 20 = .ok (.aload_n 0, 1) := dk_42 (dk_at dksX0_ahead_0 20 rfl rfl)
theorem dX0_ahead_21 : decode cX0_ahead 21 = .ok (.getfield 18, 3) := dk_180 0 18 (dk_at dksX0_ahead_0 21 rfl rfl)
theorem dX0_ahead_24 : decode cX0_ahead 24 = .ok (.invokevirtual 111, 3) := dk_182 0 111 (dk_at dksX0_ahead_1 0 rfl rfl)
theorem dX0_ahead_27 : decode cX0_ahead 27 = .ok (.if_icmp .ge 91, 3) := dk_162 0 91 (dk_at dksX0_ahead_1 3 rfl rfl)
theorem dX0_ahead_30 : decode cX0_ahead 30 = .ok (.aload_n 0, 1) := dk_42 (dk_at dksX0_ahead_1 6 rfl rfl)
theorem dX0_ahead_31 : decode cX0_ahead 31 = .ok (.getfield 18, 3) := dk_180 0 18 (dk_at dksX0_ahead_1 7 rfl rfl)
theorem dX0_ahead_34 : decode cX0_ahead 34 = .ok (.iload 5, 2) := dk_21 5 (dk_at dksX0_ahead_1 10 rfl rfl)
theorem dX0_ahead_36 : decode cX0_ahead 36 = .ok (.invokevirtual 237, 3) := dk_182 0 237 (dk_at dksX0_ahead_1 12 rfl rfl)
theorem dX0_ahead_39 : decode cX0_ahead 39 = .ok (.checkcast 140, 3) := dk_192 0 140 (dk_at dksX0_ahead_1 15 rfl rfl)
theorem dX0_ahead_42 : decode cX0_ahead 42 = .ok (.astore 6, 2) := dk_58 6 (dk_at dksX0_ahead_1 18 rfl rfl)
theorem dX0_ahead_44 : decode cX0_ahead 44 = .ok (.iload 5, 2) := dk_21 5 (dk_at dksX0_ahead_1 20 rfl rfl)
theorem dX0_ahead_46 : decode cX0_ahead 46 = .ok (.iload_n 1, 1) := dk_27 (dk_at dksX0_ahead_1 22 rfl rfl)
theorem dX0_ahead_47 : decode cX0_ahead 47 = .ok (.if_icmp .eq 47, 3) := dk_159 0 47 (dk_at dksX0_ahead_2 0 rfl rfl)
theorem dX0_ahead_50 : decode cX0_ahead 50 = .ok (.aload_n 3, 1) := dk_45 (dk_at dksX0_ahead_2 3 rfl rfl)
theorem dX0_ahead_51 : decode cX0_ahead 51 = .ok (.aload 6, 2) := dk_25 6 (dk_at dksX0_ahead_2 4 rfl rfl)
theorem dX0_ahead_53 : decode cX0_ahead 53 = .ok (.invokevirtual 254, 3) := dk_182 0 254 (dk_at dksX0_ahead_2 6 rfl rfl)
theorem dX0_ahead_56 : decode cX0_ahead 56 = .ok (.iload_n 2, 1) := dk_28 (dk_at dksX0_ahead_2 9 rfl rfl)
theorem dX0_ahead_57 : decode cX0_ahead 57 = .ok (.if_icmp .lt 37, 3) := dk_161 0 37 (dk_at dksX0_ahead_2 10 rfl rfl)
theorem dX0_ahead_60 : decode cX0_ahead 60 = .ok (.aload 6, 2) := dk_25 6 (dk_at dksX0_ahead_2 13 rfl rfl)
theorem dX0_ahead_62 : decode cX0_ahead 62 = .ok (.getfield 240, 3) := dk_180 0 240 (dk_at dksX0_ahead_2 15 rfl rfl)
theorem dX0_ahead_65 : decode cX0_ahead 65 = .ok (.aload_n 3, 1) := dk_45 (dk_at dksX0_ahead_2 18 rfl rfl)
theorem dX0_ahead_66 : decode cX0_ahead 66 = .ok (.getfield 240, 3) := dk_180 0 240 (dk_at dksX0_ahead_2 19 rfl rfl)
theorem dX0_ahead_69 : decode cX0_ahead 69 = .ok (.if_icmp .gt 21, 3) := dk_163 0 21 (dk_at dksX0_ahead_3 0 rfl rfl)
theorem dX0_ahead_72 : decode cX0_ahead 72 = .ok (.aload 6, 2) := dk_25 6 (dk_at dksX0_ahead_3 3 rfl rfl)
theorem dX0_ahead_74 : decode cX0_ahead 74 = .ok (.getfield 240, 3) := dk_180 0 240 (dk_at dksX0_ahead_3 5 rfl rfl)
theorem dX0_ahead_77 : decode cX0_ahead 77 = .ok (.aload_n 3, 1) := dk_45 (dk_at dksX0_ahead_3 8 rfl rfl)
theorem dX0_ahead_78 : decode cX0_ahead 78 = .ok (.getfield 240, 3) := dk_180 0 240 (dk_at dksX0_ahead_3 9 rfl rfl)
theorem dX0_ahead_81 : decode cX0_ahead 81 = .ok (.if_icmp .ne 13, 3) := dk_160 0 13 (dk_at dksX0_ahead_3 12 rfl rfl)
theorem dX0_ahead_84 : decode cX0_ahead 84 = .ok (.iload 5, 2) := dk_21 5 (dk_at dksX0_ahead_3 15 rfl rfl)
theorem dX0_ahead_86 : decode cX0_ahead 86 = .ok (.iload_n 1, 1) := dk_27 (dk_at dksX0_ahead_3 17 rfl rfl)
theorem dX0_ahead_87 : decode cX0_ahead 87 = .ok (.if_icmp .ge 7, 3) := dk_162 0 7 (dk_at dksX0_ahead_3 18 rfl rfl)
theorem dX0_ahead_90 : decode cX0_ahead 90 = .ok (.iconst 1, 1) := dk_4 (dk_at dksX0_ahead_3 21 rfl rfl)
theorem dX0_ahead_91 : decode cX0_ahead 91 = .ok (.goto 4, 3) := dk_167 0 4 (dk_at dksX0_ahead_4 0 rfl rfl)
theorem dX0_ahead_94 : decode cX0_ahead 94 = .ok (.iconst 0, 1) := dk_3 (dk_at dksX0_ahead_4 3 rfl rfl)
theorem dX0_ahead_95 : decode cX0_ahead 95 = .ok (.istore 7, 2) := dk_54 7 (dk_at dksX0_ahead_4 4 rfl rfl)
theorem dX0_ahead_97 : decode cX0_ahead 97 = .ok (.iload 4, 2) := dk_21 4 (dk_at dksX0_ahead_4 6 rfl rfl)
theorem dX0_ahead_99 : decode cX0_ahead 99 = .ok (.iload 7, 2) := dk_21 7 (dk_at dksX0_ahead_4 8 rfl rfl)
theorem dX0_ahead_101 : decode cX0_ahead 101 = .ok (.ifCond .eq 7, 3) := dk_153 0 7 (dk_at dksX0_ahead_4 10 rfl rfl)
theorem dX0_ahead_104 : decode cX0_ahead 104 = .ok (.iconst 1, 1) := dk_4 (dk_at dksX0_ahead_4 13 rfl rfl)
theorem dX0_ahead_105 : decode cX0_ahead 105 = .ok (.goto 4, 3) := dk_167 0 4 (dk_at dksX0_ahead_4 14 rfl rfl)
theorem dX0_ahead_108 : decode cX0_ahead 108 = .ok (.iconst 0, 1) := dk_3 (dk_at dksX0_ahead_4 17 rfl rfl)
theorem dX0_ahead_109 : decode cX0_ahead 109 = .ok (.iadd, 1) := dk_96 (dk_at dksX0_ahead_4 18 rfl rfl)
theorem dX0_ahead_110 : decode cX0_ahead 110 = .ok (.istore 4, 2) := dk_54 4 (dk_at dksX0_ahead_4 19 rfl rfl)
theorem dX0_ahead_112 : decode cX0_ahead 112 = .ok (.iinc 5 1, 3) := dk_132 5 1 (dk_at dksX0_ahead_4 21 rfl rfl)
theorem dX0_ahead_115 : decode cX0_ahead 115 = .ok (.goto (-97), 3) := dk_167 255 159 (dk_at dksX0_ahead_5 0 rfl rfl)
theorem dX0_ahead_118 : decode cX0_ahead 118 = .ok (.iload 4, 2) := dk_21 4 (dk_at dksX0_ahead_5 3 rfl rfl)
theorem dX0_ahead_120 : decode cX0_ahead 120 = .ok (.ireturn, 1) := dk_172 (dk_at dksX0_ahead_5 5 rfl rfl)
abbrev cX0_deepOf : ByteArray := prog_1_method_49_code
def yX0_deepOf : MethodName := ⟨RX0, "deepOf", "(II)I"⟩
def dkwX0_deepOf_4 : List UInt8 := [21, 5, 172]
abbrev dktX0_deepOf_4 : List UInt8 := dkwX0_deepOf_4 ++ []
def dkwX0_deepOf_3 : List UInt8 := [29, 21, 6, 29, 100, 182, 1, 135, 54, 8, 167, 255, 227, 21, 8, 54, 4, 132, 5, 1, 167, 255, 185]
abbrev dktX0_deepOf_3 : List UInt8 := dkwX0_deepOf_3 ++ dktX0_deepOf_4
def dkwX0_deepOf_2 : List UInt8 := [182, 1, 135, 54, 8, 28, 29, 21, 8, 96, 161, 0, 27, 29, 21, 8, 96, 62, 132, 7, 255, 42, 21, 7]
abbrev dktX0_deepOf_2 : List UInt8 := dkwX0_deepOf_2 ++ dktX0_deepOf_3
def dkwX0_deepOf_1 : List UInt8 := [164, 0, 71, 29, 21, 4, 96, 54, 6, 42, 29, 21, 4, 182, 1, 132, 54, 7, 42, 21, 7, 29, 21, 4]
abbrev dktX0_deepOf_1 : List UInt8 := dkwX0_deepOf_1 ++ dktX0_deepOf_2
def dkwX0_deepOf_0 : List UInt8 := [42, 27, 182, 1, 145, 3, 62, 42, 180, 0, 18, 182, 0, 111, 54, 4, 3, 54, 5, 21, 4, 4]
abbrev dktX0_deepOf_0 : List UInt8 := dkwX0_deepOf_0 ++ dktX0_deepOf_1
theorem dksX0_deepOf_0 : cX0_deepOf.data.toList.drop 0 = dktX0_deepOf_0 := by decide +kernel
theorem dksX0_deepOf_1 : cX0_deepOf.data.toList.drop 22 = dktX0_deepOf_1 := dk_seg dksX0_deepOf_0 22 rfl rfl
theorem dksX0_deepOf_2 : cX0_deepOf.data.toList.drop 46 = dktX0_deepOf_2 := dk_seg dksX0_deepOf_1 24 rfl rfl
theorem dksX0_deepOf_3 : cX0_deepOf.data.toList.drop 70 = dktX0_deepOf_3 := dk_seg dksX0_deepOf_2 24 rfl rfl
theorem dksX0_deepOf_4 : cX0_deepOf.data.toList.drop 93 = dktX0_deepOf_4 := dk_seg dksX0_deepOf_3 23 rfl rfl
theorem dX0_deepOf_0 : decode cX0_deepOf 0 = .ok (.aload_n 0, 1) := dk_42 (dk_at dksX0_deepOf_0 0 rfl rfl)
theorem dX0_deepOf_1 : decode cX0_deepOf 1 = .ok (.iload_n 1, 1) := dk_27 (dk_at dksX0_deepOf_0 1 rfl rfl)
theorem dX0_deepOf_2 : decode cX0_deepOf 2 = .ok (.invokevirtual 401, 3) := dk_182 1 145 (dk_at dksX0_deepOf_0 2 rfl rfl)
theorem dX0_deepOf_5 : decode cX0_deepOf 5 = .ok (.iconst 0, 1) := dk_3 (dk_at dksX0_deepOf_0 5 rfl rfl)
theorem dX0_deepOf_6 : decode cX0_deepOf 6 = .ok (.istore_n 3, 1) := dk_62 (dk_at dksX0_deepOf_0 6 rfl rfl)
theorem dX0_deepOf_7 : decode cX0_deepOf 7 = .ok (.aload_n 0, 1) := dk_42 (dk_at dksX0_deepOf_0 7 rfl rfl)
theorem dX0_deepOf_8 : decode cX0_deepOf 8 = .ok (.getfield 18, 3) := dk_180 0 18 (dk_at dksX0_deepOf_0 8 rfl rfl)
theorem dX0_deepOf_11 : decode cX0_deepOf 11 = .ok (.invokevirtual 111, 3) := dk_182 0 111 (dk_at dksX0_deepOf_0 11 rfl rfl)
theorem dX0_deepOf_14 : decode cX0_deepOf 14 = .ok (.istore 4, 2) := dk_54 4 (dk_at dksX0_deepOf_0 14 rfl rfl)
theorem dX0_deepOf_16 : decode cX0_deepOf 16 = .ok (.iconst 0, 1) := dk_3 (dk_at dksX0_deepOf_0 16 rfl rfl)
theorem dX0_deepOf_17 : decode cX0_deepOf 17 = .ok (.istore 5, 2) := dk_54 5 (dk_at dksX0_deepOf_0 17 rfl rfl)
theorem dX0_deepOf_19 : decode cX0_deepOf 19 = .ok (.iload 4, 2) := dk_21 4 (dk_at dksX0_deepOf_0 19 rfl rfl)
theorem dX0_deepOf_21 : decode cX0_deepOf 21 = .ok (.iconst 1, 1) := dk_4 (dk_at dksX0_deepOf_0 21 rfl rfl)
theorem dX0_deepOf_22 : decode cX0_deepOf 22 = .ok (.if_icmp .le 71, 3) := dk_164 0 71 (dk_at dksX0_deepOf_1 0 rfl rfl)
theorem dX0_deepOf_25 : decode cX0_deepOf 25 = .ok (.iload_n 3, 1) := dk_29 (dk_at dksX0_deepOf_1 3 rfl rfl)
theorem dX0_deepOf_26 : decode cX0_deepOf 26 = .ok (.iload 4, 2) := dk_21 4 (dk_at dksX0_deepOf_1 4 rfl rfl)
theorem dX0_deepOf_28 : decode cX0_deepOf 28 = .ok (.iadd, 1) := dk_96 (dk_at dksX0_deepOf_1 6 rfl rfl)
theorem dX0_deepOf_29 : decode cX0_deepOf 29 = .ok (.istore 6, 2) := dk_54 6 (dk_at dksX0_deepOf_1 7 rfl rfl)
theorem dX0_deepOf_31 : decode cX0_deepOf 31 = .ok (.aload_n 0, 1) := dk_42 (dk_at dksX0_deepOf_1 9 rfl rfl)
theorem dX0_deepOf_32 : decode cX0_deepOf 32 = .ok (.iload_n 3, 1) := dk_29 (dk_at dksX0_deepOf_1 10 rfl rfl)
theorem dX0_deepOf_33 : decode cX0_deepOf 33 = .ok (.iload 4, 2) := dk_21 4 (dk_at dksX0_deepOf_1 11 rfl rfl)
theorem dX0_deepOf_35 : decode cX0_deepOf 35 = .ok (.invokevirtual 388, 3) := dk_182 1 132 (dk_at dksX0_deepOf_1 13 rfl rfl)
theorem dX0_deepOf_38 : decode cX0_deepOf 38 = .ok (.istore 7, 2) := dk_54 7 (dk_at dksX0_deepOf_1 16 rfl rfl)
theorem dX0_deepOf_40 : decode cX0_deepOf 40 = .ok (.aload_n 0, 1) := dk_42 (dk_at dksX0_deepOf_1 18 rfl rfl)
theorem dX0_deepOf_41 : decode cX0_deepOf 41 = .ok (.iload 7, 2) := dk_21 7 (dk_at dksX0_deepOf_1 19 rfl rfl)
theorem dX0_deepOf_43 : decode cX0_deepOf 43 = .ok (.iload_n 3, 1) := dk_29 (dk_at dksX0_deepOf_1 21 rfl rfl)
theorem dX0_deepOf_44 : decode cX0_deepOf 44 = .ok (.iload 4, 2) := dk_21 4 (dk_at dksX0_deepOf_1 22 rfl rfl)
theorem dX0_deepOf_46 : decode cX0_deepOf 46 = .ok (.invokevirtual 391, 3) := dk_182 1 135 (dk_at dksX0_deepOf_2 0 rfl rfl)
theorem dX0_deepOf_49 : decode cX0_deepOf 49 = .ok (.istore 8, 2) := dk_54 8 (dk_at dksX0_deepOf_2 3 rfl rfl)
theorem dX0_deepOf_51 : decode cX0_deepOf 51 = .ok (.iload_n 2, 1) := dk_28 (dk_at dksX0_deepOf_2 5 rfl rfl)
theorem dX0_deepOf_52 : decode cX0_deepOf 52 = .ok (.iload_n 3, 1) := dk_29 (dk_at dksX0_deepOf_2 6 rfl rfl)
theorem dX0_deepOf_53 : decode cX0_deepOf 53 = .ok (.iload 8, 2) := dk_21 8 (dk_at dksX0_deepOf_2 7 rfl rfl)
theorem dX0_deepOf_55 : decode cX0_deepOf 55 = .ok (.iadd, 1) := dk_96 (dk_at dksX0_deepOf_2 9 rfl rfl)
theorem dX0_deepOf_56 : decode cX0_deepOf 56 = .ok (.if_icmp .lt 27, 3) := dk_161 0 27 (dk_at dksX0_deepOf_2 10 rfl rfl)
theorem dX0_deepOf_59 : decode cX0_deepOf 59 = .ok (.iload_n 3, 1) := dk_29 (dk_at dksX0_deepOf_2 13 rfl rfl)
theorem dX0_deepOf_60 : decode cX0_deepOf 60 = .ok (.iload 8, 2) := dk_21 8 (dk_at dksX0_deepOf_2 14 rfl rfl)
theorem dX0_deepOf_62 : decode cX0_deepOf 62 = .ok (.iadd, 1) := dk_96 (dk_at dksX0_deepOf_2 16 rfl rfl)
theorem dX0_deepOf_63 : decode cX0_deepOf 63 = .ok (.istore_n 3, 1) := dk_62 (dk_at dksX0_deepOf_2 17 rfl rfl)
theorem dX0_deepOf_64 : decode cX0_deepOf 64 = .ok (.iinc 7 (-1), 3) := dk_132 7 255 (dk_at dksX0_deepOf_2 18 rfl rfl)
theorem dX0_deepOf_67 : decode cX0_deepOf 67 = .ok (.aload_n 0, 1) := dk_42 (dk_at dksX0_deepOf_2 21 rfl rfl)
theorem dX0_deepOf_68 : decode cX0_deepOf 68 = .ok (.iload 7, 2) := dk_21 7 (dk_at dksX0_deepOf_2 22 rfl rfl)
theorem dX0_deepOf_70 : decode cX0_deepOf 70 = .ok (.iload_n 3, 1) := dk_29 (dk_at dksX0_deepOf_3 0 rfl rfl)
theorem dX0_deepOf_71 : decode cX0_deepOf 71 = .ok (.iload 6, 2) := dk_21 6 (dk_at dksX0_deepOf_3 1 rfl rfl)
theorem dX0_deepOf_73 : decode cX0_deepOf 73 = .ok (.iload_n 3, 1) := dk_29 (dk_at dksX0_deepOf_3 3 rfl rfl)
theorem dX0_deepOf_74 : decode cX0_deepOf 74 = .ok (.isub, 1) := dk_100 (dk_at dksX0_deepOf_3 4 rfl rfl)
theorem dX0_deepOf_75 : decode cX0_deepOf 75 = .ok (.invokevirtual 391, 3) := dk_182 1 135 (dk_at dksX0_deepOf_3 5 rfl rfl)
theorem dX0_deepOf_78 : decode cX0_deepOf 78 = .ok (.istore 8, 2) := dk_54 8 (dk_at dksX0_deepOf_3 8 rfl rfl)
theorem dX0_deepOf_80 : decode cX0_deepOf 80 = .ok (.goto (-29), 3) := dk_167 255 227 (dk_at dksX0_deepOf_3 10 rfl rfl)
theorem dX0_deepOf_83 : decode cX0_deepOf 83 = .ok (.iload 8, 2) := dk_21 8 (dk_at dksX0_deepOf_3 13 rfl rfl)
theorem dX0_deepOf_85 : decode cX0_deepOf 85 = .ok (.istore 4, 2) := dk_54 4 (dk_at dksX0_deepOf_3 15 rfl rfl)
theorem dX0_deepOf_87 : decode cX0_deepOf 87 = .ok (.iinc 5 1, 3) := dk_132 5 1 (dk_at dksX0_deepOf_3 17 rfl rfl)
theorem dX0_deepOf_90 : decode cX0_deepOf 90 = .ok (.goto (-71), 3) := dk_167 255 185 (dk_at dksX0_deepOf_3 20 rfl rfl)
theorem dX0_deepOf_93 : decode cX0_deepOf 93 = .ok (.iload 5, 2) := dk_21 5 (dk_at dksX0_deepOf_4 0 rfl rfl)
theorem dX0_deepOf_95 : decode cX0_deepOf 95 = .ok (.ireturn, 1) := dk_172 (dk_at dksX0_deepOf_4 2 rfl rfl)
abbrev cX0_layLeast : ByteArray := prog_1_method_41_code
def yX0_layLeast : MethodName := ⟨RX0, "layLeast", "(I)V"⟩
def dkwX0_layLeast_2 : List UInt8 := [167, 255, 214, 177]
abbrev dktX0_layLeast_2 : List UInt8 := dkwX0_layLeast_2 ++ []
def dkwX0_layLeast_1 : List UInt8 := [182, 0, 111, 163, 0, 16, 42, 27, 29, 28, 182, 1, 115, 132, 3, 1, 167, 255, 233, 132, 2, 1]
abbrev dktX0_layLeast_1 : List UInt8 := dkwX0_layLeast_1 ++ dktX0_layLeast_2
def dkwX0_layLeast_0 : List UInt8 := [3, 61, 28, 42, 180, 0, 18, 182, 0, 111, 163, 0, 37, 3, 62, 29, 28, 96, 42, 180, 0, 18]
abbrev dktX0_layLeast_0 : List UInt8 := dkwX0_layLeast_0 ++ dktX0_layLeast_1
theorem dksX0_layLeast_0 : cX0_layLeast.data.toList.drop 0 = dktX0_layLeast_0 := by decide +kernel
theorem dksX0_layLeast_1 : cX0_layLeast.data.toList.drop 22 = dktX0_layLeast_1 := dk_seg dksX0_layLeast_0 22 rfl rfl
theorem dksX0_layLeast_2 : cX0_layLeast.data.toList.drop 44 = dktX0_layLeast_2 := dk_seg dksX0_layLeast_1 22 rfl rfl
theorem dX0_layLeast_0 : decode cX0_layLeast 0 = .ok (.iconst 0, 1) := dk_3 (dk_at dksX0_layLeast_0 0 rfl rfl)
theorem dX0_layLeast_1 : decode cX0_layLeast 1 = .ok (.istore_n 2, 1) := dk_61 (dk_at dksX0_layLeast_0 1 rfl rfl)
theorem dX0_layLeast_2 : decode cX0_layLeast 2 = .ok (.iload_n 2, 1) := dk_28 (dk_at dksX0_layLeast_0 2 rfl rfl)
theorem dX0_layLeast_3 : decode cX0_layLeast 3 = .ok (.aload_n 0, 1) := dk_42 (dk_at dksX0_layLeast_0 3 rfl rfl)
theorem dX0_layLeast_4 : decode cX0_layLeast 4 = .ok (.getfield 18, 3) := dk_180 0 18 (dk_at dksX0_layLeast_0 4 rfl rfl)
theorem dX0_layLeast_7 : decode cX0_layLeast 7 = .ok (.invokevirtual 111, 3) := dk_182 0 111 (dk_at dksX0_layLeast_0 7 rfl rfl)
theorem dX0_layLeast_10 : decode cX0_layLeast 10 = .ok (.if_icmp .gt 37, 3) := dk_163 0 37 (dk_at dksX0_layLeast_0 10 rfl rfl)
theorem dX0_layLeast_13 : decode cX0_layLeast 13 = .ok (.iconst 0, 1) := dk_3 (dk_at dksX0_layLeast_0 13 rfl rfl)
theorem dX0_layLeast_14 : decode cX0_layLeast 14 = .ok (.istore_n 3, 1) := dk_62 (dk_at dksX0_layLeast_0 14 rfl rfl)
theorem dX0_layLeast_15 : decode cX0_layLeast 15 = .ok (.iload_n 3, 1) := dk_29 (dk_at dksX0_layLeast_0 15 rfl rfl)
theorem dX0_layLeast_16 : decode cX0_layLeast 16 = .ok (.iload_n 2, 1) := dk_28 (dk_at dksX0_layLeast_0 16 rfl rfl)
theorem dX0_layLeast_17 : decode cX0_layLeast 17 = .ok (.iadd, 1) := dk_96 (dk_at dksX0_layLeast_0 17 rfl rfl)
theorem dX0_layLeast_18 : decode cX0_layLeast 18 = .ok (.aload_n 0, 1) := dk_42 (dk_at dksX0_layLeast_0 18 rfl rfl)
theorem dX0_layLeast_19 : decode cX0_layLeast 19 = .ok (.getfield 18, 3) := dk_180 0 18 (dk_at dksX0_layLeast_0 19 rfl rfl)
theorem dX0_layLeast_22 : decode cX0_layLeast 22 = .ok (.invokevirtual 111, 3) := dk_182 0 111 (dk_at dksX0_layLeast_1 0 rfl rfl)
theorem dX0_layLeast_25 : decode cX0_layLeast 25 = .ok (.if_icmp .gt 16, 3) := dk_163 0 16 (dk_at dksX0_layLeast_1 3 rfl rfl)
theorem dX0_layLeast_28 : decode cX0_layLeast 28 = .ok (.aload_n 0, 1) := dk_42 (dk_at dksX0_layLeast_1 6 rfl rfl)
theorem dX0_layLeast_29 : decode cX0_layLeast 29 = .ok (.iload_n 1, 1) := dk_27 (dk_at dksX0_layLeast_1 7 rfl rfl)
theorem dX0_layLeast_30 : decode cX0_layLeast 30 = .ok (.iload_n 3, 1) := dk_29 (dk_at dksX0_layLeast_1 8 rfl rfl)
theorem dX0_layLeast_31 : decode cX0_layLeast 31 = .ok (.iload_n 2, 1) := dk_28 (dk_at dksX0_layLeast_1 9 rfl rfl)
theorem dX0_layLeast_32 : decode cX0_layLeast 32 = .ok (.invokevirtual 371, 3) := dk_182 1 115 (dk_at dksX0_layLeast_1 10 rfl rfl)
theorem dX0_layLeast_35 : decode cX0_layLeast 35 = .ok (.iinc 3 1, 3) := dk_132 3 1 (dk_at dksX0_layLeast_1 13 rfl rfl)
theorem dX0_layLeast_38 : decode cX0_layLeast 38 = .ok (.goto (-23), 3) := dk_167 255 233 (dk_at dksX0_layLeast_1 16 rfl rfl)
theorem dX0_layLeast_41 : decode cX0_layLeast 41 = .ok (.iinc 2 1, 3) := dk_132 2 1 (dk_at dksX0_layLeast_1 19 rfl rfl)
theorem dX0_layLeast_44 : decode cX0_layLeast 44 = .ok (.goto (-42), 3) := dk_167 255 214 (dk_at dksX0_layLeast_2 0 rfl rfl)
theorem dX0_layLeast_47 : decode cX0_layLeast 47 = .ok (.return_, 1) := dk_177 (dk_at dksX0_layLeast_2 3 rfl rfl)
abbrev cX0_layOne : ByteArray := prog_1_method_42_code
def yX0_layOne : MethodName := ⟨RX0, "layOne", "(III)V"⟩
def dkwX0_layOne_8 : List UInt8 := [28, 50, 29, 29, 154, 0, 9, 19, 1, 8, 167, 0, 8, 21, 5, 21, 4, 96, 79, 177]
abbrev dktX0_layOne_8 : List UInt8 := dkwX0_layOne_8 ++ []
def dkwX0_layOne_7 : List UInt8 := [54, 5, 132, 6, 1, 167, 255, 229, 42, 180, 0, 79, 28, 50, 29, 21, 5, 79, 42, 180, 0, 84, 4, 50]
abbrev dktX0_layOne_7 : List UInt8 := dkwX0_layOne_7 ++ dktX0_layOne_8
def dkwX0_layOne_6 : List UInt8 := [54, 6, 21, 6, 27, 163, 0, 27, 21, 5, 42, 180, 0, 84, 21, 6, 50, 28, 50, 29, 46, 184, 1, 12]
abbrev dktX0_layOne_6 : List UInt8 := dkwX0_layOne_6 ++ dktX0_layOne_7
def dkwX0_layOne_5 : List UInt8 := [167, 255, 194, 132, 5, 1, 167, 255, 165, 29, 5, 162, 0, 7, 3, 167, 0, 6, 19, 1, 8, 54, 5, 5]
abbrev dktX0_layOne_5 : List UInt8 := dkwX0_layOne_5 ++ dktX0_layOne_6
def dkwX0_layOne_4 : List UInt8 := [50, 28, 50, 29, 42, 180, 0, 84, 21, 5, 50, 28, 50, 29, 46, 21, 7, 184, 1, 12, 79, 132, 6, 1]
abbrev dktX0_layOne_4 : List UInt8 := dkwX0_layOne_4 ++ dktX0_layOne_5
def dkwX0_layOne_3 : List UInt8 := [21, 5, 4, 100, 28, 21, 6, 96, 29, 21, 6, 100, 182, 1, 125, 96, 54, 7, 42, 180, 0, 84, 21, 5]
abbrev dktX0_layOne_3 : List UInt8 := dkwX0_layOne_3 ++ dktX0_layOne_4
def dkwX0_layOne_2 : List UInt8 := [50, 29, 19, 1, 8, 79, 4, 54, 6, 21, 6, 29, 162, 0, 62, 42, 28, 21, 6, 182, 1, 122, 42]
abbrev dktX0_layOne_2 : List UInt8 := dkwX0_layOne_2 ++ dktX0_layOne_3
def dkwX0_layOne_1 : List UInt8 := [167, 0, 6, 19, 1, 8, 79, 5, 54, 5, 21, 5, 27, 163, 0, 91, 42, 180, 0, 84, 21, 5, 50, 28]
abbrev dktX0_layOne_1 : List UInt8 := dkwX0_layOne_1 ++ dktX0_layOne_2
def dkwX0_layOne_0 : List UInt8 := [42, 28, 28, 29, 96, 182, 1, 119, 54, 4, 42, 180, 0, 84, 3, 50, 28, 50, 29, 29, 154, 0, 7, 3]
abbrev dktX0_layOne_0 : List UInt8 := dkwX0_layOne_0 ++ dktX0_layOne_1
theorem dksX0_layOne_0 : cX0_layOne.data.toList.drop 0 = dktX0_layOne_0 := by decide +kernel
theorem dksX0_layOne_1 : cX0_layOne.data.toList.drop 24 = dktX0_layOne_1 := dk_seg dksX0_layOne_0 24 rfl rfl
theorem dksX0_layOne_2 : cX0_layOne.data.toList.drop 48 = dktX0_layOne_2 := dk_seg dksX0_layOne_1 24 rfl rfl
theorem dksX0_layOne_3 : cX0_layOne.data.toList.drop 71 = dktX0_layOne_3 := dk_seg dksX0_layOne_2 23 rfl rfl
theorem dksX0_layOne_4 : cX0_layOne.data.toList.drop 95 = dktX0_layOne_4 := dk_seg dksX0_layOne_3 24 rfl rfl
theorem dksX0_layOne_5 : cX0_layOne.data.toList.drop 119 = dktX0_layOne_5 := dk_seg dksX0_layOne_4 24 rfl rfl
theorem dksX0_layOne_6 : cX0_layOne.data.toList.drop 143 = dktX0_layOne_6 := dk_seg dksX0_layOne_5 24 rfl rfl
theorem dksX0_layOne_7 : cX0_layOne.data.toList.drop 167 = dktX0_layOne_7 := dk_seg dksX0_layOne_6 24 rfl rfl
theorem dksX0_layOne_8 : cX0_layOne.data.toList.drop 191 = dktX0_layOne_8 := dk_seg dksX0_layOne_7 24 rfl rfl
theorem dX0_layOne_0 : decode cX0_layOne 0 = .ok (.aload_n 0, 1) := dk_42 (dk_at dksX0_layOne_0 0 rfl rfl)
theorem dX0_layOne_1 : decode cX0_layOne 1 = .ok (.iload_n 2, 1) := dk_28 (dk_at dksX0_layOne_0 1 rfl rfl)
theorem dX0_layOne_2 : decode cX0_layOne 2 = .ok (.iload_n 2, 1) := dk_28 (dk_at dksX0_layOne_0 2 rfl rfl)
theorem dX0_layOne_3 : decode cX0_layOne 3 = .ok (.iload_n 3, 1) := dk_29 (dk_at dksX0_layOne_0 3 rfl rfl)
theorem dX0_layOne_4 : decode cX0_layOne 4 = .ok (.iadd, 1) := dk_96 (dk_at dksX0_layOne_0 4 rfl rfl)
theorem dX0_layOne_5 : decode cX0_layOne 5 = .ok (.invokevirtual 375, 3) := dk_182 1 119 (dk_at dksX0_layOne_0 5 rfl rfl)
theorem dX0_layOne_8 : decode cX0_layOne 8 = .ok (.istore 4, 2) := dk_54 4 (dk_at dksX0_layOne_0 8 rfl rfl)
theorem dX0_layOne_10 : decode cX0_layOne 10 = .ok (.aload_n 0, 1) := dk_42 (dk_at dksX0_layOne_0 10 rfl rfl)
theorem dX0_layOne_11 : decode cX0_layOne 11 = .ok (.getfield 84, 3) := dk_180 0 84 (dk_at dksX0_layOne_0 11 rfl rfl)
theorem dX0_layOne_14 : decode cX0_layOne 14 = .ok (.iconst 0, 1) := dk_3 (dk_at dksX0_layOne_0 14 rfl rfl)
theorem dX0_layOne_15 : decode cX0_layOne 15 = .ok (.aaload, 1) := dk_50 (dk_at dksX0_layOne_0 15 rfl rfl)
theorem dX0_layOne_16 : decode cX0_layOne 16 = .ok (.iload_n 2, 1) := dk_28 (dk_at dksX0_layOne_0 16 rfl rfl)
theorem dX0_layOne_17 : decode cX0_layOne 17 = .ok (.aaload, 1) := dk_50 (dk_at dksX0_layOne_0 17 rfl rfl)
theorem dX0_layOne_18 : decode cX0_layOne 18 = .ok (.iload_n 3, 1) := dk_29 (dk_at dksX0_layOne_0 18 rfl rfl)
theorem dX0_layOne_19 : decode cX0_layOne 19 = .ok (.iload_n 3, 1) := dk_29 (dk_at dksX0_layOne_0 19 rfl rfl)
theorem dX0_layOne_20 : decode cX0_layOne 20 = .ok (.ifCond .ne 7, 3) := dk_154 0 7 (dk_at dksX0_layOne_0 20 rfl rfl)
theorem dX0_layOne_23 : decode cX0_layOne 23 = .ok (.iconst 0, 1) := dk_3 (dk_at dksX0_layOne_0 23 rfl rfl)
theorem dX0_layOne_24 : decode cX0_layOne 24 = .ok (.goto 6, 3) := dk_167 0 6 (dk_at dksX0_layOne_1 0 rfl rfl)
theorem dX0_layOne_27 : decode cX0_layOne 27 = .ok (.ldc_w 264, 3) := dk_19 1 8 (dk_at dksX0_layOne_1 3 rfl rfl)
theorem dX0_layOne_30 : decode cX0_layOne 30 = .ok (.iastore, 1) := dk_79 (dk_at dksX0_layOne_1 6 rfl rfl)
theorem dX0_layOne_31 : decode cX0_layOne 31 = .ok (.iconst 2, 1) := dk_5 (dk_at dksX0_layOne_1 7 rfl rfl)
theorem dX0_layOne_32 : decode cX0_layOne 32 = .ok (.istore 5, 2) := dk_54 5 (dk_at dksX0_layOne_1 8 rfl rfl)
theorem dX0_layOne_34 : decode cX0_layOne 34 = .ok (.iload 5, 2) := dk_21 5 (dk_at dksX0_layOne_1 10 rfl rfl)
theorem dX0_layOne_36 : decode cX0_layOne 36 = .ok (.iload_n 1, 1) := dk_27 (dk_at dksX0_layOne_1 12 rfl rfl)
theorem dX0_layOne_37 : decode cX0_layOne 37 = .ok (.if_icmp .gt 91, 3) := dk_163 0 91 (dk_at dksX0_layOne_1 13 rfl rfl)
theorem dX0_layOne_40 : decode cX0_layOne 40 = .ok (.aload_n 0, 1) := dk_42 (dk_at dksX0_layOne_1 16 rfl rfl)
theorem dX0_layOne_41 : decode cX0_layOne 41 = .ok (.getfield 84, 3) := dk_180 0 84 (dk_at dksX0_layOne_1 17 rfl rfl)
theorem dX0_layOne_44 : decode cX0_layOne 44 = .ok (.iload 5, 2) := dk_21 5 (dk_at dksX0_layOne_1 20 rfl rfl)
theorem dX0_layOne_46 : decode cX0_layOne 46 = .ok (.aaload, 1) := dk_50 (dk_at dksX0_layOne_1 22 rfl rfl)
theorem dX0_layOne_47 : decode cX0_layOne 47 = .ok (.iload_n 2, 1) := dk_28 (dk_at dksX0_layOne_1 23 rfl rfl)
theorem dX0_layOne_48 : decode cX0_layOne 48 = .ok (.aaload, 1) := dk_50 (dk_at dksX0_layOne_2 0 rfl rfl)
theorem dX0_layOne_49 : decode cX0_layOne 49 = .ok (.iload_n 3, 1) := dk_29 (dk_at dksX0_layOne_2 1 rfl rfl)
theorem dX0_layOne_50 : decode cX0_layOne 50 = .ok (.ldc_w 264, 3) := dk_19 1 8 (dk_at dksX0_layOne_2 2 rfl rfl)
theorem dX0_layOne_53 : decode cX0_layOne 53 = .ok (.iastore, 1) := dk_79 (dk_at dksX0_layOne_2 5 rfl rfl)
theorem dX0_layOne_54 : decode cX0_layOne 54 = .ok (.iconst 1, 1) := dk_4 (dk_at dksX0_layOne_2 6 rfl rfl)
theorem dX0_layOne_55 : decode cX0_layOne 55 = .ok (.istore 6, 2) := dk_54 6 (dk_at dksX0_layOne_2 7 rfl rfl)
theorem dX0_layOne_57 : decode cX0_layOne 57 = .ok (.iload 6, 2) := dk_21 6 (dk_at dksX0_layOne_2 9 rfl rfl)
theorem dX0_layOne_59 : decode cX0_layOne 59 = .ok (.iload_n 3, 1) := dk_29 (dk_at dksX0_layOne_2 11 rfl rfl)
theorem dX0_layOne_60 : decode cX0_layOne 60 = .ok (.if_icmp .ge 62, 3) := dk_162 0 62 (dk_at dksX0_layOne_2 12 rfl rfl)
theorem dX0_layOne_63 : decode cX0_layOne 63 = .ok (.aload_n 0, 1) := dk_42 (dk_at dksX0_layOne_2 15 rfl rfl)
theorem dX0_layOne_64 : decode cX0_layOne 64 = .ok (.iload_n 2, 1) := dk_28 (dk_at dksX0_layOne_2 16 rfl rfl)
theorem dX0_layOne_65 : decode cX0_layOne 65 = .ok (.iload 6, 2) := dk_21 6 (dk_at dksX0_layOne_2 17 rfl rfl)
theorem dX0_layOne_67 : decode cX0_layOne 67 = .ok (.invokevirtual 378, 3) := dk_182 1 122 (dk_at dksX0_layOne_2 19 rfl rfl)
theorem dX0_layOne_70 : decode cX0_layOne 70 = .ok (.aload_n 0, 1) := dk_42 (dk_at dksX0_layOne_2 22 rfl rfl)
theorem dX0_layOne_71 : decode cX0_layOne 71 = .ok (.iload 5, 2) := dk_21 5 (dk_at dksX0_layOne_3 0 rfl rfl)
theorem dX0_layOne_73 : decode cX0_layOne 73 = .ok (.iconst 1, 1) := dk_4 (dk_at dksX0_layOne_3 2 rfl rfl)
theorem dX0_layOne_74 : decode cX0_layOne 74 = .ok (.isub, 1) := dk_100 (dk_at dksX0_layOne_3 3 rfl rfl)
theorem dX0_layOne_75 : decode cX0_layOne 75 = .ok (.iload_n 2, 1) := dk_28 (dk_at dksX0_layOne_3 4 rfl rfl)
theorem dX0_layOne_76 : decode cX0_layOne 76 = .ok (.iload 6, 2) := dk_21 6 (dk_at dksX0_layOne_3 5 rfl rfl)
theorem dX0_layOne_78 : decode cX0_layOne 78 = .ok (.iadd, 1) := dk_96 (dk_at dksX0_layOne_3 7 rfl rfl)
theorem dX0_layOne_79 : decode cX0_layOne 79 = .ok (.iload_n 3, 1) := dk_29 (dk_at dksX0_layOne_3 8 rfl rfl)
theorem dX0_layOne_80 : decode cX0_layOne 80 = .ok (.iload 6, 2) := dk_21 6 (dk_at dksX0_layOne_3 9 rfl rfl)
theorem dX0_layOne_82 : decode cX0_layOne 82 = .ok (.isub, 1) := dk_100 (dk_at dksX0_layOne_3 11 rfl rfl)
theorem dX0_layOne_83 : decode cX0_layOne 83 = .ok (.invokevirtual 381, 3) := dk_182 1 125 (dk_at dksX0_layOne_3 12 rfl rfl)
theorem dX0_layOne_86 : decode cX0_layOne 86 = .ok (.iadd, 1) := dk_96 (dk_at dksX0_layOne_3 15 rfl rfl)
theorem dX0_layOne_87 : decode cX0_layOne 87 = .ok (.istore 7, 2) := dk_54 7 (dk_at dksX0_layOne_3 16 rfl rfl)
theorem dX0_layOne_89 : decode cX0_layOne 89 = .ok (.aload_n 0, 1) := dk_42 (dk_at dksX0_layOne_3 18 rfl rfl)
theorem dX0_layOne_90 : decode cX0_layOne 90 = .ok (.getfield 84, 3) := dk_180 0 84 (dk_at dksX0_layOne_3 19 rfl rfl)
theorem dX0_layOne_93 : decode cX0_layOne 93 = .ok (.iload 5, 2) := dk_21 5 (dk_at dksX0_layOne_3 22 rfl rfl)
theorem dX0_layOne_95 : decode cX0_layOne 95 = .ok (.aaload, 1) := dk_50 (dk_at dksX0_layOne_4 0 rfl rfl)
theorem dX0_layOne_96 : decode cX0_layOne 96 = .ok (.iload_n 2, 1) := dk_28 (dk_at dksX0_layOne_4 1 rfl rfl)
theorem dX0_layOne_97 : decode cX0_layOne 97 = .ok (.aaload, 1) := dk_50 (dk_at dksX0_layOne_4 2 rfl rfl)
theorem dX0_layOne_98 : decode cX0_layOne 98 = .ok (.iload_n 3, 1) := dk_29 (dk_at dksX0_layOne_4 3 rfl rfl)
theorem dX0_layOne_99 : decode cX0_layOne 99 = .ok (.aload_n 0, 1) := dk_42 (dk_at dksX0_layOne_4 4 rfl rfl)
theorem dX0_layOne_100 : decode cX0_layOne 100 = .ok (.getfield 84, 3) := dk_180 0 84 (dk_at dksX0_layOne_4 5 rfl rfl)
theorem dX0_layOne_103 : decode cX0_layOne 103 = .ok (.iload 5, 2) := dk_21 5 (dk_at dksX0_layOne_4 8 rfl rfl)
theorem dX0_layOne_105 : decode cX0_layOne 105 = .ok (.aaload, 1) := dk_50 (dk_at dksX0_layOne_4 10 rfl rfl)
theorem dX0_layOne_106 : decode cX0_layOne 106 = .ok (.iload_n 2, 1) := dk_28 (dk_at dksX0_layOne_4 11 rfl rfl)
theorem dX0_layOne_107 : decode cX0_layOne 107 = .ok (.aaload, 1) := dk_50 (dk_at dksX0_layOne_4 12 rfl rfl)
theorem dX0_layOne_108 : decode cX0_layOne 108 = .ok (.iload_n 3, 1) := dk_29 (dk_at dksX0_layOne_4 13 rfl rfl)
theorem dX0_layOne_109 : decode cX0_layOne 109 = .ok (.iaload, 1) := dk_46 (dk_at dksX0_layOne_4 14 rfl rfl)
theorem dX0_layOne_110 : decode cX0_layOne 110 = .ok (.iload 7, 2) := dk_21 7 (dk_at dksX0_layOne_4 15 rfl rfl)
theorem dX0_layOne_112 : decode cX0_layOne 112 = .ok (.invokestatic 268, 3) := dk_184 1 12 (dk_at dksX0_layOne_4 17 rfl rfl)
theorem dX0_layOne_115 : decode cX0_layOne 115 = .ok (.iastore, 1) := dk_79 (dk_at dksX0_layOne_4 20 rfl rfl)
theorem dX0_layOne_116 : decode cX0_layOne 116 = .ok (.iinc 6 1, 3) := dk_132 6 1 (dk_at dksX0_layOne_4 21 rfl rfl)
theorem dX0_layOne_119 : decode cX0_layOne 119 = .ok (.goto (-62), 3) := dk_167 255 194 (dk_at dksX0_layOne_5 0 rfl rfl)
theorem dX0_layOne_122 : decode cX0_layOne 122 = .ok (.iinc 5 1, 3) := dk_132 5 1 (dk_at dksX0_layOne_5 3 rfl rfl)
theorem dX0_layOne_125 : decode cX0_layOne 125 = .ok (.goto (-91), 3) := dk_167 255 165 (dk_at dksX0_layOne_5 6 rfl rfl)
theorem dX0_layOne_128 : decode cX0_layOne 128 = .ok (.iload_n 3, 1) := dk_29 (dk_at dksX0_layOne_5 9 rfl rfl)
theorem dX0_layOne_129 : decode cX0_layOne 129 = .ok (.iconst 2, 1) := dk_5 (dk_at dksX0_layOne_5 10 rfl rfl)
theorem dX0_layOne_130 : decode cX0_layOne 130 = .ok (.if_icmp .ge 7, 3) := dk_162 0 7 (dk_at dksX0_layOne_5 11 rfl rfl)
theorem dX0_layOne_133 : decode cX0_layOne 133 = .ok (.iconst 0, 1) := dk_3 (dk_at dksX0_layOne_5 14 rfl rfl)
theorem dX0_layOne_134 : decode cX0_layOne 134 = .ok (.goto 6, 3) := dk_167 0 6 (dk_at dksX0_layOne_5 15 rfl rfl)
theorem dX0_layOne_137 : decode cX0_layOne 137 = .ok (.ldc_w 264, 3) := dk_19 1 8 (dk_at dksX0_layOne_5 18 rfl rfl)
theorem dX0_layOne_140 : decode cX0_layOne 140 = .ok (.istore 5, 2) := dk_54 5 (dk_at dksX0_layOne_5 21 rfl rfl)
theorem dX0_layOne_142 : decode cX0_layOne 142 = .ok (.iconst 2, 1) := dk_5 (dk_at dksX0_layOne_5 23 rfl rfl)
theorem dX0_layOne_143 : decode cX0_layOne 143 = .ok (.istore 6, 2) := dk_54 6 (dk_at dksX0_layOne_6 0 rfl rfl)
theorem dX0_layOne_145 : decode cX0_layOne 145 = .ok (.iload 6, 2) := dk_21 6 (dk_at dksX0_layOne_6 2 rfl rfl)
theorem dX0_layOne_147 : decode cX0_layOne 147 = .ok (.iload_n 1, 1) := dk_27 (dk_at dksX0_layOne_6 4 rfl rfl)
theorem dX0_layOne_148 : decode cX0_layOne 148 = .ok (.if_icmp .gt 27, 3) := dk_163 0 27 (dk_at dksX0_layOne_6 5 rfl rfl)
theorem dX0_layOne_151 : decode cX0_layOne 151 = .ok (.iload 5, 2) := dk_21 5 (dk_at dksX0_layOne_6 8 rfl rfl)
theorem dX0_layOne_153 : decode cX0_layOne 153 = .ok (.aload_n 0, 1) := dk_42 (dk_at dksX0_layOne_6 10 rfl rfl)
theorem dX0_layOne_154 : decode cX0_layOne 154 = .ok (.getfield 84, 3) := dk_180 0 84 (dk_at dksX0_layOne_6 11 rfl rfl)
theorem dX0_layOne_157 : decode cX0_layOne 157 = .ok (.iload 6, 2) := dk_21 6 (dk_at dksX0_layOne_6 14 rfl rfl)
theorem dX0_layOne_159 : decode cX0_layOne 159 = .ok (.aaload, 1) := dk_50 (dk_at dksX0_layOne_6 16 rfl rfl)
theorem dX0_layOne_160 : decode cX0_layOne 160 = .ok (.iload_n 2, 1) := dk_28 (dk_at dksX0_layOne_6 17 rfl rfl)
theorem dX0_layOne_161 : decode cX0_layOne 161 = .ok (.aaload, 1) := dk_50 (dk_at dksX0_layOne_6 18 rfl rfl)
theorem dX0_layOne_162 : decode cX0_layOne 162 = .ok (.iload_n 3, 1) := dk_29 (dk_at dksX0_layOne_6 19 rfl rfl)
theorem dX0_layOne_163 : decode cX0_layOne 163 = .ok (.iaload, 1) := dk_46 (dk_at dksX0_layOne_6 20 rfl rfl)
theorem dX0_layOne_164 : decode cX0_layOne 164 = .ok (.invokestatic 268, 3) := dk_184 1 12 (dk_at dksX0_layOne_6 21 rfl rfl)
theorem dX0_layOne_167 : decode cX0_layOne 167 = .ok (.istore 5, 2) := dk_54 5 (dk_at dksX0_layOne_7 0 rfl rfl)
theorem dX0_layOne_169 : decode cX0_layOne 169 = .ok (.iinc 6 1, 3) := dk_132 6 1 (dk_at dksX0_layOne_7 2 rfl rfl)
theorem dX0_layOne_172 : decode cX0_layOne 172 = .ok (.goto (-27), 3) := dk_167 255 229 (dk_at dksX0_layOne_7 5 rfl rfl)
theorem dX0_layOne_175 : decode cX0_layOne 175 = .ok (.aload_n 0, 1) := dk_42 (dk_at dksX0_layOne_7 8 rfl rfl)
theorem dX0_layOne_176 : decode cX0_layOne 176 = .ok (.getfield 79, 3) := dk_180 0 79 (dk_at dksX0_layOne_7 9 rfl rfl)
theorem dX0_layOne_179 : decode cX0_layOne 179 = .ok (.iload_n 2, 1) := dk_28 (dk_at dksX0_layOne_7 12 rfl rfl)
theorem dX0_layOne_180 : decode cX0_layOne 180 = .ok (.aaload, 1) := dk_50 (dk_at dksX0_layOne_7 13 rfl rfl)
theorem dX0_layOne_181 : decode cX0_layOne 181 = .ok (.iload_n 3, 1) := dk_29 (dk_at dksX0_layOne_7 14 rfl rfl)
theorem dX0_layOne_182 : decode cX0_layOne 182 = .ok (.iload 5, 2) := dk_21 5 (dk_at dksX0_layOne_7 15 rfl rfl)
theorem dX0_layOne_184 : decode cX0_layOne 184 = .ok (.iastore, 1) := dk_79 (dk_at dksX0_layOne_7 17 rfl rfl)
theorem dX0_layOne_185 : decode cX0_layOne 185 = .ok (.aload_n 0, 1) := dk_42 (dk_at dksX0_layOne_7 18 rfl rfl)
theorem dX0_layOne_186 : decode cX0_layOne 186 = .ok (.getfield 84, 3) := dk_180 0 84 (dk_at dksX0_layOne_7 19 rfl rfl)
theorem dX0_layOne_189 : decode cX0_layOne 189 = .ok (.iconst 1, 1) := dk_4 (dk_at dksX0_layOne_7 22 rfl rfl)
theorem dX0_layOne_190 : decode cX0_layOne 190 = .ok (.aaload, 1) := dk_50 (dk_at dksX0_layOne_7 23 rfl rfl)
theorem dX0_layOne_191 : decode cX0_layOne 191 = .ok (.iload_n 2, 1) := dk_28 (dk_at dksX0_layOne_8 0 rfl rfl)
theorem dX0_layOne_192 : decode cX0_layOne 192 = .ok (.aaload, 1) := dk_50 (dk_at dksX0_layOne_8 1 rfl rfl)
theorem dX0_layOne_193 : decode cX0_layOne 193 = .ok (.iload_n 3, 1) := dk_29 (dk_at dksX0_layOne_8 2 rfl rfl)
theorem dX0_layOne_194 : decode cX0_layOne 194 = .ok (.iload_n 3, 1) := dk_29 (dk_at dksX0_layOne_8 3 rfl rfl)
theorem dX0_layOne_195 : decode cX0_layOne 195 = .ok (.ifCond .ne 9, 3) := dk_154 0 9 (dk_at dksX0_layOne_8 4 rfl rfl)
theorem dX0_layOne_198 : decode cX0_layOne 198 = .ok (.ldc_w 264, 3) := dk_19 1 8 (dk_at dksX0_layOne_8 7 rfl rfl)
theorem dX0_layOne_201 : decode cX0_layOne 201 = .ok (.goto 8, 3) := dk_167 0 8 (dk_at dksX0_layOne_8 10 rfl rfl)
theorem dX0_layOne_204 : decode cX0_layOne 204 = .ok (.iload 5, 2) := dk_21 5 (dk_at dksX0_layOne_8 13 rfl rfl)
theorem dX0_layOne_206 : decode cX0_layOne 206 = .ok (.iload 4, 2) := dk_21 4 (dk_at dksX0_layOne_8 15 rfl rfl)
theorem dX0_layOne_208 : decode cX0_layOne 208 = .ok (.iadd, 1) := dk_96 (dk_at dksX0_layOne_8 17 rfl rfl)
theorem dX0_layOne_209 : decode cX0_layOne 209 = .ok (.iastore, 1) := dk_79 (dk_at dksX0_layOne_8 18 rfl rfl)
theorem dX0_layOne_210 : decode cX0_layOne 210 = .ok (.return_, 1) := dk_177 (dk_at dksX0_layOne_8 19 rfl rfl)
abbrev cX0_usesOf : ByteArray := prog_1_method_40_code
def yX0_usesOf : MethodName := ⟨RX0, "usesOf", "(II)I"⟩
def dkwX0_usesOf_1 : List UInt8 := [180, 0, 240, 96, 62, 132, 4, 1, 167, 255, 229, 29, 172]
abbrev dktX0_usesOf_1 : List UInt8 := dkwX0_usesOf_1 ++ []
def dkwX0_usesOf_0 : List UInt8 := [3, 62, 27, 54, 4, 21, 4, 28, 162, 0, 27, 29, 42, 180, 0, 18, 21, 4, 182, 0, 237, 192, 0, 140]
abbrev dktX0_usesOf_0 : List UInt8 := dkwX0_usesOf_0 ++ dktX0_usesOf_1
theorem dksX0_usesOf_0 : cX0_usesOf.data.toList.drop 0 = dktX0_usesOf_0 := by decide +kernel
theorem dksX0_usesOf_1 : cX0_usesOf.data.toList.drop 24 = dktX0_usesOf_1 := dk_seg dksX0_usesOf_0 24 rfl rfl
theorem dX0_usesOf_0 : decode cX0_usesOf 0 = .ok (.iconst 0, 1) := dk_3 (dk_at dksX0_usesOf_0 0 rfl rfl)
theorem dX0_usesOf_1 : decode cX0_usesOf 1 = .ok (.istore_n 3, 1) := dk_62 (dk_at dksX0_usesOf_0 1 rfl rfl)
theorem dX0_usesOf_2 : decode cX0_usesOf 2 = .ok (.iload_n 1, 1) := dk_27 (dk_at dksX0_usesOf_0 2 rfl rfl)
theorem dX0_usesOf_3 : decode cX0_usesOf 3 = .ok (.istore 4, 2) := dk_54 4 (dk_at dksX0_usesOf_0 3 rfl rfl)
theorem dX0_usesOf_5 : decode cX0_usesOf 5 = .ok (.iload 4, 2) := dk_21 4 (dk_at dksX0_usesOf_0 5 rfl rfl)
theorem dX0_usesOf_7 : decode cX0_usesOf 7 = .ok (.iload_n 2, 1) := dk_28 (dk_at dksX0_usesOf_0 7 rfl rfl)
theorem dX0_usesOf_8 : decode cX0_usesOf 8 = .ok (.if_icmp .ge 27, 3) := dk_162 0 27 (dk_at dksX0_usesOf_0 8 rfl rfl)
theorem dX0_usesOf_11 : decode cX0_usesOf 11 = .ok (.iload_n 3, 1) := dk_29 (dk_at dksX0_usesOf_0 11 rfl rfl)
theorem dX0_usesOf_12 : decode cX0_usesOf 12 = .ok (.aload_n 0, 1) := dk_42 (dk_at dksX0_usesOf_0 12 rfl rfl)
theorem dX0_usesOf_13 : decode cX0_usesOf 13 = .ok (.getfield 18, 3) := dk_180 0 18 (dk_at dksX0_usesOf_0 13 rfl rfl)
theorem dX0_usesOf_16 : decode cX0_usesOf 16 = .ok (.iload 4, 2) := dk_21 4 (dk_at dksX0_usesOf_0 16 rfl rfl)
theorem dX0_usesOf_18 : decode cX0_usesOf 18 = .ok (.invokevirtual 237, 3) := dk_182 0 237 (dk_at dksX0_usesOf_0 18 rfl rfl)
theorem dX0_usesOf_21 : decode cX0_usesOf 21 = .ok (.checkcast 140, 3) := dk_192 0 140 (dk_at dksX0_usesOf_0 21 rfl rfl)
theorem dX0_usesOf_24 : decode cX0_usesOf 24 = .ok (.getfield 240, 3) := dk_180 0 240 (dk_at dksX0_usesOf_1 0 rfl rfl)
theorem dX0_usesOf_27 : decode cX0_usesOf 27 = .ok (.iadd, 1) := dk_96 (dk_at dksX0_usesOf_1 3 rfl rfl)
theorem dX0_usesOf_28 : decode cX0_usesOf 28 = .ok (.istore_n 3, 1) := dk_62 (dk_at dksX0_usesOf_1 4 rfl rfl)
theorem dX0_usesOf_29 : decode cX0_usesOf 29 = .ok (.iinc 4 1, 3) := dk_132 4 1 (dk_at dksX0_usesOf_1 5 rfl rfl)
theorem dX0_usesOf_32 : decode cX0_usesOf 32 = .ok (.goto (-27), 3) := dk_167 255 229 (dk_at dksX0_usesOf_1 8 rfl rfl)
theorem dX0_usesOf_35 : decode cX0_usesOf 35 = .ok (.iload_n 3, 1) := dk_29 (dk_at dksX0_usesOf_1 11 rfl rfl)
theorem dX0_usesOf_36 : decode cX0_usesOf 36 = .ok (.ireturn, 1) := dk_172 (dk_at dksX0_usesOf_1 12 rfl rfl)
abbrev cX0_asPart : ByteArray := prog_1_method_43_code
def yX0_asPart : MethodName := ⟨RX0, "asPart", "(II)I"⟩
def dkwX0_asPart_0 : List UInt8 := [42, 180, 0, 84, 4, 50, 27, 50, 28, 46, 172]
abbrev dktX0_asPart_0 : List UInt8 := dkwX0_asPart_0 ++ []
theorem dksX0_asPart_0 : cX0_asPart.data.toList.drop 0 = dktX0_asPart_0 := by decide +kernel
theorem dX0_asPart_0 : decode cX0_asPart 0 = .ok (.aload_n 0, 1) := dk_42 (dk_at dksX0_asPart_0 0 rfl rfl)
theorem dX0_asPart_1 : decode cX0_asPart 1 = .ok (.getfield 84, 3) := dk_180 0 84 (dk_at dksX0_asPart_0 1 rfl rfl)
theorem dX0_asPart_4 : decode cX0_asPart 4 = .ok (.iconst 1, 1) := dk_4 (dk_at dksX0_asPart_0 4 rfl rfl)
theorem dX0_asPart_5 : decode cX0_asPart 5 = .ok (.aaload, 1) := dk_50 (dk_at dksX0_asPart_0 5 rfl rfl)
theorem dX0_asPart_6 : decode cX0_asPart 6 = .ok (.iload_n 1, 1) := dk_27 (dk_at dksX0_asPart_0 6 rfl rfl)
theorem dX0_asPart_7 : decode cX0_asPart 7 = .ok (.aaload, 1) := dk_50 (dk_at dksX0_asPart_0 7 rfl rfl)
theorem dX0_asPart_8 : decode cX0_asPart 8 = .ok (.iload_n 2, 1) := dk_28 (dk_at dksX0_asPart_0 8 rfl rfl)
theorem dX0_asPart_9 : decode cX0_asPart 9 = .ok (.iaload, 1) := dk_46 (dk_at dksX0_asPart_0 9 rfl rfl)
theorem dX0_asPart_10 : decode cX0_asPart 10 = .ok (.ireturn, 1) := dk_172 (dk_at dksX0_asPart_0 10 rfl rfl)
abbrev cX0_partedBy : ByteArray := prog_1_method_44_code
def yX0_partedBy : MethodName := ⟨RX0, "partedBy", "(III)I"⟩
def dkwX0_partedBy_0 : List UInt8 := [42, 180, 0, 84, 27, 50, 28, 50, 29, 46, 172]
abbrev dktX0_partedBy_0 : List UInt8 := dkwX0_partedBy_0 ++ []
theorem dksX0_partedBy_0 : cX0_partedBy.data.toList.drop 0 = dktX0_partedBy_0 := by decide +kernel
theorem dX0_partedBy_0 : decode cX0_partedBy 0 = .ok (.aload_n 0, 1) := dk_42 (dk_at dksX0_partedBy_0 0 rfl rfl)
theorem dX0_partedBy_1 : decode cX0_partedBy 1 = .ok (.getfield 84, 3) := dk_180 0 84 (dk_at dksX0_partedBy_0 1 rfl rfl)
theorem dX0_partedBy_4 : decode cX0_partedBy 4 = .ok (.iload_n 1, 1) := dk_27 (dk_at dksX0_partedBy_0 4 rfl rfl)
theorem dX0_partedBy_5 : decode cX0_partedBy 5 = .ok (.aaload, 1) := dk_50 (dk_at dksX0_partedBy_0 5 rfl rfl)
theorem dX0_partedBy_6 : decode cX0_partedBy 6 = .ok (.iload_n 2, 1) := dk_28 (dk_at dksX0_partedBy_0 6 rfl rfl)
theorem dX0_partedBy_7 : decode cX0_partedBy 7 = .ok (.aaload, 1) := dk_50 (dk_at dksX0_partedBy_0 7 rfl rfl)
theorem dX0_partedBy_8 : decode cX0_partedBy 8 = .ok (.iload_n 3, 1) := dk_29 (dk_at dksX0_partedBy_0 8 rfl rfl)
theorem dX0_partedBy_9 : decode cX0_partedBy 9 = .ok (.iaload, 1) := dk_46 (dk_at dksX0_partedBy_0 9 rfl rfl)
theorem dX0_partedBy_10 : decode cX0_partedBy 10 = .ok (.ireturn, 1) := dk_172 (dk_at dksX0_partedBy_0 10 rfl rfl)
abbrev cX0_partsOf : ByteArray := prog_1_method_45_code
def yX0_partsOf : MethodName := ⟨RX0, "partsOf", "(II)I"⟩
def dkwX0_partsOf_1 : List UInt8 := [132, 3, 1, 167, 255, 232, 29, 172]
abbrev dktX0_partsOf_1 : List UInt8 := dkwX0_partsOf_1 ++ []
def dkwX0_partsOf_0 : List UInt8 := [5, 62, 42, 180, 0, 84, 29, 50, 27, 50, 28, 46, 42, 180, 0, 79, 27, 50, 28, 46, 159, 0, 9]
abbrev dktX0_partsOf_0 : List UInt8 := dkwX0_partsOf_0 ++ dktX0_partsOf_1
theorem dksX0_partsOf_0 : cX0_partsOf.data.toList.drop 0 = dktX0_partsOf_0 := by decide +kernel
theorem dksX0_partsOf_1 : cX0_partsOf.data.toList.drop 23 = dktX0_partsOf_1 := dk_seg dksX0_partsOf_0 23 rfl rfl
theorem dX0_partsOf_0 : decode cX0_partsOf 0 = .ok (.iconst 2, 1) := dk_5 (dk_at dksX0_partsOf_0 0 rfl rfl)
theorem dX0_partsOf_1 : decode cX0_partsOf 1 = .ok (.istore_n 3, 1) := dk_62 (dk_at dksX0_partsOf_0 1 rfl rfl)
theorem dX0_partsOf_2 : decode cX0_partsOf 2 = .ok (.aload_n 0, 1) := dk_42 (dk_at dksX0_partsOf_0 2 rfl rfl)
theorem dX0_partsOf_3 : decode cX0_partsOf 3 = .ok (.getfield 84, 3) := dk_180 0 84 (dk_at dksX0_partsOf_0 3 rfl rfl)
theorem dX0_partsOf_6 : decode cX0_partsOf 6 = .ok (.iload_n 3, 1) := dk_29 (dk_at dksX0_partsOf_0 6 rfl rfl)
theorem dX0_partsOf_7 : decode cX0_partsOf 7 = .ok (.aaload, 1) := dk_50 (dk_at dksX0_partsOf_0 7 rfl rfl)
theorem dX0_partsOf_8 : decode cX0_partsOf 8 = .ok (.iload_n 1, 1) := dk_27 (dk_at dksX0_partsOf_0 8 rfl rfl)
theorem dX0_partsOf_9 : decode cX0_partsOf 9 = .ok (.aaload, 1) := dk_50 (dk_at dksX0_partsOf_0 9 rfl rfl)
theorem dX0_partsOf_10 : decode cX0_partsOf 10 = .ok (.iload_n 2, 1) := dk_28 (dk_at dksX0_partsOf_0 10 rfl rfl)
theorem dX0_partsOf_11 : decode cX0_partsOf 11 = .ok (.iaload, 1) := dk_46 (dk_at dksX0_partsOf_0 11 rfl rfl)
theorem dX0_partsOf_12 : decode cX0_partsOf 12 = .ok (.aload_n 0, 1) := dk_42 (dk_at dksX0_partsOf_0 12 rfl rfl)
theorem dX0_partsOf_13 : decode cX0_partsOf 13 = .ok (.getfield 79, 3) := dk_180 0 79 (dk_at dksX0_partsOf_0 13 rfl rfl)
theorem dX0_partsOf_16 : decode cX0_partsOf 16 = .ok (.iload_n 1, 1) := dk_27 (dk_at dksX0_partsOf_0 16 rfl rfl)
theorem dX0_partsOf_17 : decode cX0_partsOf 17 = .ok (.aaload, 1) := dk_50 (dk_at dksX0_partsOf_0 17 rfl rfl)
theorem dX0_partsOf_18 : decode cX0_partsOf 18 = .ok (.iload_n 2, 1) := dk_28 (dk_at dksX0_partsOf_0 18 rfl rfl)
theorem dX0_partsOf_19 : decode cX0_partsOf 19 = .ok (.iaload, 1) := dk_46 (dk_at dksX0_partsOf_0 19 rfl rfl)
theorem dX0_partsOf_20 : decode cX0_partsOf 20 = .ok (.if_icmp .eq 9, 3) := dk_159 0 9 (dk_at dksX0_partsOf_0 20 rfl rfl)
theorem dX0_partsOf_23 : decode cX0_partsOf 23 = .ok (.iinc 3 1, 3) := dk_132 3 1 (dk_at dksX0_partsOf_1 0 rfl rfl)
theorem dX0_partsOf_26 : decode cX0_partsOf 26 = .ok (.goto (-24), 3) := dk_167 255 232 (dk_at dksX0_partsOf_1 3 rfl rfl)
theorem dX0_partsOf_29 : decode cX0_partsOf 29 = .ok (.iload_n 3, 1) := dk_29 (dk_at dksX0_partsOf_1 6 rfl rfl)
theorem dX0_partsOf_30 : decode cX0_partsOf 30 = .ok (.ireturn, 1) := dk_172 (dk_at dksX0_partsOf_1 7 rfl rfl)
abbrev cX0_firstPart : ByteArray := prog_1_method_46_code
def yX0_firstPart : MethodName := ⟨RX0, "firstPart", "(III)I"⟩
def dkwX0_firstPart_2 : List UInt8 := [159, 0, 9, 132, 4, 1, 167, 255, 215, 21, 4, 172]
abbrev dktX0_firstPart_2 : List UInt8 := dkwX0_firstPart_2 ++ []
def dkwX0_firstPart_1 : List UInt8 := [42, 27, 4, 100, 28, 21, 4, 96, 29, 21, 4, 100, 182, 1, 125, 96, 42, 27, 28, 29, 182, 1, 125]
abbrev dktX0_firstPart_1 : List UInt8 := dkwX0_firstPart_1 ++ dktX0_firstPart_2
def dkwX0_firstPart_0 : List UInt8 := [27, 4, 160, 0, 7, 29, 167, 0, 4, 4, 54, 4, 27, 4, 164, 0, 42, 42, 28, 21, 4, 182, 1, 122]
abbrev dktX0_firstPart_0 : List UInt8 := dkwX0_firstPart_0 ++ dktX0_firstPart_1
theorem dksX0_firstPart_0 : cX0_firstPart.data.toList.drop 0 = dktX0_firstPart_0 := by decide +kernel
theorem dksX0_firstPart_1 : cX0_firstPart.data.toList.drop 24 = dktX0_firstPart_1 := dk_seg dksX0_firstPart_0 24 rfl rfl
theorem dksX0_firstPart_2 : cX0_firstPart.data.toList.drop 47 = dktX0_firstPart_2 := dk_seg dksX0_firstPart_1 23 rfl rfl
theorem dX0_firstPart_0 : decode cX0_firstPart 0 = .ok (.iload_n 1, 1) := dk_27 (dk_at dksX0_firstPart_0 0 rfl rfl)
theorem dX0_firstPart_1 : decode cX0_firstPart 1 = .ok (.iconst 1, 1) := dk_4 (dk_at dksX0_firstPart_0 1 rfl rfl)
theorem dX0_firstPart_2 : decode cX0_firstPart 2 = .ok (.if_icmp .ne 7, 3) := dk_160 0 7 (dk_at dksX0_firstPart_0 2 rfl rfl)
theorem dX0_firstPart_5 : decode cX0_firstPart 5 = .ok (.iload_n 3, 1) := dk_29 (dk_at dksX0_firstPart_0 5 rfl rfl)
theorem dX0_firstPart_6 : decode cX0_firstPart 6 = .ok (.goto 4, 3) := dk_167 0 4 (dk_at dksX0_firstPart_0 6 rfl rfl)
theorem dX0_firstPart_9 : decode cX0_firstPart 9 = .ok (.iconst 1, 1) := dk_4 (dk_at dksX0_firstPart_0 9 rfl rfl)
theorem dX0_firstPart_10 : decode cX0_firstPart 10 = .ok (.istore 4, 2) := dk_54 4 (dk_at dksX0_firstPart_0 10 rfl rfl)
theorem dX0_firstPart_12 : decode cX0_firstPart 12 = .ok (.iload_n 1, 1) := dk_27 (dk_at dksX0_firstPart_0 12 rfl rfl)
theorem dX0_firstPart_13 : decode cX0_firstPart 13 = .ok (.iconst 1, 1) := dk_4 (dk_at dksX0_firstPart_0 13 rfl rfl)
theorem dX0_firstPart_14 : decode cX0_firstPart 14 = .ok (.if_icmp .le 42, 3) := dk_164 0 42 (dk_at dksX0_firstPart_0 14 rfl rfl)
theorem dX0_firstPart_17 : decode cX0_firstPart 17 = .ok (.aload_n 0, 1) := dk_42 (dk_at dksX0_firstPart_0 17 rfl rfl)
theorem dX0_firstPart_18 : decode cX0_firstPart 18 = .ok (.iload_n 2, 1) := dk_28 (dk_at dksX0_firstPart_0 18 rfl rfl)
theorem dX0_firstPart_19 : decode cX0_firstPart 19 = .ok (.iload 4, 2) := dk_21 4 (dk_at dksX0_firstPart_0 19 rfl rfl)
theorem dX0_firstPart_21 : decode cX0_firstPart 21 = .ok (.invokevirtual 378, 3) := dk_182 1 122 (dk_at dksX0_firstPart_0 21 rfl rfl)
theorem dX0_firstPart_24 : decode cX0_firstPart 24 = .ok (.aload_n 0, 1) := dk_42 (dk_at dksX0_firstPart_1 0 rfl rfl)
theorem dX0_firstPart_25 : decode cX0_firstPart 25 = .ok (.iload_n 1, 1) := dk_27 (dk_at dksX0_firstPart_1 1 rfl rfl)
theorem dX0_firstPart_26 : decode cX0_firstPart 26 = .ok (.iconst 1, 1) := dk_4 (dk_at dksX0_firstPart_1 2 rfl rfl)
theorem dX0_firstPart_27 : decode cX0_firstPart 27 = .ok (.isub, 1) := dk_100 (dk_at dksX0_firstPart_1 3 rfl rfl)
theorem dX0_firstPart_28 : decode cX0_firstPart 28 = .ok (.iload_n 2, 1) := dk_28 (dk_at dksX0_firstPart_1 4 rfl rfl)
theorem dX0_firstPart_29 : decode cX0_firstPart 29 = .ok (.iload 4, 2) := dk_21 4 (dk_at dksX0_firstPart_1 5 rfl rfl)
theorem dX0_firstPart_31 : decode cX0_firstPart 31 = .ok (.iadd, 1) := dk_96 (dk_at dksX0_firstPart_1 7 rfl rfl)
theorem dX0_firstPart_32 : decode cX0_firstPart 32 = .ok (.iload_n 3, 1) := dk_29 (dk_at dksX0_firstPart_1 8 rfl rfl)
theorem dX0_firstPart_33 : decode cX0_firstPart 33 = .ok (.iload 4, 2) := dk_21 4 (dk_at dksX0_firstPart_1 9 rfl rfl)
theorem dX0_firstPart_35 : decode cX0_firstPart 35 = .ok (.isub, 1) := dk_100 (dk_at dksX0_firstPart_1 11 rfl rfl)
theorem dX0_firstPart_36 : decode cX0_firstPart 36 = .ok (.invokevirtual 381, 3) := dk_182 1 125 (dk_at dksX0_firstPart_1 12 rfl rfl)
theorem dX0_firstPart_39 : decode cX0_firstPart 39 = .ok (.iadd, 1) := dk_96 (dk_at dksX0_firstPart_1 15 rfl rfl)
theorem dX0_firstPart_40 : decode cX0_firstPart 40 = .ok (.aload_n 0, 1) := dk_42 (dk_at dksX0_firstPart_1 16 rfl rfl)
theorem dX0_firstPart_41 : decode cX0_firstPart 41 = .ok (.iload_n 1, 1) := dk_27 (dk_at dksX0_firstPart_1 17 rfl rfl)
theorem dX0_firstPart_42 : decode cX0_firstPart 42 = .ok (.iload_n 2, 1) := dk_28 (dk_at dksX0_firstPart_1 18 rfl rfl)
theorem dX0_firstPart_43 : decode cX0_firstPart 43 = .ok (.iload_n 3, 1) := dk_29 (dk_at dksX0_firstPart_1 19 rfl rfl)
theorem dX0_firstPart_44 : decode cX0_firstPart 44 = .ok (.invokevirtual 381, 3) := dk_182 1 125 (dk_at dksX0_firstPart_1 20 rfl rfl)
theorem dX0_firstPart_47 : decode cX0_firstPart 47 = .ok (.if_icmp .eq 9, 3) := dk_159 0 9 (dk_at dksX0_firstPart_2 0 rfl rfl)
theorem dX0_firstPart_50 : decode cX0_firstPart 50 = .ok (.iinc 4 1, 3) := dk_132 4 1 (dk_at dksX0_firstPart_2 3 rfl rfl)
theorem dX0_firstPart_53 : decode cX0_firstPart 53 = .ok (.goto (-41), 3) := dk_167 255 215 (dk_at dksX0_firstPart_2 6 rfl rfl)
theorem dX0_firstPart_56 : decode cX0_firstPart 56 = .ok (.iload 4, 2) := dk_21 4 (dk_at dksX0_firstPart_2 9 rfl rfl)
theorem dX0_firstPart_58 : decode cX0_firstPart 58 = .ok (.ireturn, 1) := dk_172 (dk_at dksX0_firstPart_2 11 rfl rfl)
abbrev cX0_sign : ByteArray := prog_1_method_19_code
def yX0_sign : MethodName := ⟨RX0, "sign", "(II)I"⟩
def dkwX0_sign_2 : List UInt8 := [182, 0, 107, 167, 0, 5, 16, 155, 172]
abbrev dktX0_sign_2 : List UInt8 := dkwX0_sign_2 ++ []
def dkwX0_sign_1 : List UInt8 := [4, 100, 184, 0, 114, 153, 0, 24, 42, 180, 0, 18, 27, 182, 0, 237, 192, 0, 140, 180, 0, 142, 28]
abbrev dktX0_sign_1 : List UInt8 := dkwX0_sign_1 ++ dktX0_sign_2
def dkwX0_sign_0 : List UInt8 := [42, 27, 182, 0, 227, 153, 0, 48, 28, 3, 42, 180, 0, 18, 27, 182, 0, 237, 192, 0, 140, 182, 1, 7]
abbrev dktX0_sign_0 : List UInt8 := dkwX0_sign_0 ++ dktX0_sign_1
theorem dksX0_sign_0 : cX0_sign.data.toList.drop 0 = dktX0_sign_0 := by decide +kernel
theorem dksX0_sign_1 : cX0_sign.data.toList.drop 24 = dktX0_sign_1 := dk_seg dksX0_sign_0 24 rfl rfl
theorem dksX0_sign_2 : cX0_sign.data.toList.drop 47 = dktX0_sign_2 := dk_seg dksX0_sign_1 23 rfl rfl
theorem dX0_sign_0 : decode cX0_sign 0 = .ok (.aload_n 0, 1) := dk_42 (dk_at dksX0_sign_0 0 rfl rfl)
theorem dX0_sign_1 : decode cX0_sign 1 = .ok (.iload_n 1, 1) := dk_27 (dk_at dksX0_sign_0 1 rfl rfl)
theorem dX0_sign_2 : decode cX0_sign 2 = .ok (.invokevirtual 227, 3) := dk_182 0 227 (dk_at dksX0_sign_0 2 rfl rfl)
theorem dX0_sign_5 : decode cX0_sign 5 = .ok (.ifCond .eq 48, 3) := dk_153 0 48 (dk_at dksX0_sign_0 5 rfl rfl)
theorem dX0_sign_8 : decode cX0_sign 8 = .ok (.iload_n 2, 1) := dk_28 (dk_at dksX0_sign_0 8 rfl rfl)
theorem dX0_sign_9 : decode cX0_sign 9 = .ok (.iconst 0, 1) := dk_3 (dk_at dksX0_sign_0 9 rfl rfl)
theorem dX0_sign_10 : decode cX0_sign 10 = .ok (.aload_n 0, 1) := dk_42 (dk_at dksX0_sign_0 10 rfl rfl)
theorem dX0_sign_11 : decode cX0_sign 11 = .ok (.getfield 18, 3) := dk_180 0 18 (dk_at dksX0_sign_0 11 rfl rfl)
theorem dX0_sign_14 : decode cX0_sign 14 = .ok (.iload_n 1, 1) := dk_27 (dk_at dksX0_sign_0 14 rfl rfl)
theorem dX0_sign_15 : decode cX0_sign 15 = .ok (.invokevirtual 237, 3) := dk_182 0 237 (dk_at dksX0_sign_0 15 rfl rfl)
theorem dX0_sign_18 : decode cX0_sign 18 = .ok (.checkcast 140, 3) := dk_192 0 140 (dk_at dksX0_sign_0 18 rfl rfl)
theorem dX0_sign_21 : decode cX0_sign 21 = .ok (.invokevirtual 263, 3) := dk_182 1 7 (dk_at dksX0_sign_0 21 rfl rfl)
theorem dX0_sign_24 : decode cX0_sign 24 = .ok (.iconst 1, 1) := dk_4 (dk_at dksX0_sign_1 0 rfl rfl)
theorem dX0_sign_25 : decode cX0_sign 25 = .ok (.isub, 1) := dk_100 (dk_at dksX0_sign_1 1 rfl rfl)
theorem dX0_sign_26 : decode cX0_sign 26 = .ok (.invokestatic 114, 3) := dk_184 0 114 (dk_at dksX0_sign_1 2 rfl rfl)
theorem dX0_sign_29 : decode cX0_sign 29 = .ok (.ifCond .eq 24, 3) := dk_153 0 24 (dk_at dksX0_sign_1 5 rfl rfl)
theorem dX0_sign_32 : decode cX0_sign 32 = .ok (.aload_n 0, 1) := dk_42 (dk_at dksX0_sign_1 8 rfl rfl)
theorem dX0_sign_33 : decode cX0_sign 33 = .ok (.getfield 18, 3) := dk_180 0 18 (dk_at dksX0_sign_1 9 rfl rfl)
theorem dX0_sign_36 : decode cX0_sign 36 = .ok (.iload_n 1, 1) := dk_27 (dk_at dksX0_sign_1 12 rfl rfl)
theorem dX0_sign_37 : decode cX0_sign 37 = .ok (.invokevirtual 237, 3) := dk_182 0 237 (dk_at dksX0_sign_1 13 rfl rfl)
theorem dX0_sign_40 : decode cX0_sign 40 = .ok (.checkcast 140, 3) := dk_192 0 140 (dk_at dksX0_sign_1 16 rfl rfl)
theorem dX0_sign_43 : decode cX0_sign 43 = .ok (.getfield 142, 3) := dk_180 0 142 (dk_at dksX0_sign_1 19 rfl rfl)
theorem dX0_sign_46 : decode cX0_sign 46 = .ok (.iload_n 2, 1) := dk_28 (dk_at dksX0_sign_1 22 rfl rfl)
theorem dX0_sign_47 : decode cX0_sign 47 = .ok (.invokevirtual 107, 3) := dk_182 0 107 (dk_at dksX0_sign_2 0 rfl rfl)
theorem dX0_sign_50 : decode cX0_sign 50 = .ok (.goto 5, 3) := dk_167 0 5 (dk_at dksX0_sign_2 3 rfl rfl)
theorem dX0_sign_53 : decode cX0_sign 53 = .ok (.bipush (-101), 2) := dk_16 155 (dk_at dksX0_sign_2 6 rfl rfl)
theorem dX0_sign_55 : decode cX0_sign 55 = .ok (.ireturn, 1) := dk_172 (dk_at dksX0_sign_2 8 rfl rfl)
abbrev cX0_digit : ByteArray := prog_1_method_20_code
def yX0_digit : MethodName := ⟨RX0, "digit", "(II)I"⟩
def dkwX0_digit_2 : List UInt8 := [167, 0, 5, 16, 155, 172]
abbrev dktX0_digit_2 : List UInt8 := dkwX0_digit_2 ++ []
def dkwX0_digit_1 : List UInt8 := [4, 100, 184, 0, 114, 153, 0, 21, 42, 180, 0, 18, 27, 182, 0, 237, 192, 0, 140, 28, 182, 1, 42]
abbrev dktX0_digit_1 : List UInt8 := dkwX0_digit_1 ++ dktX0_digit_2
def dkwX0_digit_0 : List UInt8 := [42, 27, 182, 0, 227, 153, 0, 45, 28, 3, 42, 180, 0, 18, 27, 182, 0, 237, 192, 0, 140, 182, 1, 7]
abbrev dktX0_digit_0 : List UInt8 := dkwX0_digit_0 ++ dktX0_digit_1
theorem dksX0_digit_0 : cX0_digit.data.toList.drop 0 = dktX0_digit_0 := by decide +kernel
theorem dksX0_digit_1 : cX0_digit.data.toList.drop 24 = dktX0_digit_1 := dk_seg dksX0_digit_0 24 rfl rfl
theorem dksX0_digit_2 : cX0_digit.data.toList.drop 47 = dktX0_digit_2 := dk_seg dksX0_digit_1 23 rfl rfl
theorem dX0_digit_0 : decode cX0_digit 0 = .ok (.aload_n 0, 1) := dk_42 (dk_at dksX0_digit_0 0 rfl rfl)
theorem dX0_digit_1 : decode cX0_digit 1 = .ok (.iload_n 1, 1) := dk_27 (dk_at dksX0_digit_0 1 rfl rfl)
theorem dX0_digit_2 : decode cX0_digit 2 = .ok (.invokevirtual 227, 3) := dk_182 0 227 (dk_at dksX0_digit_0 2 rfl rfl)
theorem dX0_digit_5 : decode cX0_digit 5 = .ok (.ifCond .eq 45, 3) := dk_153 0 45 (dk_at dksX0_digit_0 5 rfl rfl)
theorem dX0_digit_8 : decode cX0_digit 8 = .ok (.iload_n 2, 1) := dk_28 (dk_at dksX0_digit_0 8 rfl rfl)
theorem dX0_digit_9 : decode cX0_digit 9 = .ok (.iconst 0, 1) := dk_3 (dk_at dksX0_digit_0 9 rfl rfl)
theorem dX0_digit_10 : decode cX0_digit 10 = .ok (.aload_n 0, 1) := dk_42 (dk_at dksX0_digit_0 10 rfl rfl)
theorem dX0_digit_11 : decode cX0_digit 11 = .ok (.getfield 18, 3) := dk_180 0 18 (dk_at dksX0_digit_0 11 rfl rfl)
theorem dX0_digit_14 : decode cX0_digit 14 = .ok (.iload_n 1, 1) := dk_27 (dk_at dksX0_digit_0 14 rfl rfl)
theorem dX0_digit_15 : decode cX0_digit 15 = .ok (.invokevirtual 237, 3) := dk_182 0 237 (dk_at dksX0_digit_0 15 rfl rfl)
theorem dX0_digit_18 : decode cX0_digit 18 = .ok (.checkcast 140, 3) := dk_192 0 140 (dk_at dksX0_digit_0 18 rfl rfl)
theorem dX0_digit_21 : decode cX0_digit 21 = .ok (.invokevirtual 263, 3) := dk_182 1 7 (dk_at dksX0_digit_0 21 rfl rfl)
theorem dX0_digit_24 : decode cX0_digit 24 = .ok (.iconst 1, 1) := dk_4 (dk_at dksX0_digit_1 0 rfl rfl)
theorem dX0_digit_25 : decode cX0_digit 25 = .ok (.isub, 1) := dk_100 (dk_at dksX0_digit_1 1 rfl rfl)
theorem dX0_digit_26 : decode cX0_digit 26 = .ok (.invokestatic 114, 3) := dk_184 0 114 (dk_at dksX0_digit_1 2 rfl rfl)
theorem dX0_digit_29 : decode cX0_digit 29 = .ok (.ifCond .eq 21, 3) := dk_153 0 21 (dk_at dksX0_digit_1 5 rfl rfl)
theorem dX0_digit_32 : decode cX0_digit 32 = .ok (.aload_n 0, 1) := dk_42 (dk_at dksX0_digit_1 8 rfl rfl)
theorem dX0_digit_33 : decode cX0_digit 33 = .ok (.getfield 18, 3) := dk_180 0 18 (dk_at dksX0_digit_1 9 rfl rfl)
theorem dX0_digit_36 : decode cX0_digit 36 = .ok (.iload_n 1, 1) := dk_27 (dk_at dksX0_digit_1 12 rfl rfl)
theorem dX0_digit_37 : decode cX0_digit 37 = .ok (.invokevirtual 237, 3) := dk_182 0 237 (dk_at dksX0_digit_1 13 rfl rfl)
theorem dX0_digit_40 : decode cX0_digit 40 = .ok (.checkcast 140, 3) := dk_192 0 140 (dk_at dksX0_digit_1 16 rfl rfl)
theorem dX0_digit_43 : decode cX0_digit 43 = .ok (.iload_n 2, 1) := dk_28 (dk_at dksX0_digit_1 19 rfl rfl)
theorem dX0_digit_44 : decode cX0_digit 44 = .ok (.invokevirtual 298, 3) := dk_182 1 42 (dk_at dksX0_digit_1 20 rfl rfl)
theorem dX0_digit_47 : decode cX0_digit 47 = .ok (.goto 5, 3) := dk_167 0 5 (dk_at dksX0_digit_2 0 rfl rfl)
theorem dX0_digit_50 : decode cX0_digit 50 = .ok (.bipush (-101), 2) := dk_16 155 (dk_at dksX0_digit_2 3 rfl rfl)
theorem dX0_digit_52 : decode cX0_digit 52 = .ok (.ireturn, 1) := dk_172 (dk_at dksX0_digit_2 5 rfl rfl)
abbrev cX0_laid : ByteArray := prog_1_method_21_code
def yX0_laid : MethodName := ⟨RX0, "laid", "(I)I"⟩
def dkwX0_laid_1 : List UInt8 := [16, 154, 172]
abbrev dktX0_laid_1 : List UInt8 := dkwX0_laid_1 ++ []
def dkwX0_laid_0 : List UInt8 := [27, 16, 97, 16, 122, 184, 0, 114, 153, 0, 15, 42, 180, 0, 9, 27, 16, 97, 100, 46, 167, 0, 5]
abbrev dktX0_laid_0 : List UInt8 := dkwX0_laid_0 ++ dktX0_laid_1
theorem dksX0_laid_0 : cX0_laid.data.toList.drop 0 = dktX0_laid_0 := by decide +kernel
theorem dksX0_laid_1 : cX0_laid.data.toList.drop 23 = dktX0_laid_1 := dk_seg dksX0_laid_0 23 rfl rfl
theorem dX0_laid_0 : decode cX0_laid 0 = .ok (.iload_n 1, 1) := dk_27 (dk_at dksX0_laid_0 0 rfl rfl)
theorem dX0_laid_1 : decode cX0_laid 1 = .ok (.bipush 97, 2) := dk_16 97 (dk_at dksX0_laid_0 1 rfl rfl)
theorem dX0_laid_3 : decode cX0_laid 3 = .ok (.bipush 122, 2) := dk_16 122 (dk_at dksX0_laid_0 3 rfl rfl)
theorem dX0_laid_5 : decode cX0_laid 5 = .ok (.invokestatic 114, 3) := dk_184 0 114 (dk_at dksX0_laid_0 5 rfl rfl)
theorem dX0_laid_8 : decode cX0_laid 8 = .ok (.ifCond .eq 15, 3) := dk_153 0 15 (dk_at dksX0_laid_0 8 rfl rfl)
theorem dX0_laid_11 : decode cX0_laid 11 = .ok (.aload_n 0, 1) := dk_42 (dk_at dksX0_laid_0 11 rfl rfl)
theorem dX0_laid_12 : decode cX0_laid 12 = .ok (.getfield 9, 3) := dk_180 0 9 (dk_at dksX0_laid_0 12 rfl rfl)
theorem dX0_laid_15 : decode cX0_laid 15 = .ok (.iload_n 1, 1) := dk_27 (dk_at dksX0_laid_0 15 rfl rfl)
theorem dX0_laid_16 : decode cX0_laid 16 = .ok (.bipush 97, 2) := dk_16 97 (dk_at dksX0_laid_0 16 rfl rfl)
theorem dX0_laid_18 : decode cX0_laid 18 = .ok (.isub, 1) := dk_100 (dk_at dksX0_laid_0 18 rfl rfl)
theorem dX0_laid_19 : decode cX0_laid 19 = .ok (.iaload, 1) := dk_46 (dk_at dksX0_laid_0 19 rfl rfl)
theorem dX0_laid_20 : decode cX0_laid 20 = .ok (.goto 5, 3) := dk_167 0 5 (dk_at dksX0_laid_0 20 rfl rfl)
theorem dX0_laid_23 : decode cX0_laid 23 = .ok (.bipush (-102), 2) := dk_16 154 (dk_at dksX0_laid_1 0 rfl rfl)
theorem dX0_laid_25 : decode cX0_laid 25 = .ok (.ireturn, 1) := dk_172 (dk_at dksX0_laid_1 2 rfl rfl)
abbrev cX0_about : ByteArray := prog_1_method_26_code
def yX0_about : MethodName := ⟨RX0, "about", "(I)I"⟩
def dkwX0_about_0 : List UInt8 := [27, 3, 16, 6, 184, 0, 114, 153, 0, 11, 42, 27, 182, 1, 65, 167, 0, 5, 16, 154, 172]
abbrev dktX0_about_0 : List UInt8 := dkwX0_about_0 ++ []
theorem dksX0_about_0 : cX0_about.data.toList.drop 0 = dktX0_about_0 := by decide +kernel
theorem dX0_about_0 : decode cX0_about 0 = .ok (.iload_n 1, 1) := dk_27 (dk_at dksX0_about_0 0 rfl rfl)
theorem dX0_about_1 : decode cX0_about 1 = .ok (.iconst 0, 1) := dk_3 (dk_at dksX0_about_0 1 rfl rfl)
theorem dX0_about_2 : decode cX0_about 2 = .ok (.bipush 6, 2) := dk_16 6 (dk_at dksX0_about_0 2 rfl rfl)
theorem dX0_about_4 : decode cX0_about 4 = .ok (.invokestatic 114, 3) := dk_184 0 114 (dk_at dksX0_about_0 4 rfl rfl)
theorem dX0_about_7 : decode cX0_about 7 = .ok (.ifCond .eq 11, 3) := dk_153 0 11 (dk_at dksX0_about_0 7 rfl rfl)
theorem dX0_about_10 : decode cX0_about 10 = .ok (.aload_n 0, 1) := dk_42 (dk_at dksX0_about_0 10 rfl rfl)
theorem dX0_about_11 : decode cX0_about 11 = .ok (.iload_n 1, 1) := dk_27 (dk_at dksX0_about_0 11 rfl rfl)
theorem dX0_about_12 : decode cX0_about 12 = .ok (.invokevirtual 321, 3) := dk_182 1 65 (dk_at dksX0_about_0 12 rfl rfl)
theorem dX0_about_15 : decode cX0_about 15 = .ok (.goto 5, 3) := dk_167 0 5 (dk_at dksX0_about_0 15 rfl rfl)
theorem dX0_about_18 : decode cX0_about 18 = .ok (.bipush (-102), 2) := dk_16 154 (dk_at dksX0_about_0 18 rfl rfl)
theorem dX0_about_20 : decode cX0_about 20 = .ok (.ireturn, 1) := dk_172 (dk_at dksX0_about_0 20 rfl rfl)
abbrev cX0_aboutTold : ByteArray := prog_1_method_25_code
def yX0_aboutTold : MethodName := ⟨RX0, "aboutTold", "(I)I"⟩
def dkwX0_aboutTold_2 : List UInt8 := [42, 180, 0, 18, 182, 0, 111, 172, 42, 182, 1, 56, 172, 42, 182, 1, 59, 172, 42, 27, 182, 1, 62, 172]
abbrev dktX0_aboutTold_2 : List UInt8 := dkwX0_aboutTold_2 ++ []
def dkwX0_aboutTold_1 : List UInt8 := [170, 0, 0, 0, 0, 0, 53, 0, 0, 0, 0, 0, 0, 0, 4, 0, 0, 0, 35, 0, 0, 0, 53, 0, 0, 0, 53, 0, 0, 0, 43, 0, 0, 0, 48]
abbrev dktX0_aboutTold_1 : List UInt8 := dkwX0_aboutTold_1 ++ dktX0_aboutTold_2
def dkwX0_aboutTold_0 : List UInt8 := [27]
abbrev dktX0_aboutTold_0 : List UInt8 := dkwX0_aboutTold_0 ++ dktX0_aboutTold_1
theorem dksX0_aboutTold_0 : cX0_aboutTold.data.toList.drop 0 = dktX0_aboutTold_0 := by decide +kernel
theorem dksX0_aboutTold_1 : cX0_aboutTold.data.toList.drop 1 = dktX0_aboutTold_1 := dk_seg dksX0_aboutTold_0 1 rfl rfl
theorem dksX0_aboutTold_2 : cX0_aboutTold.data.toList.drop 36 = dktX0_aboutTold_2 := dk_seg dksX0_aboutTold_1 35 rfl rfl
theorem dX0_aboutTold_0 : decode cX0_aboutTold 0 = .ok (.iload_n 1, 1) := dk_27 (dk_at dksX0_aboutTold_0 0 rfl rfl)
theorem dX0_aboutTold_1 : decode cX0_aboutTold 1 = .ok (.tableswitch 53 0 4 #[35, 53, 53, 43, 48], 35) := by decide +kernel
theorem dX0_aboutTold_36 : decode cX0_aboutTold 36 = .ok (.aload_n 0, 1) := dk_42 (dk_at dksX0_aboutTold_2 0 rfl rfl)
theorem dX0_aboutTold_37 : decode cX0_aboutTold 37 = .ok (.getfield 18, 3) := dk_180 0 18 (dk_at dksX0_aboutTold_2 1 rfl rfl)
theorem dX0_aboutTold_40 : decode cX0_aboutTold 40 = .ok (.invokevirtual 111, 3) := dk_182 0 111 (dk_at dksX0_aboutTold_2 4 rfl rfl)
theorem dX0_aboutTold_43 : decode cX0_aboutTold 43 = .ok (.ireturn, 1) := dk_172 (dk_at dksX0_aboutTold_2 7 rfl rfl)
theorem dX0_aboutTold_44 : decode cX0_aboutTold 44 = .ok (.aload_n 0, 1) := dk_42 (dk_at dksX0_aboutTold_2 8 rfl rfl)
theorem dX0_aboutTold_45 : decode cX0_aboutTold 45 = .ok (.invokevirtual 312, 3) := dk_182 1 56 (dk_at dksX0_aboutTold_2 9 rfl rfl)
theorem dX0_aboutTold_48 : decode cX0_aboutTold 48 = .ok (.ireturn, 1) := dk_172 (dk_at dksX0_aboutTold_2 12 rfl rfl)
theorem dX0_aboutTold_49 : decode cX0_aboutTold 49 = .ok (.aload_n 0, 1) := dk_42 (dk_at dksX0_aboutTold_2 13 rfl rfl)
theorem dX0_aboutTold_50 : decode cX0_aboutTold 50 = .ok (.invokevirtual 315, 3) := dk_182 1 59 (dk_at dksX0_aboutTold_2 14 rfl rfl)
theorem dX0_aboutTold_53 : decode cX0_aboutTold 53 = .ok (.ireturn, 1) := dk_172 (dk_at dksX0_aboutTold_2 17 rfl rfl)
theorem dX0_aboutTold_54 : decode cX0_aboutTold 54 = .ok (.aload_n 0, 1) := dk_42 (dk_at dksX0_aboutTold_2 18 rfl rfl)
theorem dX0_aboutTold_55 : decode cX0_aboutTold 55 = .ok (.iload_n 1, 1) := dk_27 (dk_at dksX0_aboutTold_2 19 rfl rfl)
theorem dX0_aboutTold_56 : decode cX0_aboutTold 56 = .ok (.invokevirtual 318, 3) := dk_182 1 62 (dk_at dksX0_aboutTold_2 20 rfl rfl)
theorem dX0_aboutTold_59 : decode cX0_aboutTold 59 = .ok (.ireturn, 1) := dk_172 (dk_at dksX0_aboutTold_2 23 rfl rfl)
abbrev cX0_codes : ByteArray := prog_1_method_22_code
def yX0_codes : MethodName := ⟨RX0, "codes", "()I"⟩
def dkwX0_codes_2 : List UInt8 := [180, 0, 18, 182, 0, 111, 43, 182, 1, 19, 100, 172]
abbrev dktX0_codes_2 : List UInt8 := dkwX0_codes_2 ++ []
def dkwX0_codes_1 : List UInt8 := [28, 182, 1, 15, 78, 45, 3, 28, 182, 1, 45, 43, 45, 182, 1, 49, 132, 2, 1, 167, 255, 225, 42]
abbrev dktX0_codes_1 : List UInt8 := dkwX0_codes_1 ++ dktX0_codes_2
def dkwX0_codes_0 : List UInt8 := [187, 0, 243, 89, 16, 14, 183, 0, 245, 76, 3, 61, 28, 42, 180, 0, 18, 182, 0, 111, 162, 0, 26, 42]
abbrev dktX0_codes_0 : List UInt8 := dkwX0_codes_0 ++ dktX0_codes_1
theorem dksX0_codes_0 : cX0_codes.data.toList.drop 0 = dktX0_codes_0 := by decide +kernel
theorem dksX0_codes_1 : cX0_codes.data.toList.drop 24 = dktX0_codes_1 := dk_seg dksX0_codes_0 24 rfl rfl
theorem dksX0_codes_2 : cX0_codes.data.toList.drop 47 = dktX0_codes_2 := dk_seg dksX0_codes_1 23 rfl rfl
theorem dX0_codes_0 : decode cX0_codes 0 = .ok (.new 243, 3) := dk_187 0 243 (dk_at dksX0_codes_0 0 rfl rfl)
theorem dX0_codes_3 : decode cX0_codes 3 = .ok (.dup, 1) := dk_89 (dk_at dksX0_codes_0 3 rfl rfl)
theorem dX0_codes_4 : decode cX0_codes 4 = .ok (.bipush 14, 2) := dk_16 14 (dk_at dksX0_codes_0 4 rfl rfl)
theorem dX0_codes_6 : decode cX0_codes 6 = .ok (.invokespecial 245, 3) := dk_183 0 245 (dk_at dksX0_codes_0 6 rfl rfl)
theorem dX0_codes_9 : decode cX0_codes 9 = .ok (.astore_n 1, 1) := dk_76 (dk_at dksX0_codes_0 9 rfl rfl)
theorem dX0_codes_10 : decode cX0_codes 10 = .ok (.iconst 0, 1) := dk_3 (dk_at dksX0_codes_0 10 rfl rfl)
theorem dX0_codes_11 : decode cX0_codes 11 = .ok (.istore_n 2, 1) := dk_61 (dk_at dksX0_codes_0 11 rfl rfl)
theorem dX0_codes_12 : decode cX0_codes 12 = .ok (.iload_n 2, 1) := dk_28 (dk_at dksX0_codes_0 12 rfl rfl)
theorem dX0_codes_13 : decode cX0_codes 13 = .ok (.aload_n 0, 1) := dk_42 (dk_at dksX0_codes_0 13 rfl rfl)
theorem dX0_codes_14 : decode cX0_codes 14 = .ok (.getfield 18, 3) := dk_180 0 18 (dk_at dksX0_codes_0 14 rfl rfl)
theorem dX0_codes_17 : decode cX0_codes 17 = .ok (.invokevirtual 111, 3) := dk_182 0 111 (dk_at dksX0_codes_0 17 rfl rfl)
theorem dX0_codes_20 : decode cX0_codes 20 = .ok (.if_icmp .ge 26, 3) := dk_162 0 26 (dk_at dksX0_codes_0 20 rfl rfl)
theorem dX0_codes_23 : decode cX0_codes 23 = .ok (.aload_n 0, 1) := dk_42 (dk_at dksX0_codes_0 23 rfl rfl)
theorem dX0_codes_24 : decode cX0_codes 24 = .ok (.iload_n 2, 1) := dk_28 (dk_at dksX0_codes_1 0 rfl rfl)
theorem dX0_codes_25 : decode cX0_codes 25 = .ok (.invokevirtual 271, 3) := dk_182 1 15 (dk_at dksX0_codes_1 1 rfl rfl)
theorem dX0_codes_28 : decode cX0_codes 28 = .ok (.astore_n 3, 1) := dk_78 (dk_at dksX0_codes_1 4 rfl rfl)
theorem dX0_codes_29 : decode cX0_codes 29 = .ok (.aload_n 3, 1) := dk_45 (dk_at dksX0_codes_1 5 rfl rfl)
theorem dX0_codes_30 : decode cX0_codes 30 = .ok (.iconst 0, 1) := dk_3 (dk_at dksX0_codes_1 6 rfl rfl)
theorem dX0_codes_31 : decode cX0_codes 31 = .ok (.iload_n 2, 1) := dk_28 (dk_at dksX0_codes_1 7 rfl rfl)
theorem dX0_codes_32 : decode cX0_codes 32 = .ok (.invokevirtual 301, 3) := dk_182 1 45 (dk_at dksX0_codes_1 8 rfl rfl)
theorem dX0_codes_35 : decode cX0_codes 35 = .ok (.aload_n 1, 1) := dk_43 (dk_at dksX0_codes_1 11 rfl rfl)
theorem dX0_codes_36 : decode cX0_codes 36 = .ok (.aload_n 3, 1) := dk_45 (dk_at dksX0_codes_1 12 rfl rfl)
theorem dX0_codes_37 : decode cX0_codes 37 = .ok (.invokevirtual 305, 3) := dk_182 1 49 (dk_at dksX0_codes_1 13 rfl rfl)
theorem dX0_codes_40 : decode cX0_codes 40 = .ok (.iinc 2 1, 3) := dk_132 2 1 (dk_at dksX0_codes_1 16 rfl rfl)
theorem dX0_codes_43 : decode cX0_codes 43 = .ok (.goto (-31), 3) := dk_167 255 225 (dk_at dksX0_codes_1 19 rfl rfl)
theorem dX0_codes_46 : decode cX0_codes 46 = .ok (.aload_n 0, 1) := dk_42 (dk_at dksX0_codes_1 22 rfl rfl)
theorem dX0_codes_47 : decode cX0_codes 47 = .ok (.getfield 18, 3) := dk_180 0 18 (dk_at dksX0_codes_2 0 rfl rfl)
theorem dX0_codes_50 : decode cX0_codes 50 = .ok (.invokevirtual 111, 3) := dk_182 0 111 (dk_at dksX0_codes_2 3 rfl rfl)
theorem dX0_codes_53 : decode cX0_codes 53 = .ok (.aload_n 1, 1) := dk_43 (dk_at dksX0_codes_2 6 rfl rfl)
theorem dX0_codes_54 : decode cX0_codes 54 = .ok (.invokevirtual 275, 3) := dk_182 1 19 (dk_at dksX0_codes_2 7 rfl rfl)
theorem dX0_codes_57 : decode cX0_codes 57 = .ok (.isub, 1) := dk_100 (dk_at dksX0_codes_2 10 rfl rfl)
theorem dX0_codes_58 : decode cX0_codes 58 = .ok (.ireturn, 1) := dk_172 (dk_at dksX0_codes_2 11 rfl rfl)
abbrev cX0_greatestTelling : ByteArray := prog_1_method_23_code
def yX0_greatestTelling : MethodName := ⟨RX0, "greatestTelling", "()I"⟩
def dkwX0_greatestTelling_1 : List UInt8 := [60, 132, 2, 1, 167, 255, 232, 27, 172]
abbrev dktX0_greatestTelling_1 : List UInt8 := dkwX0_greatestTelling_1 ++ []
def dkwX0_greatestTelling_0 : List UInt8 := [2, 60, 3, 61, 28, 42, 180, 0, 18, 182, 0, 111, 162, 0, 19, 27, 42, 28, 182, 1, 22, 184, 1, 2]
abbrev dktX0_greatestTelling_0 : List UInt8 := dkwX0_greatestTelling_0 ++ dktX0_greatestTelling_1
theorem dksX0_greatestTelling_0 : cX0_greatestTelling.data.toList.drop 0 = dktX0_greatestTelling_0 := by decide +kernel
theorem dksX0_greatestTelling_1 : cX0_greatestTelling.data.toList.drop 24 = dktX0_greatestTelling_1 := dk_seg dksX0_greatestTelling_0 24 rfl rfl
theorem dX0_greatestTelling_0 : decode cX0_greatestTelling 0 = .ok (.iconst (-1), 1) := dk_2 (dk_at dksX0_greatestTelling_0 0 rfl rfl)
theorem dX0_greatestTelling_1 : decode cX0_greatestTelling 1 = .ok (.istore_n 1, 1) := dk_60 (dk_at dksX0_greatestTelling_0 1 rfl rfl)
theorem dX0_greatestTelling_2 : decode cX0_greatestTelling 2 = .ok (.iconst 0, 1) := dk_3 (dk_at dksX0_greatestTelling_0 2 rfl rfl)
theorem dX0_greatestTelling_3 : decode cX0_greatestTelling 3 = .ok (.istore_n 2, 1) := dk_61 (dk_at dksX0_greatestTelling_0 3 rfl rfl)
theorem dX0_greatestTelling_4 : decode cX0_greatestTelling 4 = .ok (.iload_n 2, 1) := dk_28 (dk_at dksX0_greatestTelling_0 4 rfl rfl)
theorem dX0_greatestTelling_5 : decode cX0_greatestTelling 5 = .ok (.aload_n 0, 1) := dk_42 (dk_at dksX0_greatestTelling_0 5 rfl rfl)
theorem dX0_greatestTelling_6 : decode cX0_greatestTelling 6 = .ok (.getfield 18, 3) := dk_180 0 18 (dk_at dksX0_greatestTelling_0 6 rfl rfl)
theorem dX0_greatestTelling_9 : decode cX0_greatestTelling 9 = .ok (.invokevirtual 111, 3) := dk_182 0 111 (dk_at dksX0_greatestTelling_0 9 rfl rfl)
theorem dX0_greatestTelling_12 : decode cX0_greatestTelling 12 = .ok (.if_icmp .ge 19, 3) := dk_162 0 19 (dk_at dksX0_greatestTelling_0 12 rfl rfl)
theorem dX0_greatestTelling_15 : decode cX0_greatestTelling 15 = .ok (.iload_n 1, 1) := dk_27 (dk_at dksX0_greatestTelling_0 15 rfl rfl)
theorem dX0_greatestTelling_16 : decode cX0_greatestTelling 16 = .ok (.aload_n 0, 1) := dk_42 (dk_at dksX0_greatestTelling_0 16 rfl rfl)
theorem dX0_greatestTelling_17 : decode cX0_greatestTelling 17 = .ok (.iload_n 2, 1) := dk_28 (dk_at dksX0_greatestTelling_0 17 rfl rfl)
theorem dX0_greatestTelling_18 : decode cX0_greatestTelling 18 = .ok (.invokevirtual 278, 3) := dk_182 1 22 (dk_at dksX0_greatestTelling_0 18 rfl rfl)
theorem dX0_greatestTelling_21 : decode cX0_greatestTelling 21 = .ok (.invokestatic 258, 3) := dk_184 1 2 (dk_at dksX0_greatestTelling_0 21 rfl rfl)
theorem dX0_greatestTelling_24 : decode cX0_greatestTelling 24 = .ok (.istore_n 1, 1) := dk_60 (dk_at dksX0_greatestTelling_1 0 rfl rfl)
theorem dX0_greatestTelling_25 : decode cX0_greatestTelling 25 = .ok (.iinc 2 1, 3) := dk_132 2 1 (dk_at dksX0_greatestTelling_1 1 rfl rfl)
theorem dX0_greatestTelling_28 : decode cX0_greatestTelling 28 = .ok (.goto (-24), 3) := dk_167 255 232 (dk_at dksX0_greatestTelling_1 4 rfl rfl)
theorem dX0_greatestTelling_31 : decode cX0_greatestTelling 31 = .ok (.iload_n 1, 1) := dk_27 (dk_at dksX0_greatestTelling_1 7 rfl rfl)
theorem dX0_greatestTelling_32 : decode cX0_greatestTelling 32 = .ok (.ireturn, 1) := dk_172 (dk_at dksX0_greatestTelling_1 8 rfl rfl)
abbrev cX0_sum : ByteArray := prog_1_method_24_code
def yX0_sum : MethodName := ⟨RX0, "sum", "(I)I"⟩
def dkwX0_sum_4 : List UInt8 := [104, 96, 61, 132, 3, 1, 167, 255, 159, 28, 172]
abbrev dktX0_sum_4 : List UInt8 := dkwX0_sum_4 ++ []
def dkwX0_sum_3 : List UInt8 := [25, 4, 180, 0, 240, 42, 29, 182, 1, 26, 104, 167, 0, 14, 25, 4, 180, 0, 240, 25, 4, 182, 1, 7]
abbrev dktX0_sum_3 : List UInt8 := dkwX0_sum_3 ++ dktX0_sum_4
def dkwX0_sum_2 : List UInt8 := [42, 29, 182, 1, 15, 182, 1, 53, 153, 0, 7, 3, 167, 0, 37, 4, 167, 0, 33, 27, 8, 160, 0, 17]
abbrev dktX0_sum_2 : List UInt8 := dkwX0_sum_2 ++ dktX0_sum_3
def dkwX0_sum_1 : List UInt8 := [192, 0, 140, 58, 4, 28, 27, 4, 160, 0, 11, 25, 4, 180, 0, 240, 167, 0, 57, 27, 5, 160, 0, 22]
abbrev dktX0_sum_1 : List UInt8 := dkwX0_sum_1 ++ dktX0_sum_2
def dkwX0_sum_0 : List UInt8 := [3, 61, 3, 62, 29, 42, 180, 0, 18, 182, 0, 111, 162, 0, 92, 42, 180, 0, 18, 29, 182, 0, 237]
abbrev dktX0_sum_0 : List UInt8 := dkwX0_sum_0 ++ dktX0_sum_1
theorem dksX0_sum_0 : cX0_sum.data.toList.drop 0 = dktX0_sum_0 := by decide +kernel
theorem dksX0_sum_1 : cX0_sum.data.toList.drop 23 = dktX0_sum_1 := dk_seg dksX0_sum_0 23 rfl rfl
theorem dksX0_sum_2 : cX0_sum.data.toList.drop 47 = dktX0_sum_2 := dk_seg dksX0_sum_1 24 rfl rfl
theorem dksX0_sum_3 : cX0_sum.data.toList.drop 71 = dktX0_sum_3 := dk_seg dksX0_sum_2 24 rfl rfl
theorem dksX0_sum_4 : cX0_sum.data.toList.drop 95 = dktX0_sum_4 := dk_seg dksX0_sum_3 24 rfl rfl
theorem dX0_sum_0 : decode cX0_sum 0 = .ok (.iconst 0, 1) := dk_3 (dk_at dksX0_sum_0 0 rfl rfl)
theorem dX0_sum_1 : decode cX0_sum 1 = .ok (.istore_n 2, 1) := dk_61 (dk_at dksX0_sum_0 1 rfl rfl)
theorem dX0_sum_2 : decode cX0_sum 2 = .ok (.iconst 0, 1) := dk_3 (dk_at dksX0_sum_0 2 rfl rfl)
theorem dX0_sum_3 : decode cX0_sum 3 = .ok (.istore_n 3, 1) := dk_62 (dk_at dksX0_sum_0 3 rfl rfl)
theorem dX0_sum_4 : decode cX0_sum 4 = .ok (.iload_n 3, 1) := dk_29 (dk_at dksX0_sum_0 4 rfl rfl)
theorem dX0_sum_5 : decode cX0_sum 5 = .ok (.aload_n 0, 1) := dk_42 (dk_at dksX0_sum_0 5 rfl rfl)
theorem dX0_sum_6 : decode cX0_sum 6 = .ok (.getfield 18, 3) := dk_180 0 18 (dk_at dksX0_sum_0 6 rfl rfl)
theorem dX0_sum_9 : decode cX0_sum 9 = .ok (.invokevirtual 111, 3) := dk_182 0 111 (dk_at dksX0_sum_0 9 rfl rfl)
theorem dX0_sum_12 : decode cX0_sum 12 = .ok (.if_icmp .ge 92, 3) := dk_162 0 92 (dk_at dksX0_sum_0 12 rfl rfl)
theorem dX0_sum_15 : decode cX0_sum 15 = .ok (.aload_n 0, 1) := dk_42 (dk_at dksX0_sum_0 15 rfl rfl)
theorem dX0_sum_16 : decode cX0_sum 16 = .ok (.getfield 18, 3) := dk_180 0 18 (dk_at dksX0_sum_0 16 rfl rfl)
theorem dX0_sum_19 : decode cX0_sum 19 = .ok (.iload_n 3, 1) := dk_29 (dk_at dksX0_sum_0 19 rfl rfl)
theorem dX0_sum_20 : decode cX0_sum 20 = .ok (.invokevirtual 237, 3) := dk_182 0 237 (dk_at dksX0_sum_0 20 rfl rfl)
theorem dX0_sum_23 : decode cX0_sum 23 = .ok (.checkcast 140, 3) := dk_192 0 140 (dk_at dksX0_sum_1 0 rfl rfl)
theorem dX0_sum_26 : decode cX0_sum 26 = .ok (.astore 4, 2) := dk_58 4 (dk_at dksX0_sum_1 3 rfl rfl)
theorem dX0_sum_28 : decode cX0_sum 28 = .ok (.iload_n 2, 1) := dk_28 (dk_at dksX0_sum_1 5 rfl rfl)
theorem dX0_sum_29 : decode cX0_sum 29 = .ok (.iload_n 1, 1) := dk_27 (dk_at dksX0_sum_1 6 rfl rfl)
theorem dX0_sum_30 : decode cX0_sum 30 = .ok (.iconst 1, 1) := dk_4 (dk_at dksX0_sum_1 7 rfl rfl)
theorem dX0_sum_31 : decode cX0_sum 31 = .ok (.if_icmp .ne 11, 3) := dk_160 0 11 (dk_at dksX0_sum_1 8 rfl rfl)
theorem dX0_sum_34 : decode cX0_sum 34 = .ok (.aload 4, 2) := dk_25 4 (dk_at dksX0_sum_1 11 rfl rfl)
theorem dX0_sum_36 : decode cX0_sum 36 = .ok (.getfield 240, 3) := dk_180 0 240 (dk_at dksX0_sum_1 13 rfl rfl)
theorem dX0_sum_39 : decode cX0_sum 39 = .ok (.goto 57, 3) := dk_167 0 57 (dk_at dksX0_sum_1 16 rfl rfl)
theorem dX0_sum_42 : decode cX0_sum 42 = .ok (.iload_n 1, 1) := dk_27 (dk_at dksX0_sum_1 19 rfl rfl)
theorem dX0_sum_43 : decode cX0_sum 43 = .ok (.iconst 2, 1) := dk_5 (dk_at dksX0_sum_1 20 rfl rfl)
theorem dX0_sum_44 : decode cX0_sum 44 = .ok (.if_icmp .ne 22, 3) := dk_160 0 22 (dk_at dksX0_sum_1 21 rfl rfl)
theorem dX0_sum_47 : decode cX0_sum 47 = .ok (.aload_n 0, 1) := dk_42 (dk_at dksX0_sum_2 0 rfl rfl)
theorem dX0_sum_48 : decode cX0_sum 48 = .ok (.iload_n 3, 1) := dk_29 (dk_at dksX0_sum_2 1 rfl rfl)
theorem dX0_sum_49 : decode cX0_sum 49 = .ok (.invokevirtual 271, 3) := dk_182 1 15 (dk_at dksX0_sum_2 2 rfl rfl)
theorem dX0_sum_52 : decode cX0_sum 52 = .ok (.invokevirtual 309, 3) := dk_182 1 53 (dk_at dksX0_sum_2 5 rfl rfl)
theorem dX0_sum_55 : decode cX0_sum 55 = .ok (.ifCond .eq 7, 3) := dk_153 0 7 (dk_at dksX0_sum_2 8 rfl rfl)
theorem dX0_sum_58 : decode cX0_sum 58 = .ok (.iconst 0, 1) := dk_3 (dk_at dksX0_sum_2 11 rfl rfl)
theorem dX0_sum_59 : decode cX0_sum 59 = .ok (.goto 37, 3) := dk_167 0 37 (dk_at dksX0_sum_2 12 rfl rfl)
theorem dX0_sum_62 : decode cX0_sum 62 = .ok (.iconst 1, 1) := dk_4 (dk_at dksX0_sum_2 15 rfl rfl)
theorem dX0_sum_63 : decode cX0_sum 63 = .ok (.goto 33, 3) := dk_167 0 33 (dk_at dksX0_sum_2 16 rfl rfl)
theorem dX0_sum_66 : decode cX0_sum 66 = .ok (.iload_n 1, 1) := dk_27 (dk_at dksX0_sum_2 19 rfl rfl)
theorem dX0_sum_67 : decode cX0_sum 67 = .ok (.iconst 5, 1) := dk_8 (dk_at dksX0_sum_2 20 rfl rfl)
theorem dX0_sum_68 : decode cX0_sum 68 = .ok (.if_icmp .ne 17, 3) := dk_160 0 17 (dk_at dksX0_sum_2 21 rfl rfl)
theorem dX0_sum_71 : decode cX0_sum 71 = .ok (.aload 4, 2) := dk_25 4 (dk_at dksX0_sum_3 0 rfl rfl)
theorem dX0_sum_73 : decode cX0_sum 73 = .ok (.getfield 240, 3) := dk_180 0 240 (dk_at dksX0_sum_3 2 rfl rfl)
theorem dX0_sum_76 : decode cX0_sum 76 = .ok (.aload_n 0, 1) := dk_42 (dk_at dksX0_sum_3 5 rfl rfl)
theorem dX0_sum_77 : decode cX0_sum 77 = .ok (.iload_n 3, 1) := dk_29 (dk_at dksX0_sum_3 6 rfl rfl)
theorem dX0_sum_78 : decode cX0_sum 78 = .ok (.invokevirtual 282, 3) := dk_182 1 26 (dk_at dksX0_sum_3 7 rfl rfl)
theorem dX0_sum_81 : decode cX0_sum 81 = .ok (.imul, 1) := dk_104 (dk_at dksX0_sum_3 10 rfl rfl)
theorem dX0_sum_82 : decode cX0_sum 82 = .ok (.goto 14, 3) := dk_167 0 14 (dk_at dksX0_sum_3 11 rfl rfl)
theorem dX0_sum_85 : decode cX0_sum 85 = .ok (.aload 4, 2) := dk_25 4 (dk_at dksX0_sum_3 14 rfl rfl)
theorem dX0_sum_87 : decode cX0_sum 87 = .ok (.getfield 240, 3) := dk_180 0 240 (dk_at dksX0_sum_3 16 rfl rfl)
theorem dX0_sum_90 : decode cX0_sum 90 = .ok (.aload 4, 2) := dk_25 4 (dk_at dksX0_sum_3 19 rfl rfl)
theorem dX0_sum_92 : decode cX0_sum 92 = .ok (.invokevirtual 263, 3) := dk_182 1 7 (dk_at dksX0_sum_3 21 rfl rfl)
theorem dX0_sum_95 : decode cX0_sum 95 = .ok (.imul, 1) := dk_104 (dk_at dksX0_sum_4 0 rfl rfl)
theorem dX0_sum_96 : decode cX0_sum 96 = .ok (.iadd, 1) := dk_96 (dk_at dksX0_sum_4 1 rfl rfl)
theorem dX0_sum_97 : decode cX0_sum 97 = .ok (.istore_n 2, 1) := dk_61 (dk_at dksX0_sum_4 2 rfl rfl)
theorem dX0_sum_98 : decode cX0_sum 98 = .ok (.iinc 3 1, 3) := dk_132 3 1 (dk_at dksX0_sum_4 3 rfl rfl)
theorem dX0_sum_101 : decode cX0_sum 101 = .ok (.goto (-97), 3) := dk_167 255 159 (dk_at dksX0_sum_4 6 rfl rfl)
theorem dX0_sum_104 : decode cX0_sum 104 = .ok (.iload_n 2, 1) := dk_28 (dk_at dksX0_sum_4 9 rfl rfl)
theorem dX0_sum_105 : decode cX0_sum 105 = .ok (.ireturn, 1) := dk_172 (dk_at dksX0_sum_4 10 rfl rfl)
abbrev cX0_press : ByteArray := prog_1_method_27_code
def yX0_press : MethodName := ⟨RX0, "press", "(I)I"⟩
def dkwX0_press_2 : List UInt8 := [172]
abbrev dktX0_press_2 : List UInt8 := dkwX0_press_2 ++ []
def dkwX0_press_1 : List UInt8 := [160, 0, 6, 16, 152, 172, 42, 180, 0, 58, 27, 184, 0, 204, 182, 1, 68, 42, 180, 0, 58, 182, 1, 35]
abbrev dktX0_press_1 : List UInt8 := dkwX0_press_1 ++ dktX0_press_2
def dkwX0_press_0 : List UInt8 := [27, 5, 16, 9, 184, 0, 114, 154, 0, 6, 16, 154, 172, 42, 180, 0, 58, 182, 1, 35, 16, 10]
abbrev dktX0_press_0 : List UInt8 := dkwX0_press_0 ++ dktX0_press_1
theorem dksX0_press_0 : cX0_press.data.toList.drop 0 = dktX0_press_0 := by decide +kernel
theorem dksX0_press_1 : cX0_press.data.toList.drop 22 = dktX0_press_1 := dk_seg dksX0_press_0 22 rfl rfl
theorem dksX0_press_2 : cX0_press.data.toList.drop 46 = dktX0_press_2 := dk_seg dksX0_press_1 24 rfl rfl
theorem dX0_press_0 : decode cX0_press 0 = .ok (.iload_n 1, 1) := dk_27 (dk_at dksX0_press_0 0 rfl rfl)
theorem dX0_press_1 : decode cX0_press 1 = .ok (.iconst 2, 1) := dk_5 (dk_at dksX0_press_0 1 rfl rfl)
theorem dX0_press_2 : decode cX0_press 2 = .ok (.bipush 9, 2) := dk_16 9 (dk_at dksX0_press_0 2 rfl rfl)
theorem dX0_press_4 : decode cX0_press 4 = .ok (.invokestatic 114, 3) := dk_184 0 114 (dk_at dksX0_press_0 4 rfl rfl)
theorem dX0_press_7 : decode cX0_press 7 = .ok (.ifCond .ne 6, 3) := dk_154 0 6 (dk_at dksX0_press_0 7 rfl rfl)
theorem dX0_press_10 : decode cX0_press 10 = .ok (.bipush (-102), 2) := dk_16 154 (dk_at dksX0_press_0 10 rfl rfl)
theorem dX0_press_12 : decode cX0_press 12 = .ok (.ireturn, 1) := dk_172 (dk_at dksX0_press_0 12 rfl rfl)
theorem dX0_press_13 : decode cX0_press 13 = .ok (.aload_n 0, 1) := dk_42 (dk_at dksX0_press_0 13 rfl rfl)
theorem dX0_press_14 : decode cX0_press 14 = .ok (.getfield 58, 3) := dk_180 0 58 (dk_at dksX0_press_0 14 rfl rfl)
theorem dX0_press_17 : decode cX0_press 17 = .ok (.invokevirtual 291, 3) := dk_182 1 35 (dk_at dksX0_press_0 17 rfl rfl)
theorem dX0_press_20 : decode cX0_press 20 = .ok (.bipush 10, 2) := dk_16 10 (dk_at dksX0_press_0 20 rfl rfl)
theorem dX0_press_22 : decode cX0_press 22 = .ok (.if_icmp .ne 6, 3) := dk_160 0 6 (dk_at dksX0_press_1 0 rfl rfl)
theorem dX0_press_25 : decode cX0_press 25 = .ok (.bipush (-104), 2) := dk_16 152 (dk_at dksX0_press_1 3 rfl rfl)
theorem dX0_press_27 : decode cX0_press 27 = .ok (.ireturn, 1) := dk_172 (dk_at dksX0_press_1 5 rfl rfl)
theorem dX0_press_28 : decode cX0_press 28 = .ok (.aload_n 0, 1) := dk_42 (dk_at dksX0_press_1 6 rfl rfl)
theorem dX0_press_29 : decode cX0_press 29 = .ok (.getfield 58, 3) := dk_180 0 58 (dk_at dksX0_press_1 7 rfl rfl)
theorem dX0_press_32 : decode cX0_press 32 = .ok (.iload_n 1, 1) := dk_27 (dk_at dksX0_press_1 10 rfl rfl)
theorem dX0_press_33 : decode cX0_press 33 = .ok (.invokestatic 204, 3) := dk_184 0 204 (dk_at dksX0_press_1 11 rfl rfl)
theorem dX0_press_36 : decode cX0_press 36 = .ok (.invokevirtual 324, 3) := dk_182 1 68 (dk_at dksX0_press_1 14 rfl rfl)
theorem dX0_press_39 : decode cX0_press 39 = .ok (.aload_n 0, 1) := dk_42 (dk_at dksX0_press_1 17 rfl rfl)
theorem dX0_press_40 : decode cX0_press 40 = .ok (.getfield 58, 3) := dk_180 0 58 (dk_at dksX0_press_1 18 rfl rfl)
theorem dX0_press_43 : decode cX0_press 43 = .ok (.invokevirtual 291, 3) := dk_182 1 35 (dk_at dksX0_press_1 21 rfl rfl)
theorem dX0_press_46 : decode cX0_press 46 = .ok (.ireturn, 1) := dk_172 (dk_at dksX0_press_2 0 rfl rfl)
abbrev cX0_back : ByteArray := prog_1_method_28_code
def yX0_back : MethodName := ⟨RX0, "back", "()I"⟩
def dkwX0_back_1 : List UInt8 := [180, 0, 58, 182, 1, 35, 172]
abbrev dktX0_back_1 : List UInt8 := dkwX0_back_1 ++ []
def dkwX0_back_0 : List UInt8 := [42, 180, 0, 58, 182, 1, 69, 153, 0, 6, 16, 153, 172, 42, 180, 0, 58, 182, 1, 70, 87, 42]
abbrev dktX0_back_0 : List UInt8 := dkwX0_back_0 ++ dktX0_back_1
theorem dksX0_back_0 : cX0_back.data.toList.drop 0 = dktX0_back_0 := by decide +kernel
theorem dksX0_back_1 : cX0_back.data.toList.drop 22 = dktX0_back_1 := dk_seg dksX0_back_0 22 rfl rfl
theorem dX0_back_0 : decode cX0_back 0 = .ok (.aload_n 0, 1) := dk_42 (dk_at dksX0_back_0 0 rfl rfl)
theorem dX0_back_1 : decode cX0_back 1 = .ok (.getfield 58, 3) := dk_180 0 58 (dk_at dksX0_back_0 1 rfl rfl)
theorem dX0_back_4 : decode cX0_back 4 = .ok (.invokevirtual 325, 3) := dk_182 1 69 (dk_at dksX0_back_0 4 rfl rfl)
theorem dX0_back_7 : decode cX0_back 7 = .ok (.ifCond .eq 6, 3) := dk_153 0 6 (dk_at dksX0_back_0 7 rfl rfl)
theorem dX0_back_10 : decode cX0_back 10 = .ok (.bipush (-103), 2) := dk_16 153 (dk_at dksX0_back_0 10 rfl rfl)
theorem dX0_back_12 : decode cX0_back 12 = .ok (.ireturn, 1) := dk_172 (dk_at dksX0_back_0 12 rfl rfl)
theorem dX0_back_13 : decode cX0_back 13 = .ok (.aload_n 0, 1) := dk_42 (dk_at dksX0_back_0 13 rfl rfl)
theorem dX0_back_14 : decode cX0_back 14 = .ok (.getfield 58, 3) := dk_180 0 58 (dk_at dksX0_back_0 14 rfl rfl)
theorem dX0_back_17 : decode cX0_back 17 = .ok (.invokevirtual 326, 3) := dk_182 1 70 (dk_at dksX0_back_0 17 rfl rfl)
theorem dX0_back_20 : decode cX0_back 20 = .ok (.pop, 1) := dk_87 (dk_at dksX0_back_0 20 rfl rfl)
theorem dX0_back_21 : decode cX0_back 21 = .ok (.aload_n 0, 1) := dk_42 (dk_at dksX0_back_0 21 rfl rfl)
theorem dX0_back_22 : decode cX0_back 22 = .ok (.getfield 58, 3) := dk_180 0 58 (dk_at dksX0_back_1 0 rfl rfl)
theorem dX0_back_25 : decode cX0_back 25 = .ok (.invokevirtual 291, 3) := dk_182 1 35 (dk_at dksX0_back_1 3 rfl rfl)
theorem dX0_back_28 : decode cX0_back 28 = .ok (.ireturn, 1) := dk_172 (dk_at dksX0_back_1 6 rfl rfl)
abbrev cX0_wipe : ByteArray := prog_1_method_29_code
def yX0_wipe : MethodName := ⟨RX0, "wipe", "()I"⟩
def dkwX0_wipe_0 : List UInt8 := [42, 180, 0, 58, 182, 1, 35, 60, 42, 180, 0, 58, 182, 1, 73, 27, 172]
abbrev dktX0_wipe_0 : List UInt8 := dkwX0_wipe_0 ++ []
theorem dksX0_wipe_0 : cX0_wipe.data.toList.drop 0 = dktX0_wipe_0 := by decide +kernel
theorem dX0_wipe_0 : decode cX0_wipe 0 = .ok (.aload_n 0, 1) := dk_42 (dk_at dksX0_wipe_0 0 rfl rfl)
theorem dX0_wipe_1 : decode cX0_wipe 1 = .ok (.getfield 58, 3) := dk_180 0 58 (dk_at dksX0_wipe_0 1 rfl rfl)
theorem dX0_wipe_4 : decode cX0_wipe 4 = .ok (.invokevirtual 291, 3) := dk_182 1 35 (dk_at dksX0_wipe_0 4 rfl rfl)
theorem dX0_wipe_7 : decode cX0_wipe 7 = .ok (.istore_n 1, 1) := dk_60 (dk_at dksX0_wipe_0 7 rfl rfl)
theorem dX0_wipe_8 : decode cX0_wipe 8 = .ok (.aload_n 0, 1) := dk_42 (dk_at dksX0_wipe_0 8 rfl rfl)
theorem dX0_wipe_9 : decode cX0_wipe 9 = .ok (.getfield 58, 3) := dk_180 0 58 (dk_at dksX0_wipe_0 9 rfl rfl)
theorem dX0_wipe_12 : decode cX0_wipe 12 = .ok (.invokevirtual 329, 3) := dk_182 1 73 (dk_at dksX0_wipe_0 12 rfl rfl)
theorem dX0_wipe_15 : decode cX0_wipe 15 = .ok (.iload_n 1, 1) := dk_27 (dk_at dksX0_wipe_0 15 rfl rfl)
theorem dX0_wipe_16 : decode cX0_wipe 16 = .ok (.ireturn, 1) := dk_172 (dk_at dksX0_wipe_0 16 rfl rfl)
abbrev cX0_typed : ByteArray := prog_1_method_30_code
def yX0_typed : MethodName := ⟨RX0, "typed", "(I)I"⟩
def dkwX0_typed_1 : List UInt8 := [182, 1, 75, 192, 0, 176, 182, 0, 178, 167, 0, 5, 16, 155, 172]
abbrev dktX0_typed_1 : List UInt8 := dkwX0_typed_1 ++ []
def dkwX0_typed_0 : List UInt8 := [27, 3, 42, 180, 0, 58, 182, 1, 35, 4, 100, 184, 0, 114, 153, 0, 20, 42, 180, 0, 58, 27]
abbrev dktX0_typed_0 : List UInt8 := dkwX0_typed_0 ++ dktX0_typed_1
theorem dksX0_typed_0 : cX0_typed.data.toList.drop 0 = dktX0_typed_0 := by decide +kernel
theorem dksX0_typed_1 : cX0_typed.data.toList.drop 22 = dktX0_typed_1 := dk_seg dksX0_typed_0 22 rfl rfl
theorem dX0_typed_0 : decode cX0_typed 0 = .ok (.iload_n 1, 1) := dk_27 (dk_at dksX0_typed_0 0 rfl rfl)
theorem dX0_typed_1 : decode cX0_typed 1 = .ok (.iconst 0, 1) := dk_3 (dk_at dksX0_typed_0 1 rfl rfl)
theorem dX0_typed_2 : decode cX0_typed 2 = .ok (.aload_n 0, 1) := dk_42 (dk_at dksX0_typed_0 2 rfl rfl)
theorem dX0_typed_3 : decode cX0_typed 3 = .ok (.getfield 58, 3) := dk_180 0 58 (dk_at dksX0_typed_0 3 rfl rfl)
theorem dX0_typed_6 : decode cX0_typed 6 = .ok (.invokevirtual 291, 3) := dk_182 1 35 (dk_at dksX0_typed_0 6 rfl rfl)
theorem dX0_typed_9 : decode cX0_typed 9 = .ok (.iconst 1, 1) := dk_4 (dk_at dksX0_typed_0 9 rfl rfl)
theorem dX0_typed_10 : decode cX0_typed 10 = .ok (.isub, 1) := dk_100 (dk_at dksX0_typed_0 10 rfl rfl)
theorem dX0_typed_11 : decode cX0_typed 11 = .ok (.invokestatic 114, 3) := dk_184 0 114 (dk_at dksX0_typed_0 11 rfl rfl)
theorem dX0_typed_14 : decode cX0_typed 14 = .ok (.ifCond .eq 20, 3) := dk_153 0 20 (dk_at dksX0_typed_0 14 rfl rfl)
theorem dX0_typed_17 : decode cX0_typed 17 = .ok (.aload_n 0, 1) := dk_42 (dk_at dksX0_typed_0 17 rfl rfl)
theorem dX0_typed_18 : decode cX0_typed 18 = .ok (.getfield 58, 3) := dk_180 0 58 (dk_at dksX0_typed_0 18 rfl rfl)
theorem dX0_typed_21 : decode cX0_typed 21 = .ok (.iload_n 1, 1) := dk_27 (dk_at dksX0_typed_0 21 rfl rfl)
theorem dX0_typed_22 : decode cX0_typed 22 = .ok (.invokevirtual 331, 3) := dk_182 1 75 (dk_at dksX0_typed_1 0 rfl rfl)
theorem dX0_typed_25 : decode cX0_typed 25 = .ok (.checkcast 176, 3) := dk_192 0 176 (dk_at dksX0_typed_1 3 rfl rfl)
theorem dX0_typed_28 : decode cX0_typed 28 = .ok (.invokevirtual 178, 3) := dk_182 0 178 (dk_at dksX0_typed_1 6 rfl rfl)
theorem dX0_typed_31 : decode cX0_typed 31 = .ok (.goto 5, 3) := dk_167 0 5 (dk_at dksX0_typed_1 9 rfl rfl)
theorem dX0_typed_34 : decode cX0_typed 34 = .ok (.bipush (-101), 2) := dk_16 155 (dk_at dksX0_typed_1 12 rfl rfl)
theorem dX0_typed_36 : decode cX0_typed 36 = .ok (.ireturn, 1) := dk_172 (dk_at dksX0_typed_1 14 rfl rfl)
abbrev cX0_choice : ByteArray := prog_1_method_32_code
def yX0_choice : MethodName := ⟨RX0, "choice", "(I)I"⟩
def dkwX0_choice_2 : List UInt8 := [45, 185, 0, 97, 1, 0, 192, 1, 83, 58, 4, 132, 5, 1, 167, 255, 236, 25, 4, 180, 1, 94, 172]
abbrev dktX0_choice_2 : List UInt8 := dkwX0_choice_2 ++ []
def dkwX0_choice_1 : List UInt8 := [182, 1, 93, 78, 45, 185, 0, 97, 1, 0, 192, 1, 83, 58, 4, 3, 54, 5, 21, 5, 27, 162, 0, 20]
abbrev dktX0_choice_1 : List UInt8 := dkwX0_choice_1 ++ dktX0_choice_2
def dkwX0_choice_0 : List UInt8 := [42, 182, 1, 88, 77, 27, 3, 44, 182, 1, 92, 4, 100, 184, 0, 114, 154, 0, 6, 16, 155, 172, 44]
abbrev dktX0_choice_0 : List UInt8 := dkwX0_choice_0 ++ dktX0_choice_1
theorem dksX0_choice_0 : cX0_choice.data.toList.drop 0 = dktX0_choice_0 := by decide +kernel
theorem dksX0_choice_1 : cX0_choice.data.toList.drop 23 = dktX0_choice_1 := dk_seg dksX0_choice_0 23 rfl rfl
theorem dksX0_choice_2 : cX0_choice.data.toList.drop 47 = dktX0_choice_2 := dk_seg dksX0_choice_1 24 rfl rfl
theorem dX0_choice_0 : decode cX0_choice 0 = .ok (.aload_n 0, 1) := dk_42 (dk_at dksX0_choice_0 0 rfl rfl)
theorem dX0_choice_1 : decode cX0_choice 1 = .ok (.invokevirtual 344, 3) := dk_182 1 88 (dk_at dksX0_choice_0 1 rfl rfl)
theorem dX0_choice_4 : decode cX0_choice 4 = .ok (.astore_n 2, 1) := dk_77 (dk_at dksX0_choice_0 4 rfl rfl)
theorem dX0_choice_5 : decode cX0_choice 5 = .ok (.iload_n 1, 1) := dk_27 (dk_at dksX0_choice_0 5 rfl rfl)
theorem dX0_choice_6 : decode cX0_choice 6 = .ok (.iconst 0, 1) := dk_3 (dk_at dksX0_choice_0 6 rfl rfl)
theorem dX0_choice_7 : decode cX0_choice 7 = .ok (.aload_n 2, 1) := dk_44 (dk_at dksX0_choice_0 7 rfl rfl)
theorem dX0_choice_8 : decode cX0_choice 8 = .ok (.invokevirtual 348, 3) := dk_182 1 92 (dk_at dksX0_choice_0 8 rfl rfl)
theorem dX0_choice_11 : decode cX0_choice 11 = .ok (.iconst 1, 1) := dk_4 (dk_at dksX0_choice_0 11 rfl rfl)
theorem dX0_choice_12 : decode cX0_choice 12 = .ok (.isub, 1) := dk_100 (dk_at dksX0_choice_0 12 rfl rfl)
theorem dX0_choice_13 : decode cX0_choice 13 = .ok (.invokestatic 114, 3) := dk_184 0 114 (dk_at dksX0_choice_0 13 rfl rfl)
theorem dX0_choice_16 : decode cX0_choice 16 = .ok (.ifCond .ne 6, 3) := dk_154 0 6 (dk_at dksX0_choice_0 16 rfl rfl)
theorem dX0_choice_19 : decode cX0_choice 19 = .ok (.bipush (-101), 2) := dk_16 155 (dk_at dksX0_choice_0 19 rfl rfl)
theorem dX0_choice_21 : decode cX0_choice 21 = .ok (.ireturn, 1) := dk_172 (dk_at dksX0_choice_0 21 rfl rfl)
theorem dX0_choice_22 : decode cX0_choice 22 = .ok (.aload_n 2, 1) := dk_44 (dk_at dksX0_choice_0 22 rfl rfl)
theorem dX0_choice_23 : decode cX0_choice 23 = .ok (.invokevirtual 349, 3) := dk_182 1 93 (dk_at dksX0_choice_1 0 rfl rfl)
theorem dX0_choice_26 : decode cX0_choice 26 = .ok (.astore_n 3, 1) := dk_78 (dk_at dksX0_choice_1 3 rfl rfl)
theorem dX0_choice_27 : decode cX0_choice 27 = .ok (.aload_n 3, 1) := dk_45 (dk_at dksX0_choice_1 4 rfl rfl)
theorem dX0_choice_28 : decode cX0_choice 28 = .ok (.invokeinterface 97 1, 5) := by decide +kernel
theorem dX0_choice_33 : decode cX0_choice 33 = .ok (.checkcast 339, 3) := dk_192 1 83 (dk_at dksX0_choice_1 10 rfl rfl)
theorem dX0_choice_36 : decode cX0_choice 36 = .ok (.astore 4, 2) := dk_58 4 (dk_at dksX0_choice_1 13 rfl rfl)
theorem dX0_choice_38 : decode cX0_choice 38 = .ok (.iconst 0, 1) := dk_3 (dk_at dksX0_choice_1 15 rfl rfl)
theorem dX0_choice_39 : decode cX0_choice 39 = .ok (.istore 5, 2) := dk_54 5 (dk_at dksX0_choice_1 16 rfl rfl)
theorem dX0_choice_41 : decode cX0_choice 41 = .ok (.iload 5, 2) := dk_21 5 (dk_at dksX0_choice_1 18 rfl rfl)
theorem dX0_choice_43 : decode cX0_choice 43 = .ok (.iload_n 1, 1) := dk_27 (dk_at dksX0_choice_1 20 rfl rfl)
theorem dX0_choice_44 : decode cX0_choice 44 = .ok (.if_icmp .ge 20, 3) := dk_162 0 20 (dk_at dksX0_choice_1 21 rfl rfl)
theorem dX0_choice_47 : decode cX0_choice 47 = .ok (.aload_n 3, 1) := dk_45 (dk_at dksX0_choice_2 0 rfl rfl)
theorem dX0_choice_48 : decode cX0_choice 48 = .ok (.invokeinterface 97 1, 5) := by decide +kernel
theorem dX0_choice_53 : decode cX0_choice 53 = .ok (.checkcast 339, 3) := dk_192 1 83 (dk_at dksX0_choice_2 6 rfl rfl)
theorem dX0_choice_56 : decode cX0_choice 56 = .ok (.astore 4, 2) := dk_58 4 (dk_at dksX0_choice_2 9 rfl rfl)
theorem dX0_choice_58 : decode cX0_choice 58 = .ok (.iinc 5 1, 3) := dk_132 5 1 (dk_at dksX0_choice_2 11 rfl rfl)
theorem dX0_choice_61 : decode cX0_choice 61 = .ok (.goto (-20), 3) := dk_167 255 236 (dk_at dksX0_choice_2 14 rfl rfl)
theorem dX0_choice_64 : decode cX0_choice 64 = .ok (.aload 4, 2) := dk_25 4 (dk_at dksX0_choice_2 17 rfl rfl)
theorem dX0_choice_66 : decode cX0_choice 66 = .ok (.getfield 350, 3) := dk_180 1 94 (dk_at dksX0_choice_2 19 rfl rfl)
theorem dX0_choice_69 : decode cX0_choice 69 = .ok (.ireturn, 1) := dk_172 (dk_at dksX0_choice_2 22 rfl rfl)
abbrev cX0_chosen : ByteArray := prog_1_method_31_code
def yX0_chosen : MethodName := ⟨RX0, "chosen", "()Ljava/util/TreeSet;"⟩
def dkwX0_chosen_3 : List UInt8 := [132, 2, 1, 167, 255, 194, 43, 176]
abbrev dktX0_chosen_3 : List UInt8 := dkwX0_chosen_3 ++ []
def dkwX0_chosen_2 : List UInt8 := [89, 28, 42, 180, 0, 18, 28, 182, 0, 237, 192, 0, 140, 180, 0, 240, 183, 1, 85, 182, 1, 87, 87]
abbrev dktX0_chosen_2 : List UInt8 := dkwX0_chosen_2 ++ dktX0_chosen_3
def dkwX0_chosen_1 : List UInt8 := [180, 0, 18, 28, 182, 0, 237, 192, 0, 140, 42, 180, 0, 58, 182, 1, 79, 153, 0, 30, 43, 187, 1, 83]
abbrev dktX0_chosen_1 : List UInt8 := dkwX0_chosen_1 ++ dktX0_chosen_2
def dkwX0_chosen_0 : List UInt8 := [187, 1, 76, 89, 183, 1, 78, 76, 3, 61, 28, 42, 180, 0, 18, 182, 0, 111, 162, 0, 57, 42]
abbrev dktX0_chosen_0 : List UInt8 := dkwX0_chosen_0 ++ dktX0_chosen_1
theorem dksX0_chosen_0 : cX0_chosen.data.toList.drop 0 = dktX0_chosen_0 := by decide +kernel
theorem dksX0_chosen_1 : cX0_chosen.data.toList.drop 22 = dktX0_chosen_1 := dk_seg dksX0_chosen_0 22 rfl rfl
theorem dksX0_chosen_2 : cX0_chosen.data.toList.drop 46 = dktX0_chosen_2 := dk_seg dksX0_chosen_1 24 rfl rfl
theorem dksX0_chosen_3 : cX0_chosen.data.toList.drop 69 = dktX0_chosen_3 := dk_seg dksX0_chosen_2 23 rfl rfl
theorem dX0_chosen_0 : decode cX0_chosen 0 = .ok (.new 332, 3) := dk_187 1 76 (dk_at dksX0_chosen_0 0 rfl rfl)
theorem dX0_chosen_3 : decode cX0_chosen 3 = .ok (.dup, 1) := dk_89 (dk_at dksX0_chosen_0 3 rfl rfl)
theorem dX0_chosen_4 : decode cX0_chosen 4 = .ok (.invokespecial 334, 3) := dk_183 1 78 (dk_at dksX0_chosen_0 4 rfl rfl)
theorem dX0_chosen_7 : decode cX0_chosen 7 = .ok (.astore_n 1, 1) := dk_76 (dk_at dksX0_chosen_0 7 rfl rfl)
theorem dX0_chosen_8 : decode cX0_chosen 8 = .ok (.iconst 0, 1) := dk_3 (dk_at dksX0_chosen_0 8 rfl rfl)
theorem dX0_chosen_9 : decode cX0_chosen 9 = .ok (.istore_n 2, 1) := dk_61 (dk_at dksX0_chosen_0 9 rfl rfl)
theorem dX0_chosen_10 : decode cX0_chosen 10 = .ok (.iload_n 2, 1) := dk_28 (dk_at dksX0_chosen_0 10 rfl rfl)
theorem dX0_chosen_11 : decode cX0_chosen 11 = .ok (.aload_n 0, 1) := dk_42 (dk_at dksX0_chosen_0 11 rfl rfl)
theorem dX0_chosen_12 : decode cX0_chosen 12 = .ok (.getfield 18, 3) := dk_180 0 18 (dk_at dksX0_chosen_0 12 rfl rfl)
theorem dX0_chosen_15 : decode cX0_chosen 15 = .ok (.invokevirtual 111, 3) := dk_182 0 111 (dk_at dksX0_chosen_0 15 rfl rfl)
theorem dX0_chosen_18 : decode cX0_chosen 18 = .ok (.if_icmp .ge 57, 3) := dk_162 0 57 (dk_at dksX0_chosen_0 18 rfl rfl)
theorem dX0_chosen_21 : decode cX0_chosen 21 = .ok (.aload_n 0, 1) := dk_42 (dk_at dksX0_chosen_0 21 rfl rfl)
theorem dX0_chosen_22 : decode cX0_chosen 22 = .ok (.getfield 18, 3) := dk_180 0 18 (dk_at dksX0_chosen_1 0 rfl rfl)
theorem dX0_chosen_25 : decode cX0_chosen 25 = .ok (.iload_n 2, 1) := dk_28 (dk_at dksX0_chosen_1 3 rfl rfl)
theorem dX0_chosen_26 : decode cX0_chosen 26 = .ok (.invokevirtual 237, 3) := dk_182 0 237 (dk_at dksX0_chosen_1 4 rfl rfl)
theorem dX0_chosen_29 : decode cX0_chosen 29 = .ok (.checkcast 140, 3) := dk_192 0 140 (dk_at dksX0_chosen_1 7 rfl rfl)
theorem dX0_chosen_32 : decode cX0_chosen 32 = .ok (.aload_n 0, 1) := dk_42 (dk_at dksX0_chosen_1 10 rfl rfl)
theorem dX0_chosen_33 : decode cX0_chosen 33 = .ok (.getfield 58, 3) := dk_180 0 58 (dk_at dksX0_chosen_1 11 rfl rfl)
theorem dX0_chosen_36 : decode cX0_chosen 36 = .ok (.invokevirtual 335, 3) := dk_182 1 79 (dk_at dksX0_chosen_1 14 rfl rfl)
theorem dX0_chosen_39 : decode cX0_chosen 39 = .ok (.ifCond .eq 30, 3) := dk_153 0 30 (dk_at dksX0_chosen_1 17 rfl rfl)
theorem dX0_chosen_42 : decode cX0_chosen 42 = .ok (.aload_n 1, 1) := dk_43 (dk_at dksX0_chosen_1 20 rfl rfl)
theorem dX0_chosen_43 : decode cX0_chosen 43 = .ok (.new 339, 3) := dk_187 1 83 (dk_at dksX0_chosen_1 21 rfl rfl)
theorem dX0_chosen_46 : decode cX0_chosen 46 = .ok (.dup, 1) := dk_89 (dk_at dksX0_chosen_2 0 rfl rfl)
theorem dX0_chosen_47 : decode cX0_chosen 47 = .ok (.iload_n 2, 1) := dk_28 (dk_at dksX0_chosen_2 1 rfl rfl)
theorem dX0_chosen_48 : decode cX0_chosen 48 = .ok (.aload_n 0, 1) := dk_42 (dk_at dksX0_chosen_2 2 rfl rfl)
theorem dX0_chosen_49 : decode cX0_chosen 49 = .ok (.getfield 18, 3) := dk_180 0 18 (dk_at dksX0_chosen_2 3 rfl rfl)
theorem dX0_chosen_52 : decode cX0_chosen 52 = .ok (.iload_n 2, 1) := dk_28 (dk_at dksX0_chosen_2 6 rfl rfl)
theorem dX0_chosen_53 : decode cX0_chosen 53 = .ok (.invokevirtual 237, 3) := dk_182 0 237 (dk_at dksX0_chosen_2 7 rfl rfl)
theorem dX0_chosen_56 : decode cX0_chosen 56 = .ok (.checkcast 140, 3) := dk_192 0 140 (dk_at dksX0_chosen_2 10 rfl rfl)
theorem dX0_chosen_59 : decode cX0_chosen 59 = .ok (.getfield 240, 3) := dk_180 0 240 (dk_at dksX0_chosen_2 13 rfl rfl)
theorem dX0_chosen_62 : decode cX0_chosen 62 = .ok (.invokespecial 341, 3) := dk_183 1 85 (dk_at dksX0_chosen_2 16 rfl rfl)
theorem dX0_chosen_65 : decode cX0_chosen 65 = .ok (.invokevirtual 343, 3) := dk_182 1 87 (dk_at dksX0_chosen_2 19 rfl rfl)
theorem dX0_chosen_68 : decode cX0_chosen 68 = .ok (.pop, 1) := dk_87 (dk_at dksX0_chosen_2 22 rfl rfl)
theorem dX0_chosen_69 : decode cX0_chosen 69 = .ok (.iinc 2 1, 3) := dk_132 2 1 (dk_at dksX0_chosen_3 0 rfl rfl)
theorem dX0_chosen_72 : decode cX0_chosen 72 = .ok (.goto (-62), 3) := dk_167 255 194 (dk_at dksX0_chosen_3 3 rfl rfl)
theorem dX0_chosen_75 : decode cX0_chosen 75 = .ok (.aload_n 1, 1) := dk_43 (dk_at dksX0_chosen_3 6 rfl rfl)
theorem dX0_chosen_76 : decode cX0_chosen 76 = .ok (.areturn, 1) := dk_176 (dk_at dksX0_chosen_3 7 rfl rfl)
abbrev cX0_spelling : ByteArray := prog_1_method_37_code
def yX0_spelling : MethodName := ⟨RX0, "spelling", "(I)I"⟩
def dkwX0_spelling_0 : List UInt8 := [27, 3, 6, 184, 0, 114, 153, 0, 11, 42, 27, 182, 1, 109, 167, 0, 5, 16, 154, 172]
abbrev dktX0_spelling_0 : List UInt8 := dkwX0_spelling_0 ++ []
theorem dksX0_spelling_0 : cX0_spelling.data.toList.drop 0 = dktX0_spelling_0 := by decide +kernel
theorem dX0_spelling_0 : decode cX0_spelling 0 = .ok (.iload_n 1, 1) := dk_27 (dk_at dksX0_spelling_0 0 rfl rfl)
theorem dX0_spelling_1 : decode cX0_spelling 1 = .ok (.iconst 0, 1) := dk_3 (dk_at dksX0_spelling_0 1 rfl rfl)
theorem dX0_spelling_2 : decode cX0_spelling 2 = .ok (.iconst 3, 1) := dk_6 (dk_at dksX0_spelling_0 2 rfl rfl)
theorem dX0_spelling_3 : decode cX0_spelling 3 = .ok (.invokestatic 114, 3) := dk_184 0 114 (dk_at dksX0_spelling_0 3 rfl rfl)
theorem dX0_spelling_6 : decode cX0_spelling 6 = .ok (.ifCond .eq 11, 3) := dk_153 0 11 (dk_at dksX0_spelling_0 6 rfl rfl)
theorem dX0_spelling_9 : decode cX0_spelling 9 = .ok (.aload_n 0, 1) := dk_42 (dk_at dksX0_spelling_0 9 rfl rfl)
theorem dX0_spelling_10 : decode cX0_spelling 10 = .ok (.iload_n 1, 1) := dk_27 (dk_at dksX0_spelling_0 10 rfl rfl)
theorem dX0_spelling_11 : decode cX0_spelling 11 = .ok (.invokevirtual 365, 3) := dk_182 1 109 (dk_at dksX0_spelling_0 11 rfl rfl)
theorem dX0_spelling_14 : decode cX0_spelling 14 = .ok (.goto 5, 3) := dk_167 0 5 (dk_at dksX0_spelling_0 14 rfl rfl)
theorem dX0_spelling_17 : decode cX0_spelling 17 = .ok (.bipush (-102), 2) := dk_16 154 (dk_at dksX0_spelling_0 17 rfl rfl)
theorem dX0_spelling_19 : decode cX0_spelling 19 = .ok (.ireturn, 1) := dk_172 (dk_at dksX0_spelling_0 19 rfl rfl)
abbrev cX0_spellingTold : ByteArray := prog_1_method_36_code
def yX0_spellingTold : MethodName := ⟨RX0, "spellingTold", "(I)I"⟩
def dkwX0_spellingTold_2 : List UInt8 := [180, 0, 65, 3, 46, 172]
abbrev dktX0_spellingTold_2 : List UInt8 := dkwX0_spellingTold_2 ++ []
def dkwX0_spellingTold_1 : List UInt8 := [180, 0, 68, 3, 46, 167, 0, 23, 27, 5, 160, 0, 12, 42, 180, 0, 71, 3, 46, 167, 0, 9, 42]
abbrev dktX0_spellingTold_1 : List UInt8 := dkwX0_spellingTold_1 ++ dktX0_spellingTold_2
def dkwX0_spellingTold_0 : List UInt8 := [42, 182, 1, 106, 27, 154, 0, 12, 42, 180, 0, 62, 3, 46, 167, 0, 37, 27, 4, 160, 0, 12, 42]
abbrev dktX0_spellingTold_0 : List UInt8 := dkwX0_spellingTold_0 ++ dktX0_spellingTold_1
theorem dksX0_spellingTold_0 : cX0_spellingTold.data.toList.drop 0 = dktX0_spellingTold_0 := by decide +kernel
theorem dksX0_spellingTold_1 : cX0_spellingTold.data.toList.drop 23 = dktX0_spellingTold_1 := dk_seg dksX0_spellingTold_0 23 rfl rfl
theorem dksX0_spellingTold_2 : cX0_spellingTold.data.toList.drop 46 = dktX0_spellingTold_2 := dk_seg dksX0_spellingTold_1 23 rfl rfl
theorem dX0_spellingTold_0 : decode cX0_spellingTold 0 = .ok (.aload_n 0, 1) := dk_42 (dk_at dksX0_spellingTold_0 0 rfl rfl)
theorem dX0_spellingTold_1 : decode cX0_spellingTold 1 = .ok (.invokevirtual 362, 3) := dk_182 1 106 (dk_at dksX0_spellingTold_0 1 rfl rfl)
theorem dX0_spellingTold_4 : decode cX0_spellingTold 4 = .ok (.iload_n 1, 1) := dk_27 (dk_at dksX0_spellingTold_0 4 rfl rfl)
theorem dX0_spellingTold_5 : decode cX0_spellingTold 5 = .ok (.ifCond .ne 12, 3) := dk_154 0 12 (dk_at dksX0_spellingTold_0 5 rfl rfl)
theorem dX0_spellingTold_8 : decode cX0_spellingTold 8 = .ok (.aload_n 0, 1) := dk_42 (dk_at dksX0_spellingTold_0 8 rfl rfl)
theorem dX0_spellingTold_9 : decode cX0_spellingTold 9 = .ok (.getfield 62, 3) := dk_180 0 62 (dk_at dksX0_spellingTold_0 9 rfl rfl)
theorem dX0_spellingTold_12 : decode cX0_spellingTold 12 = .ok (.iconst 0, 1) := dk_3 (dk_at dksX0_spellingTold_0 12 rfl rfl)
theorem dX0_spellingTold_13 : decode cX0_spellingTold 13 = .ok (.iaload, 1) := dk_46 (dk_at dksX0_spellingTold_0 13 rfl rfl)
theorem dX0_spellingTold_14 : decode cX0_spellingTold 14 = .ok (.goto 37, 3) := dk_167 0 37 (dk_at dksX0_spellingTold_0 14 rfl rfl)
theorem dX0_spellingTold_17 : decode cX0_spellingTold 17 = .ok (.iload_n 1, 1) := dk_27 (dk_at dksX0_spellingTold_0 17 rfl rfl)
theorem dX0_spellingTold_18 : decode cX0_spellingTold 18 = .ok (.iconst 1, 1) := dk_4 (dk_at dksX0_spellingTold_0 18 rfl rfl)
theorem dX0_spellingTold_19 : decode cX0_spellingTold 19 = .ok (.if_icmp .ne 12, 3) := dk_160 0 12 (dk_at dksX0_spellingTold_0 19 rfl rfl)
theorem dX0_spellingTold_22 : decode cX0_spellingTold 22 = .ok (.aload_n 0, 1) := dk_42 (dk_at dksX0_spellingTold_0 22 rfl rfl)
theorem dX0_spellingTold_23 : decode cX0_spellingTold 23 = .ok (.getfield 68, 3) := dk_180 0 68 (dk_at dksX0_spellingTold_1 0 rfl rfl)
theorem dX0_spellingTold_26 : decode cX0_spellingTold 26 = .ok (.iconst 0, 1) := dk_3 (dk_at dksX0_spellingTold_1 3 rfl rfl)
theorem dX0_spellingTold_27 : decode cX0_spellingTold 27 = .ok (.iaload, 1) := dk_46 (dk_at dksX0_spellingTold_1 4 rfl rfl)
theorem dX0_spellingTold_28 : decode cX0_spellingTold 28 = .ok (.goto 23, 3) := dk_167 0 23 (dk_at dksX0_spellingTold_1 5 rfl rfl)
theorem dX0_spellingTold_31 : decode cX0_spellingTold 31 = .ok (.iload_n 1, 1) := dk_27 (dk_at dksX0_spellingTold_1 8 rfl rfl)
theorem dX0_spellingTold_32 : decode cX0_spellingTold 32 = .ok (.iconst 2, 1) := dk_5 (dk_at dksX0_spellingTold_1 9 rfl rfl)
theorem dX0_spellingTold_33 : decode cX0_spellingTold 33 = .ok (.if_icmp .ne 12, 3) := dk_160 0 12 (dk_at dksX0_spellingTold_1 10 rfl rfl)
theorem dX0_spellingTold_36 : decode cX0_spellingTold 36 = .ok (.aload_n 0, 1) := dk_42 (dk_at dksX0_spellingTold_1 13 rfl rfl)
theorem dX0_spellingTold_37 : decode cX0_spellingTold 37 = .ok (.getfield 71, 3) := dk_180 0 71 (dk_at dksX0_spellingTold_1 14 rfl rfl)
theorem dX0_spellingTold_40 : decode cX0_spellingTold 40 = .ok (.iconst 0, 1) := dk_3 (dk_at dksX0_spellingTold_1 17 rfl rfl)
theorem dX0_spellingTold_41 : decode cX0_spellingTold 41 = .ok (.iaload, 1) := dk_46 (dk_at dksX0_spellingTold_1 18 rfl rfl)
theorem dX0_spellingTold_42 : decode cX0_spellingTold 42 = .ok (.goto 9, 3) := dk_167 0 9 (dk_at dksX0_spellingTold_1 19 rfl rfl)
theorem dX0_spellingTold_45 : decode cX0_spellingTold 45 = .ok (.aload_n 0, 1) := dk_42 (dk_at dksX0_spellingTold_1 22 rfl rfl)
theorem dX0_spellingTold_46 : decode cX0_spellingTold 46 = .ok (.getfield 65, 3) := dk_180 0 65 (dk_at dksX0_spellingTold_2 0 rfl rfl)
theorem dX0_spellingTold_49 : decode cX0_spellingTold 49 = .ok (.iconst 0, 1) := dk_3 (dk_at dksX0_spellingTold_2 3 rfl rfl)
theorem dX0_spellingTold_50 : decode cX0_spellingTold 50 = .ok (.iaload, 1) := dk_46 (dk_at dksX0_spellingTold_2 4 rfl rfl)
theorem dX0_spellingTold_51 : decode cX0_spellingTold 51 = .ok (.ireturn, 1) := dk_172 (dk_at dksX0_spellingTold_2 5 rfl rfl)
abbrev cX0_laySpellings : ByteArray := prog_1_method_35_code
def yX0_laySpellings : MethodName := ⟨RX0, "laySpellings", "()V"⟩
def dkwX0_laySpellings_7 : List UInt8 := [132, 2, 255, 167, 255, 130, 177]
abbrev dktX0_laySpellings_7 : List UInt8 := dkwX0_laySpellings_7 ++ []
def dkwX0_laySpellings_6 : List UInt8 := [28, 4, 96, 4, 16, 254, 42, 180, 0, 58, 28, 182, 1, 75, 192, 0, 176, 182, 0, 178, 100, 182, 1, 102]
abbrev dktX0_laySpellings_6 : List UInt8 := dkwX0_laySpellings_6 ++ dktX0_laySpellings_7
def dkwX0_laySpellings_5 : List UInt8 := [29, 182, 0, 237, 192, 0, 140, 182, 1, 7, 96, 3, 29, 182, 1, 102, 132, 3, 1, 167, 255, 200, 42, 28]
abbrev dktX0_laySpellings_5 : List UInt8 := dkwX0_laySpellings_5 ++ dktX0_laySpellings_6
def dkwX0_laySpellings_4 : List UInt8 := [180, 0, 18, 29, 182, 0, 237, 192, 0, 140, 28, 182, 1, 98, 153, 0, 26, 42, 28, 28, 42, 180, 0, 18]
abbrev dktX0_laySpellings_4 : List UInt8 := dkwX0_laySpellings_4 ++ dktX0_laySpellings_5
def dkwX0_laySpellings_3 : List UInt8 := [180, 0, 71, 28, 19, 1, 8, 79, 3, 62, 29, 42, 180, 0, 18, 182, 0, 111, 162, 0, 51, 42, 42]
abbrev dktX0_laySpellings_3 : List UInt8 := dkwX0_laySpellings_3 ++ dktX0_laySpellings_4
def dkwX0_laySpellings_2 : List UInt8 := [180, 0, 62, 28, 3, 79, 42, 180, 0, 65, 28, 3, 79, 42, 180, 0, 68, 28, 19, 1, 8, 79, 42]
abbrev dktX0_laySpellings_2 : List UInt8 := dkwX0_laySpellings_2 ++ dktX0_laySpellings_3
def dkwX0_laySpellings_1 : List UInt8 := [180, 0, 68, 27, 3, 79, 42, 180, 0, 71, 27, 3, 79, 27, 4, 100, 61, 28, 155, 0, 128, 42]
abbrev dktX0_laySpellings_1 : List UInt8 := dkwX0_laySpellings_1 ++ dktX0_laySpellings_2
def dkwX0_laySpellings_0 : List UInt8 := [42, 180, 0, 58, 182, 1, 35, 60, 42, 180, 0, 62, 27, 4, 79, 42, 180, 0, 65, 27, 4, 79, 42]
abbrev dktX0_laySpellings_0 : List UInt8 := dkwX0_laySpellings_0 ++ dktX0_laySpellings_1
theorem dksX0_laySpellings_0 : cX0_laySpellings.data.toList.drop 0 = dktX0_laySpellings_0 := by decide +kernel
theorem dksX0_laySpellings_1 : cX0_laySpellings.data.toList.drop 23 = dktX0_laySpellings_1 := dk_seg dksX0_laySpellings_0 23 rfl rfl
theorem dksX0_laySpellings_2 : cX0_laySpellings.data.toList.drop 45 = dktX0_laySpellings_2 := dk_seg dksX0_laySpellings_1 22 rfl rfl
theorem dksX0_laySpellings_3 : cX0_laySpellings.data.toList.drop 68 = dktX0_laySpellings_3 := dk_seg dksX0_laySpellings_2 23 rfl rfl
theorem dksX0_laySpellings_4 : cX0_laySpellings.data.toList.drop 91 = dktX0_laySpellings_4 := dk_seg dksX0_laySpellings_3 23 rfl rfl
theorem dksX0_laySpellings_5 : cX0_laySpellings.data.toList.drop 115 = dktX0_laySpellings_5 := dk_seg dksX0_laySpellings_4 24 rfl rfl
theorem dksX0_laySpellings_6 : cX0_laySpellings.data.toList.drop 139 = dktX0_laySpellings_6 := dk_seg dksX0_laySpellings_5 24 rfl rfl
theorem dksX0_laySpellings_7 : cX0_laySpellings.data.toList.drop 163 = dktX0_laySpellings_7 := dk_seg dksX0_laySpellings_6 24 rfl rfl
theorem dX0_laySpellings_0 : decode cX0_laySpellings 0 = .ok (.aload_n 0, 1) := dk_42 (dk_at dksX0_laySpellings_0 0 rfl rfl)
theorem dX0_laySpellings_1 : decode cX0_laySpellings 1 = .ok (.getfield 58, 3) := dk_180 0 58 (dk_at dksX0_laySpellings_0 1 rfl rfl)
theorem dX0_laySpellings_4 : decode cX0_laySpellings 4 = .ok (.invokevirtual 291, 3) := dk_182 1 35 (dk_at dksX0_laySpellings_0 4 rfl rfl)
theorem dX0_laySpellings_7 : decode cX0_laySpellings 7 = .ok (.istore_n 1, 1) := dk_60 (dk_at dksX0_laySpellings_0 7 rfl rfl)
theorem dX0_laySpellings_8 : decode cX0_laySpellings 8 = .ok (.aload_n 0, 1) := dk_42 (dk_at dksX0_laySpellings_0 8 rfl rfl)
theorem dX0_laySpellings_9 : decode cX0_laySpellings 9 = .ok (.getfield 62, 3) := dk_180 0 62 (dk_at dksX0_laySpellings_0 9 rfl rfl)
theorem dX0_laySpellings_12 : decode cX0_laySpellings 12 = .ok (.iload_n 1, 1) := dk_27 (dk_at dksX0_laySpellings_0 12 rfl rfl)
theorem dX0_laySpellings_13 : decode cX0_laySpellings 13 = .ok (.iconst 1, 1) := dk_4 (dk_at dksX0_laySpellings_0 13 rfl rfl)
theorem dX0_laySpellings_14 : decode cX0_laySpellings 14 = .ok (.iastore, 1) := dk_79 (dk_at dksX0_laySpellings_0 14 rfl rfl)
theorem dX0_laySpellings_15 : decode cX0_laySpellings 15 = .ok (.aload_n 0, 1) := dk_42 (dk_at dksX0_laySpellings_0 15 rfl rfl)
theorem dX0_laySpellings_16 : decode cX0_laySpellings 16 = .ok (.getfield 65, 3) := dk_180 0 65 (dk_at dksX0_laySpellings_0 16 rfl rfl)
theorem dX0_laySpellings_19 : decode cX0_laySpellings 19 = .ok (.iload_n 1, 1) := dk_27 (dk_at dksX0_laySpellings_0 19 rfl rfl)
theorem dX0_laySpellings_20 : decode cX0_laySpellings 20 = .ok (.iconst 1, 1) := dk_4 (dk_at dksX0_laySpellings_0 20 rfl rfl)
theorem dX0_laySpellings_21 : decode cX0_laySpellings 21 = .ok (.iastore, 1) := dk_79 (dk_at dksX0_laySpellings_0 21 rfl rfl)
theorem dX0_laySpellings_22 : decode cX0_laySpellings 22 = .ok (.aload_n 0, 1) := dk_42 (dk_at dksX0_laySpellings_0 22 rfl rfl)
theorem dX0_laySpellings_23 : decode cX0_laySpellings 23 = .ok (.getfield 68, 3) := dk_180 0 68 (dk_at dksX0_laySpellings_1 0 rfl rfl)
theorem dX0_laySpellings_26 : decode cX0_laySpellings 26 = .ok (.iload_n 1, 1) := dk_27 (dk_at dksX0_laySpellings_1 3 rfl rfl)
theorem dX0_laySpellings_27 : decode cX0_laySpellings 27 = .ok (.iconst 0, 1) := dk_3 (dk_at dksX0_laySpellings_1 4 rfl rfl)
theorem dX0_laySpellings_28 : decode cX0_laySpellings 28 = .ok (.iastore, 1) := dk_79 (dk_at dksX0_laySpellings_1 5 rfl rfl)
theorem dX0_laySpellings_29 : decode cX0_laySpellings 29 = .ok (.aload_n 0, 1) := dk_42 (dk_at dksX0_laySpellings_1 6 rfl rfl)
theorem dX0_laySpellings_30 : decode cX0_laySpellings 30 = .ok (.getfield 71, 3) := dk_180 0 71 (dk_at dksX0_laySpellings_1 7 rfl rfl)
theorem dX0_laySpellings_33 : decode cX0_laySpellings 33 = .ok (.iload_n 1, 1) := dk_27 (dk_at dksX0_laySpellings_1 10 rfl rfl)
theorem dX0_laySpellings_34 : decode cX0_laySpellings 34 = .ok (.iconst 0, 1) := dk_3 (dk_at dksX0_laySpellings_1 11 rfl rfl)
theorem dX0_laySpellings_35 : decode cX0_laySpellings 35 = .ok (.iastore, 1) := dk_79 (dk_at dksX0_laySpellings_1 12 rfl rfl)
theorem dX0_laySpellings_36 : decode cX0_laySpellings 36 = .ok (.iload_n 1, 1) := dk_27 (dk_at dksX0_laySpellings_1 13 rfl rfl)
theorem dX0_laySpellings_37 : decode cX0_laySpellings 37 = .ok (.iconst 1, 1) := dk_4 (dk_at dksX0_laySpellings_1 14 rfl rfl)
theorem dX0_laySpellings_38 : decode cX0_laySpellings 38 = .ok (.isub, 1) := dk_100 (dk_at dksX0_laySpellings_1 15 rfl rfl)
theorem dX0_laySpellings_39 : decode cX0_laySpellings 39 = .ok (.istore_n 2, 1) := dk_61 (dk_at dksX0_laySpellings_1 16 rfl rfl)
theorem dX0_laySpellings_40 : decode cX0_laySpellings 40 = .ok (.iload_n 2, 1) := dk_28 (dk_at dksX0_laySpellings_1 17 rfl rfl)
theorem dX0_laySpellings_41 : decode cX0_laySpellings 41 = .ok (.ifCond .lt 128, 3) := dk_155 0 128 (dk_at dksX0_laySpellings_1 18 rfl rfl)
theorem dX0_laySpellings_44 : decode cX0_laySpellings 44 = .ok (.aload_n 0, 1) := dk_42 (dk_at dksX0_laySpellings_1 21 rfl rfl)
theorem dX0_laySpellings_45 : decode cX0_laySpellings 45 = .ok (.getfield 62, 3) := dk_180 0 62 (dk_at dksX0_laySpellings_2 0 rfl rfl)
theorem dX0_laySpellings_48 : decode cX0_laySpellings 48 = .ok (.iload_n 2, 1) := dk_28 (dk_at dksX0_laySpellings_2 3 rfl rfl)
theorem dX0_laySpellings_49 : decode cX0_laySpellings 49 = .ok (.iconst 0, 1) := dk_3 (dk_at dksX0_laySpellings_2 4 rfl rfl)
theorem dX0_laySpellings_50 : decode cX0_laySpellings 50 = .ok (.iastore, 1) := dk_79 (dk_at dksX0_laySpellings_2 5 rfl rfl)
theorem dX0_laySpellings_51 : decode cX0_laySpellings 51 = .ok (.aload_n 0, 1) := dk_42 (dk_at dksX0_laySpellings_2 6 rfl rfl)
theorem dX0_laySpellings_52 : decode cX0_laySpellings 52 = .ok (.getfield 65, 3) := dk_180 0 65 (dk_at dksX0_laySpellings_2 7 rfl rfl)
theorem dX0_laySpellings_55 : decode cX0_laySpellings 55 = .ok (.iload_n 2, 1) := dk_28 (dk_at dksX0_laySpellings_2 10 rfl rfl)
theorem dX0_laySpellings_56 : decode cX0_laySpellings 56 = .ok (.iconst 0, 1) := dk_3 (dk_at dksX0_laySpellings_2 11 rfl rfl)
theorem dX0_laySpellings_57 : decode cX0_laySpellings 57 = .ok (.iastore, 1) := dk_79 (dk_at dksX0_laySpellings_2 12 rfl rfl)
theorem dX0_laySpellings_58 : decode cX0_laySpellings 58 = .ok (.aload_n 0, 1) := dk_42 (dk_at dksX0_laySpellings_2 13 rfl rfl)
theorem dX0_laySpellings_59 : decode cX0_laySpellings 59 = .ok (.getfield 68, 3) := dk_180 0 68 (dk_at dksX0_laySpellings_2 14 rfl rfl)
theorem dX0_laySpellings_62 : decode cX0_laySpellings 62 = .ok (.iload_n 2, 1) := dk_28 (dk_at dksX0_laySpellings_2 17 rfl rfl)
theorem dX0_laySpellings_63 : decode cX0_laySpellings 63 = .ok (.ldc_w 264, 3) := dk_19 1 8 (dk_at dksX0_laySpellings_2 18 rfl rfl)
theorem dX0_laySpellings_66 : decode cX0_laySpellings 66 = .ok (.iastore, 1) := dk_79 (dk_at dksX0_laySpellings_2 21 rfl rfl)
theorem dX0_laySpellings_67 : decode cX0_laySpellings 67 = .ok (.aload_n 0, 1) := dk_42 (dk_at dksX0_laySpellings_2 22 rfl rfl)
theorem dX0_laySpellings_68 : decode cX0_laySpellings 68 = .ok (.getfield 71, 3) := dk_180 0 71 (dk_at dksX0_laySpellings_3 0 rfl rfl)
theorem dX0_laySpellings_71 : decode cX0_laySpellings 71 = .ok (.iload_n 2, 1) := dk_28 (dk_at dksX0_laySpellings_3 3 rfl rfl)
theorem dX0_laySpellings_72 : decode cX0_laySpellings 72 = .ok (.ldc_w 264, 3) := dk_19 1 8 (dk_at dksX0_laySpellings_3 4 rfl rfl)
theorem dX0_laySpellings_75 : decode cX0_laySpellings 75 = .ok (.iastore, 1) := dk_79 (dk_at dksX0_laySpellings_3 7 rfl rfl)
theorem dX0_laySpellings_76 : decode cX0_laySpellings 76 = .ok (.iconst 0, 1) := dk_3 (dk_at dksX0_laySpellings_3 8 rfl rfl)
theorem dX0_laySpellings_77 : decode cX0_laySpellings 77 = .ok (.istore_n 3, 1) := dk_62 (dk_at dksX0_laySpellings_3 9 rfl rfl)
theorem dX0_laySpellings_78 : decode cX0_laySpellings 78 = .ok (.iload_n 3, 1) := dk_29 (dk_at dksX0_laySpellings_3 10 rfl rfl)
theorem dX0_laySpellings_79 : decode cX0_laySpellings 79 = .ok (.aload_n 0, 1) := dk_42 (dk_at dksX0_laySpellings_3 11 rfl rfl)
theorem dX0_laySpellings_80 : decode cX0_laySpellings 80 = .ok (.getfield 18, 3) := dk_180 0 18 (dk_at dksX0_laySpellings_3 12 rfl rfl)
theorem dX0_laySpellings_83 : decode cX0_laySpellings 83 = .ok (.invokevirtual 111, 3) := dk_182 0 111 (dk_at dksX0_laySpellings_3 15 rfl rfl)
theorem dX0_laySpellings_86 : decode cX0_laySpellings 86 = .ok (.if_icmp .ge 51, 3) := dk_162 0 51 (dk_at dksX0_laySpellings_3 18 rfl rfl)
theorem dX0_laySpellings_89 : decode cX0_laySpellings 89 = .ok (.aload_n 0, 1) := dk_42 (dk_at dksX0_laySpellings_3 21 rfl rfl)
theorem dX0_laySpellings_90 : decode cX0_laySpellings 90 = .ok (.aload_n 0, 1) := dk_42 (dk_at dksX0_laySpellings_3 22 rfl rfl)
theorem dX0_laySpellings_91 : decode cX0_laySpellings 91 = .ok (.getfield 18, 3) := dk_180 0 18 (dk_at dksX0_laySpellings_4 0 rfl rfl)
theorem dX0_laySpellings_94 : decode cX0_laySpellings 94 = .ok (.iload_n 3, 1) := dk_29 (dk_at dksX0_laySpellings_4 3 rfl rfl)
theorem dX0_laySpellings_95 : decode cX0_laySpellings 95 = .ok (.invokevirtual 237, 3) := dk_182 0 237 (dk_at dksX0_laySpellings_4 4 rfl rfl)
theorem dX0_laySpellings_98 : decode cX0_laySpellings 98 = .ok (.checkcast 140, 3) := dk_192 0 140 (dk_at dksX0_laySpellings_4 7 rfl rfl)
theorem dX0_laySpellings_101 : decode cX0_laySpellings 101 = .ok (.iload_n 2, 1) := dk_28 (dk_at dksX0_laySpellings_4 10 rfl rfl)
theorem dX0_laySpellings_102 : decode cX0_laySpellings 102 = .ok (.invokevirtual 354, 3) := dk_182 1 98 (dk_at dksX0_laySpellings_4 11 rfl rfl)
theorem dX0_laySpellings_105 : decode cX0_laySpellings 105 = .ok (.ifCond .eq 26, 3) := dk_153 0 26 (dk_at dksX0_laySpellings_4 14 rfl rfl)
theorem dX0_laySpellings_108 : decode cX0_laySpellings 108 = .ok (.aload_n 0, 1) := dk_42 (dk_at dksX0_laySpellings_4 17 rfl rfl)
theorem dX0_laySpellings_109 : decode cX0_laySpellings 109 = .ok (.iload_n 2, 1) := dk_28 (dk_at dksX0_laySpellings_4 18 rfl rfl)
theorem dX0_laySpellings_110 : decode cX0_laySpellings 110 = .ok (.iload_n 2, 1) := dk_28 (dk_at dksX0_laySpellings_4 19 rfl rfl)
theorem dX0_laySpellings_111 : decode cX0_laySpellings 111 = .ok (.aload_n 0, 1) := dk_42 (dk_at dksX0_laySpellings_4 20 rfl rfl)
theorem dX0_laySpellings_112 : decode cX0_laySpellings 112 = .ok (.getfield 18, 3) := dk_180 0 18 (dk_at dksX0_laySpellings_4 21 rfl rfl)
theorem dX0_laySpellings_115 : decode cX0_laySpellings 115 = .ok (.iload_n 3, 1) := dk_29 (dk_at dksX0_laySpellings_5 0 rfl rfl)
theorem dX0_laySpellings_116 : decode cX0_laySpellings 116 = .ok (.invokevirtual 237, 3) := dk_182 0 237 (dk_at dksX0_laySpellings_5 1 rfl rfl)
theorem dX0_laySpellings_119 : decode cX0_laySpellings 119 = .ok (.checkcast 140, 3) := dk_192 0 140 (dk_at dksX0_laySpellings_5 4 rfl rfl)
theorem dX0_laySpellings_122 : decode cX0_laySpellings 122 = .ok (.invokevirtual 263, 3) := dk_182 1 7 (dk_at dksX0_laySpellings_5 7 rfl rfl)
theorem dX0_laySpellings_125 : decode cX0_laySpellings 125 = .ok (.iadd, 1) := dk_96 (dk_at dksX0_laySpellings_5 10 rfl rfl)
theorem dX0_laySpellings_126 : decode cX0_laySpellings 126 = .ok (.iconst 0, 1) := dk_3 (dk_at dksX0_laySpellings_5 11 rfl rfl)
theorem dX0_laySpellings_127 : decode cX0_laySpellings 127 = .ok (.iload_n 3, 1) := dk_29 (dk_at dksX0_laySpellings_5 12 rfl rfl)
theorem dX0_laySpellings_128 : decode cX0_laySpellings 128 = .ok (.invokevirtual 358, 3) := dk_182 1 102 (dk_at dksX0_laySpellings_5 13 rfl rfl)
theorem dX0_laySpellings_131 : decode cX0_laySpellings 131 = .ok (.iinc 3 1, 3) := dk_132 3 1 (dk_at dksX0_laySpellings_5 16 rfl rfl)
theorem dX0_laySpellings_134 : decode cX0_laySpellings 134 = .ok (.goto (-56), 3) := dk_167 255 200 (dk_at dksX0_laySpellings_5 19 rfl rfl)
theorem dX0_laySpellings_137 : decode cX0_laySpellings 137 = .ok (.aload_n 0, 1) := dk_42 (dk_at dksX0_laySpellings_5 22 rfl rfl)
theorem dX0_laySpellings_138 : decode cX0_laySpellings 138 = .ok (.iload_n 2, 1) := dk_28 (dk_at dksX0_laySpellings_5 23 rfl rfl)
theorem dX0_laySpellings_139 : decode cX0_laySpellings 139 = .ok (.iload_n 2, 1) := dk_28 (dk_at dksX0_laySpellings_6 0 rfl rfl)
theorem dX0_laySpellings_140 : decode cX0_laySpellings 140 = .ok (.iconst 1, 1) := dk_4 (dk_at dksX0_laySpellings_6 1 rfl rfl)
theorem dX0_laySpellings_141 : decode cX0_laySpellings 141 = .ok (.iadd, 1) := dk_96 (dk_at dksX0_laySpellings_6 2 rfl rfl)
theorem dX0_laySpellings_142 : decode cX0_laySpellings 142 = .ok (.iconst 1, 1) := dk_4 (dk_at dksX0_laySpellings_6 3 rfl rfl)
theorem dX0_laySpellings_143 : decode cX0_laySpellings 143 = .ok (.bipush (-2), 2) := dk_16 254 (dk_at dksX0_laySpellings_6 4 rfl rfl)
theorem dX0_laySpellings_145 : decode cX0_laySpellings 145 = .ok (.aload_n 0, 1) := dk_42 (dk_at dksX0_laySpellings_6 6 rfl rfl)
theorem dX0_laySpellings_146 : decode cX0_laySpellings 146 = .ok (.getfield 58, 3) := dk_180 0 58 (dk_at dksX0_laySpellings_6 7 rfl rfl)
theorem dX0_laySpellings_149 : decode cX0_laySpellings 149 = .ok (.iload_n 2, 1) := dk_28 (dk_at dksX0_laySpellings_6 10 rfl rfl)
theorem dX0_laySpellings_150 : decode cX0_laySpellings 150 = .ok (.invokevirtual 331, 3) := dk_182 1 75 (dk_at dksX0_laySpellings_6 11 rfl rfl)
theorem dX0_laySpellings_153 : decode cX0_laySpellings 153 = .ok (.checkcast 176, 3) := dk_192 0 176 (dk_at dksX0_laySpellings_6 14 rfl rfl)
theorem dX0_laySpellings_156 : decode cX0_laySpellings 156 = .ok (.invokevirtual 178, 3) := dk_182 0 178 (dk_at dksX0_laySpellings_6 17 rfl rfl)
theorem dX0_laySpellings_159 : decode cX0_laySpellings 159 = .ok (.isub, 1) := dk_100 (dk_at dksX0_laySpellings_6 20 rfl rfl)
theorem dX0_laySpellings_160 : decode cX0_laySpellings 160 = .ok (.invokevirtual 358, 3) := dk_182 1 102 (dk_at dksX0_laySpellings_6 21 rfl rfl)
theorem dX0_laySpellings_163 : decode cX0_laySpellings 163 = .ok (.iinc 2 (-1), 3) := dk_132 2 255 (dk_at dksX0_laySpellings_7 0 rfl rfl)
theorem dX0_laySpellings_166 : decode cX0_laySpellings 166 = .ok (.goto (-126), 3) := dk_167 255 130 (dk_at dksX0_laySpellings_7 3 rfl rfl)
theorem dX0_laySpellings_169 : decode cX0_laySpellings 169 = .ok (.return_, 1) := dk_177 (dk_at dksX0_laySpellings_7 6 rfl rfl)
abbrev cX0_isPiece : ByteArray := prog_1_method_33_code
def yX0_isPiece : MethodName := ⟨RX0, "isPiece", "(LDialMenus$Name;I)Z"⟩
def dkwX0_isPiece_3 : List UInt8 := [132, 4, 1, 167, 255, 208, 29, 172]
abbrev dktX0_isPiece_3 : List UInt8 := dkwX0_isPiece_3 ++ []
def dkwX0_isPiece_2 : List UInt8 := [182, 1, 75, 192, 0, 176, 182, 0, 178, 43, 21, 4, 182, 1, 42, 160, 0, 7, 4, 167, 0, 4, 3, 62]
abbrev dktX0_isPiece_2 : List UInt8 := dkwX0_isPiece_2 ++ dktX0_isPiece_3
def dkwX0_isPiece_1 : List UInt8 := [54, 4, 21, 4, 43, 182, 1, 7, 162, 0, 45, 29, 153, 0, 41, 42, 180, 0, 58, 28, 21, 4, 96]
abbrev dktX0_isPiece_1 : List UInt8 := dkwX0_isPiece_1 ++ dktX0_isPiece_2
def dkwX0_isPiece_0 : List UInt8 := [28, 43, 182, 1, 7, 96, 42, 180, 0, 58, 182, 1, 35, 163, 0, 7, 4, 167, 0, 4, 3, 62, 3]
abbrev dktX0_isPiece_0 : List UInt8 := dkwX0_isPiece_0 ++ dktX0_isPiece_1
theorem dksX0_isPiece_0 : cX0_isPiece.data.toList.drop 0 = dktX0_isPiece_0 := by decide +kernel
theorem dksX0_isPiece_1 : cX0_isPiece.data.toList.drop 23 = dktX0_isPiece_1 := dk_seg dksX0_isPiece_0 23 rfl rfl
theorem dksX0_isPiece_2 : cX0_isPiece.data.toList.drop 46 = dktX0_isPiece_2 := dk_seg dksX0_isPiece_1 23 rfl rfl
theorem dksX0_isPiece_3 : cX0_isPiece.data.toList.drop 70 = dktX0_isPiece_3 := dk_seg dksX0_isPiece_2 24 rfl rfl
theorem dX0_isPiece_0 : decode cX0_isPiece 0 = .ok (.iload_n 2, 1) := dk_28 (dk_at dksX0_isPiece_0 0 rfl rfl)
theorem dX0_isPiece_1 : decode cX0_isPiece 1 = .ok (.aload_n 1, 1) := dk_43 (dk_at dksX0_isPiece_0 1 rfl rfl)
theorem dX0_isPiece_2 : decode cX0_isPiece 2 = .ok (.invokevirtual 263, 3) := dk_182 1 7 (dk_at dksX0_isPiece_0 2 rfl rfl)
theorem dX0_isPiece_5 : decode cX0_isPiece 5 = .ok (.iadd, 1) := dk_96 (dk_at dksX0_isPiece_0 5 rfl rfl)
theorem dX0_isPiece_6 : decode cX0_isPiece 6 = .ok (.aload_n 0, 1) := dk_42 (dk_at dksX0_isPiece_0 6 rfl rfl)
theorem dX0_isPiece_7 : decode cX0_isPiece 7 = .ok (.getfield 58, 3) := dk_180 0 58 (dk_at dksX0_isPiece_0 7 rfl rfl)
theorem dX0_isPiece_10 : decode cX0_isPiece 10 = .ok (.invokevirtual 291, 3) := dk_182 1 35 (dk_at dksX0_isPiece_0 10 rfl rfl)
theorem dX0_isPiece_13 : decode cX0_isPiece 13 = .ok (.if_icmp .gt 7, 3) := dk_163 0 7 (dk_at dksX0_isPiece_0 13 rfl rfl)
theorem dX0_isPiece_16 : decode cX0_isPiece 16 = .ok (.iconst 1, 1) := dk_4 (dk_at dksX0_isPiece_0 16 rfl rfl)
theorem dX0_isPiece_17 : decode cX0_isPiece 17 = .ok (.goto 4, 3) := dk_167 0 4 (dk_at dksX0_isPiece_0 17 rfl rfl)
theorem dX0_isPiece_20 : decode cX0_isPiece 20 = .ok (.iconst 0, 1) := dk_3 (dk_at dksX0_isPiece_0 20 rfl rfl)
theorem dX0_isPiece_21 : decode cX0_isPiece 21 = .ok (.istore_n 3, 1) := dk_62 (dk_at dksX0_isPiece_0 21 rfl rfl)
theorem dX0_isPiece_22 : decode cX0_isPiece 22 = .ok (.iconst 0, 1) := dk_3 (dk_at dksX0_isPiece_0 22 rfl rfl)
theorem dX0_isPiece_23 : decode cX0_isPiece 23 = .ok (.istore 4, 2) := dk_54 4 (dk_at dksX0_isPiece_1 0 rfl rfl)
theorem dX0_isPiece_25 : decode cX0_isPiece 25 = .ok (.iload 4, 2) := dk_21 4 (dk_at dksX0_isPiece_1 2 rfl rfl)
theorem dX0_isPiece_27 : decode cX0_isPiece 27 = .ok (.aload_n 1, 1) := dk_43 (dk_at dksX0_isPiece_1 4 rfl rfl)
theorem dX0_isPiece_28 : decode cX0_isPiece 28 = .ok (.invokevirtual 263, 3) := dk_182 1 7 (dk_at dksX0_isPiece_1 5 rfl rfl)
theorem dX0_isPiece_31 : decode cX0_isPiece 31 = .ok (.if_icmp .ge 45, 3) := dk_162 0 45 (dk_at dksX0_isPiece_1 8 rfl rfl)
theorem dX0_isPiece_34 : decode cX0_isPiece 34 = .ok (.iload_n 3, 1) := dk_29 (dk_at dksX0_isPiece_1 11 rfl rfl)
theorem dX0_isPiece_35 : decode cX0_isPiece 35 = .ok (.ifCond .eq 41, 3) := dk_153 0 41 (dk_at dksX0_isPiece_1 12 rfl rfl)
theorem dX0_isPiece_38 : decode cX0_isPiece 38 = .ok (.aload_n 0, 1) := dk_42 (dk_at dksX0_isPiece_1 15 rfl rfl)
theorem dX0_isPiece_39 : decode cX0_isPiece 39 = .ok (.getfield 58, 3) := dk_180 0 58 (dk_at dksX0_isPiece_1 16 rfl rfl)
theorem dX0_isPiece_42 : decode cX0_isPiece 42 = .ok (.iload_n 2, 1) := dk_28 (dk_at dksX0_isPiece_1 19 rfl rfl)
theorem dX0_isPiece_43 : decode cX0_isPiece 43 = .ok (.iload 4, 2) := dk_21 4 (dk_at dksX0_isPiece_1 20 rfl rfl)
theorem dX0_isPiece_45 : decode cX0_isPiece 45 = .ok (.iadd, 1) := dk_96 (dk_at dksX0_isPiece_1 22 rfl rfl)
theorem dX0_isPiece_46 : decode cX0_isPiece 46 = .ok (.invokevirtual 331, 3) := dk_182 1 75 (dk_at dksX0_isPiece_2 0 rfl rfl)
theorem dX0_isPiece_49 : decode cX0_isPiece 49 = .ok (.checkcast 176, 3) := dk_192 0 176 (dk_at dksX0_isPiece_2 3 rfl rfl)
theorem dX0_isPiece_52 : decode cX0_isPiece 52 = .ok (.invokevirtual 178, 3) := dk_182 0 178 (dk_at dksX0_isPiece_2 6 rfl rfl)
theorem dX0_isPiece_55 : decode cX0_isPiece 55 = .ok (.aload_n 1, 1) := dk_43 (dk_at dksX0_isPiece_2 9 rfl rfl)
theorem dX0_isPiece_56 : decode cX0_isPiece 56 = .ok (.iload 4, 2) := dk_21 4 (dk_at dksX0_isPiece_2 10 rfl rfl)
theorem dX0_isPiece_58 : decode cX0_isPiece 58 = .ok (.invokevirtual 298, 3) := dk_182 1 42 (dk_at dksX0_isPiece_2 12 rfl rfl)
theorem dX0_isPiece_61 : decode cX0_isPiece 61 = .ok (.if_icmp .ne 7, 3) := dk_160 0 7 (dk_at dksX0_isPiece_2 15 rfl rfl)
theorem dX0_isPiece_64 : decode cX0_isPiece 64 = .ok (.iconst 1, 1) := dk_4 (dk_at dksX0_isPiece_2 18 rfl rfl)
theorem dX0_isPiece_65 : decode cX0_isPiece 65 = .ok (.goto 4, 3) := dk_167 0 4 (dk_at dksX0_isPiece_2 19 rfl rfl)
theorem dX0_isPiece_68 : decode cX0_isPiece 68 = .ok (.iconst 0, 1) := dk_3 (dk_at dksX0_isPiece_2 22 rfl rfl)
theorem dX0_isPiece_69 : decode cX0_isPiece 69 = .ok (.istore_n 3, 1) := dk_62 (dk_at dksX0_isPiece_2 23 rfl rfl)
theorem dX0_isPiece_70 : decode cX0_isPiece 70 = .ok (.iinc 4 1, 3) := dk_132 4 1 (dk_at dksX0_isPiece_3 0 rfl rfl)
theorem dX0_isPiece_73 : decode cX0_isPiece 73 = .ok (.goto (-48), 3) := dk_167 255 208 (dk_at dksX0_isPiece_3 3 rfl rfl)
theorem dX0_isPiece_76 : decode cX0_isPiece 76 = .ok (.iload_n 3, 1) := dk_29 (dk_at dksX0_isPiece_3 6 rfl rfl)
theorem dX0_isPiece_77 : decode cX0_isPiece 77 = .ok (.ireturn, 1) := dk_172 (dk_at dksX0_isPiece_3 7 rfl rfl)
abbrev cX0_consider : ByteArray := prog_1_method_34_code
def yX0_consider : MethodName := ⟨RX0, "consider", "(IIII)V"⟩
def dkwX0_consider_6 : List UInt8 := [180, 0, 71, 27, 42, 180, 0, 71, 28, 46, 4, 96, 79, 42, 180, 0, 74, 27, 21, 4, 79, 177]
abbrev dktX0_consider_6 : List UInt8 := dkwX0_consider_6 ++ []
def dkwX0_consider_5 : List UInt8 := [28, 46, 4, 96, 42, 180, 0, 71, 27, 46, 162, 0, 33, 42, 180, 0, 68, 27, 21, 5, 79, 42]
abbrev dktX0_consider_5 : List UInt8 := dkwX0_consider_5 ++ dktX0_consider_6
def dkwX0_consider_4 : List UInt8 := [42, 180, 0, 68, 27, 46, 161, 0, 31, 21, 5, 42, 180, 0, 68, 27, 46, 160, 0, 50, 42, 180, 0, 71]
abbrev dktX0_consider_4 : List UInt8 := dkwX0_consider_4 ++ dktX0_consider_5
def dkwX0_consider_3 : List UInt8 := [46, 42, 180, 0, 65, 28, 46, 96, 19, 1, 97, 112, 167, 0, 9, 42, 180, 0, 65, 27, 46, 79, 21, 5]
abbrev dktX0_consider_3 : List UInt8 := dkwX0_consider_3 ++ dktX0_consider_4
def dkwX0_consider_2 : List UInt8 := [27, 3, 79, 42, 180, 0, 65, 27, 21, 5, 42, 180, 0, 68, 27, 46, 163, 0, 23, 42, 180, 0, 65, 27]
abbrev dktX0_consider_2 : List UInt8 := dkwX0_consider_2 ++ dktX0_consider_3
def dkwX0_consider_1 : List UInt8 := [42, 180, 0, 68, 28, 46, 96, 54, 5, 21, 5, 42, 180, 0, 68, 27, 46, 162, 0, 10, 42, 180, 0, 65]
abbrev dktX0_consider_1 : List UInt8 := dkwX0_consider_1 ++ dktX0_consider_2
def dkwX0_consider_0 : List UInt8 := [42, 180, 0, 62, 27, 42, 180, 0, 62, 27, 46, 42, 180, 0, 62, 28, 46, 96, 19, 1, 97, 112, 79, 29]
abbrev dktX0_consider_0 : List UInt8 := dkwX0_consider_0 ++ dktX0_consider_1
theorem dksX0_consider_0 : cX0_consider.data.toList.drop 0 = dktX0_consider_0 := by decide +kernel
theorem dksX0_consider_1 : cX0_consider.data.toList.drop 24 = dktX0_consider_1 := dk_seg dksX0_consider_0 24 rfl rfl
theorem dksX0_consider_2 : cX0_consider.data.toList.drop 48 = dktX0_consider_2 := dk_seg dksX0_consider_1 24 rfl rfl
theorem dksX0_consider_3 : cX0_consider.data.toList.drop 72 = dktX0_consider_3 := dk_seg dksX0_consider_2 24 rfl rfl
theorem dksX0_consider_4 : cX0_consider.data.toList.drop 96 = dktX0_consider_4 := dk_seg dksX0_consider_3 24 rfl rfl
theorem dksX0_consider_5 : cX0_consider.data.toList.drop 120 = dktX0_consider_5 := dk_seg dksX0_consider_4 24 rfl rfl
theorem dksX0_consider_6 : cX0_consider.data.toList.drop 142 = dktX0_consider_6 := dk_seg dksX0_consider_5 22 rfl rfl
theorem dX0_consider_0 : decode cX0_consider 0 = .ok (.aload_n 0, 1) := dk_42 (dk_at dksX0_consider_0 0 rfl rfl)
theorem dX0_consider_1 : decode cX0_consider 1 = .ok (.getfield 62, 3) := dk_180 0 62 (dk_at dksX0_consider_0 1 rfl rfl)
theorem dX0_consider_4 : decode cX0_consider 4 = .ok (.iload_n 1, 1) := dk_27 (dk_at dksX0_consider_0 4 rfl rfl)
theorem dX0_consider_5 : decode cX0_consider 5 = .ok (.aload_n 0, 1) := dk_42 (dk_at dksX0_consider_0 5 rfl rfl)
theorem dX0_consider_6 : decode cX0_consider 6 = .ok (.getfield 62, 3) := dk_180 0 62 (dk_at dksX0_consider_0 6 rfl rfl)
theorem dX0_consider_9 : decode cX0_consider 9 = .ok (.iload_n 1, 1) := dk_27 (dk_at dksX0_consider_0 9 rfl rfl)
theorem dX0_consider_10 : decode cX0_consider 10 = .ok (.iaload, 1) := dk_46 (dk_at dksX0_consider_0 10 rfl rfl)
theorem dX0_consider_11 : decode cX0_consider 11 = .ok (.aload_n 0, 1) := dk_42 (dk_at dksX0_consider_0 11 rfl rfl)
theorem dX0_consider_12 : decode cX0_consider 12 = .ok (.getfield 62, 3) := dk_180 0 62 (dk_at dksX0_consider_0 12 rfl rfl)
theorem dX0_consider_15 : decode cX0_consider 15 = .ok (.iload_n 2, 1) := dk_28 (dk_at dksX0_consider_0 15 rfl rfl)
theorem dX0_consider_16 : decode cX0_consider 16 = .ok (.iaload, 1) := dk_46 (dk_at dksX0_consider_0 16 rfl rfl)
theorem dX0_consider_17 : decode cX0_consider 17 = .ok (.iadd, 1) := dk_96 (dk_at dksX0_consider_0 17 rfl rfl)
theorem dX0_consider_18 : decode cX0_consider 18 = .ok (.ldc_w 353, 3) := dk_19 1 97 (dk_at dksX0_consider_0 18 rfl rfl)
theorem dX0_consider_21 : decode cX0_consider 21 = .ok (.irem, 1) := dk_112 (dk_at dksX0_consider_0 21 rfl rfl)
theorem dX0_consider_22 : decode cX0_consider 22 = .ok (.iastore, 1) := dk_79 (dk_at dksX0_consider_0 22 rfl rfl)
theorem dX0_consider_23 : decode cX0_consider 23 = .ok (.iload_n 3, 1) := dk_29 (dk_at dksX0_consider_0 23 rfl rfl)
theorem dX0_consider_24 : decode cX0_consider 24 = .ok (.aload_n 0, 1) := dk_42 (dk_at dksX0_consider_1 0 rfl rfl)
theorem dX0_consider_25 : decode cX0_consider 25 = .ok (.getfield 68, 3) := dk_180 0 68 (dk_at dksX0_consider_1 1 rfl rfl)
theorem dX0_consider_28 : decode cX0_consider 28 = .ok (.iload_n 2, 1) := dk_28 (dk_at dksX0_consider_1 4 rfl rfl)
theorem dX0_consider_29 : decode cX0_consider 29 = .ok (.iaload, 1) := dk_46 (dk_at dksX0_consider_1 5 rfl rfl)
theorem dX0_consider_30 : decode cX0_consider 30 = .ok (.iadd, 1) := dk_96 (dk_at dksX0_consider_1 6 rfl rfl)
theorem dX0_consider_31 : decode cX0_consider 31 = .ok (.istore 5, 2) := dk_54 5 (dk_at dksX0_consider_1 7 rfl rfl)
theorem dX0_consider_33 : decode cX0_consider 33 = .ok (.iload 5, 2) := dk_21 5 (dk_at dksX0_consider_1 9 rfl rfl)
theorem dX0_consider_35 : decode cX0_consider 35 = .ok (.aload_n 0, 1) := dk_42 (dk_at dksX0_consider_1 11 rfl rfl)
theorem dX0_consider_36 : decode cX0_consider 36 = .ok (.getfield 68, 3) := dk_180 0 68 (dk_at dksX0_consider_1 12 rfl rfl)
theorem dX0_consider_39 : decode cX0_consider 39 = .ok (.iload_n 1, 1) := dk_27 (dk_at dksX0_consider_1 15 rfl rfl)
theorem dX0_consider_40 : decode cX0_consider 40 = .ok (.iaload, 1) := dk_46 (dk_at dksX0_consider_1 16 rfl rfl)
theorem dX0_consider_41 : decode cX0_consider 41 = .ok (.if_icmp .ge 10, 3) := dk_162 0 10 (dk_at dksX0_consider_1 17 rfl rfl)
theorem dX0_consider_44 : decode cX0_consider 44 = .ok (.aload_n 0, 1) := dk_42 (dk_at dksX0_consider_1 20 rfl rfl)
theorem dX0_consider_45 : decode cX0_consider 45 = .ok (.getfield 65, 3) := dk_180 0 65 (dk_at dksX0_consider_1 21 rfl rfl)
theorem dX0_consider_48 : decode cX0_consider 48 = .ok (.iload_n 1, 1) := dk_27 (dk_at dksX0_consider_2 0 rfl rfl)
theorem dX0_consider_49 : decode cX0_consider 49 = .ok (.iconst 0, 1) := dk_3 (dk_at dksX0_consider_2 1 rfl rfl)
theorem dX0_consider_50 : decode cX0_consider 50 = .ok (.iastore, 1) := dk_79 (dk_at dksX0_consider_2 2 rfl rfl)
theorem dX0_consider_51 : decode cX0_consider 51 = .ok (.aload_n 0, 1) := dk_42 (dk_at dksX0_consider_2 3 rfl rfl)
theorem dX0_consider_52 : decode cX0_consider 52 = .ok (.getfield 65, 3) := dk_180 0 65 (dk_at dksX0_consider_2 4 rfl rfl)
theorem dX0_consider_55 : decode cX0_consider 55 = .ok (.iload_n 1, 1) := dk_27 (dk_at dksX0_consider_2 7 rfl rfl)
theorem dX0_consider_56 : decode cX0_consider 56 = .ok (.iload 5, 2) := dk_21 5 (dk_at dksX0_consider_2 8 rfl rfl)
theorem dX0_consider_58 : decode cX0_consider 58 = .ok (.aload_n 0, 1) := dk_42 (dk_at dksX0_consider_2 10 rfl rfl)
theorem dX0_consider_59 : decode cX0_consider 59 = .ok (.getfield 68, 3) := dk_180 0 68 (dk_at dksX0_consider_2 11 rfl rfl)
theorem dX0_consider_62 : decode cX0_consider 62 = .ok (.iload_n 1, 1) := dk_27 (dk_at dksX0_consider_2 14 rfl rfl)
theorem dX0_consider_63 : decode cX0_consider 63 = .ok (.iaload, 1) := dk_46 (dk_at dksX0_consider_2 15 rfl rfl)
theorem dX0_consider_64 : decode cX0_consider 64 = .ok (.if_icmp .gt 23, 3) := dk_163 0 23 (dk_at dksX0_consider_2 16 rfl rfl)
theorem dX0_consider_67 : decode cX0_consider 67 = .ok (.aload_n 0, 1) := dk_42 (dk_at dksX0_consider_2 19 rfl rfl)
theorem dX0_consider_68 : decode cX0_consider 68 = .ok (.getfield 65, 3) := dk_180 0 65 (dk_at dksX0_consider_2 20 rfl rfl)
theorem dX0_consider_71 : decode cX0_consider 71 = .ok (.iload_n 1, 1) := dk_27 (dk_at dksX0_consider_2 23 rfl rfl)
theorem dX0_consider_72 : decode cX0_consider 72 = .ok (.iaload, 1) := dk_46 (dk_at dksX0_consider_3 0 rfl rfl)
theorem dX0_consider_73 : decode cX0_consider 73 = .ok (.aload_n 0, 1) := dk_42 (dk_at dksX0_consider_3 1 rfl rfl)
theorem dX0_consider_74 : decode cX0_consider 74 = .ok (.getfield 65, 3) := dk_180 0 65 (dk_at dksX0_consider_3 2 rfl rfl)
theorem dX0_consider_77 : decode cX0_consider 77 = .ok (.iload_n 2, 1) := dk_28 (dk_at dksX0_consider_3 5 rfl rfl)
theorem dX0_consider_78 : decode cX0_consider 78 = .ok (.iaload, 1) := dk_46 (dk_at dksX0_consider_3 6 rfl rfl)
theorem dX0_consider_79 : decode cX0_consider 79 = .ok (.iadd, 1) := dk_96 (dk_at dksX0_consider_3 7 rfl rfl)
theorem dX0_consider_80 : decode cX0_consider 80 = .ok (.ldc_w 353, 3) := dk_19 1 97 (dk_at dksX0_consider_3 8 rfl rfl)
theorem dX0_consider_83 : decode cX0_consider 83 = .ok (.irem, 1) := dk_112 (dk_at dksX0_consider_3 11 rfl rfl)
theorem dX0_consider_84 : decode cX0_consider 84 = .ok (.goto 9, 3) := dk_167 0 9 (dk_at dksX0_consider_3 12 rfl rfl)
theorem dX0_consider_87 : decode cX0_consider 87 = .ok (.aload_n 0, 1) := dk_42 (dk_at dksX0_consider_3 15 rfl rfl)
theorem dX0_consider_88 : decode cX0_consider 88 = .ok (.getfield 65, 3) := dk_180 0 65 (dk_at dksX0_consider_3 16 rfl rfl)
theorem dX0_consider_91 : decode cX0_consider 91 = .ok (.iload_n 1, 1) := dk_27 (dk_at dksX0_consider_3 19 rfl rfl)
theorem dX0_consider_92 : decode cX0_consider 92 = .ok (.iaload, 1) := dk_46 (dk_at dksX0_consider_3 20 rfl rfl)
theorem dX0_consider_93 : decode cX0_consider 93 = .ok (.iastore, 1) := dk_79 (dk_at dksX0_consider_3 21 rfl rfl)
theorem dX0_consider_94 : decode cX0_consider 94 = .ok (.iload 5, 2) := dk_21 5 (dk_at dksX0_consider_3 22 rfl rfl)
theorem dX0_consider_96 : decode cX0_consider 96 = .ok (.aload_n 0, 1) := dk_42 (dk_at dksX0_consider_4 0 rfl rfl)
theorem dX0_consider_97 : decode cX0_consider 97 = .ok (.getfield 68, 3) := dk_180 0 68 (dk_at dksX0_consider_4 1 rfl rfl)
theorem dX0_consider_100 : decode cX0_consider 100 = .ok (.iload_n 1, 1) := dk_27 (dk_at dksX0_consider_4 4 rfl rfl)
theorem dX0_consider_101 : decode cX0_consider 101 = .ok (.iaload, 1) := dk_46 (dk_at dksX0_consider_4 5 rfl rfl)
theorem dX0_consider_102 : decode cX0_consider 102 = .ok (.if_icmp .lt 31, 3) := dk_161 0 31 (dk_at dksX0_consider_4 6 rfl rfl)
theorem dX0_consider_105 : decode cX0_consider 105 = .ok (.iload 5, 2) := dk_21 5 (dk_at dksX0_consider_4 9 rfl rfl)
theorem dX0_consider_107 : decode cX0_consider 107 = .ok (.aload_n 0, 1) := dk_42 (dk_at dksX0_consider_4 11 rfl rfl)
theorem dX0_consider_108 : decode cX0_consider 108 = .ok (.getfield 68, 3) := dk_180 0 68 (dk_at dksX0_consider_4 12 rfl rfl)
theorem dX0_consider_111 : decode cX0_consider 111 = .ok (.iload_n 1, 1) := dk_27 (dk_at dksX0_consider_4 15 rfl rfl)
theorem dX0_consider_112 : decode cX0_consider 112 = .ok (.iaload, 1) := dk_46 (dk_at dksX0_consider_4 16 rfl rfl)
theorem dX0_consider_113 : decode cX0_consider 113 = .ok (.if_icmp .ne 50, 3) := dk_160 0 50 (dk_at dksX0_consider_4 17 rfl rfl)
theorem dX0_consider_116 : decode cX0_consider 116 = .ok (.aload_n 0, 1) := dk_42 (dk_at dksX0_consider_4 20 rfl rfl)
theorem dX0_consider_117 : decode cX0_consider 117 = .ok (.getfield 71, 3) := dk_180 0 71 (dk_at dksX0_consider_4 21 rfl rfl)
theorem dX0_consider_120 : decode cX0_consider 120 = .ok (.iload_n 2, 1) := dk_28 (dk_at dksX0_consider_5 0 rfl rfl)
theorem dX0_consider_121 : decode cX0_consider 121 = .ok (.iaload, 1) := dk_46 (dk_at dksX0_consider_5 1 rfl rfl)
theorem dX0_consider_122 : decode cX0_consider 122 = .ok (.iconst 1, 1) := dk_4 (dk_at dksX0_consider_5 2 rfl rfl)
theorem dX0_consider_123 : decode cX0_consider 123 = .ok (.iadd, 1) := dk_96 (dk_at dksX0_consider_5 3 rfl rfl)
theorem dX0_consider_124 : decode cX0_consider 124 = .ok (.aload_n 0, 1) := dk_42 (dk_at dksX0_consider_5 4 rfl rfl)
theorem dX0_consider_125 : decode cX0_consider 125 = .ok (.getfield 71, 3) := dk_180 0 71 (dk_at dksX0_consider_5 5 rfl rfl)
theorem dX0_consider_128 : decode cX0_consider 128 = .ok (.iload_n 1, 1) := dk_27 (dk_at dksX0_consider_5 8 rfl rfl)
theorem dX0_consider_129 : decode cX0_consider 129 = .ok (.iaload, 1) := dk_46 (dk_at dksX0_consider_5 9 rfl rfl)
theorem dX0_consider_130 : decode cX0_consider 130 = .ok (.if_icmp .ge 33, 3) := dk_162 0 33 (dk_at dksX0_consider_5 10 rfl rfl)
theorem dX0_consider_133 : decode cX0_consider 133 = .ok (.aload_n 0, 1) := dk_42 (dk_at dksX0_consider_5 13 rfl rfl)
theorem dX0_consider_134 : decode cX0_consider 134 = .ok (.getfield 68, 3) := dk_180 0 68 (dk_at dksX0_consider_5 14 rfl rfl)
theorem dX0_consider_137 : decode cX0_consider 137 = .ok (.iload_n 1, 1) := dk_27 (dk_at dksX0_consider_5 17 rfl rfl)
theorem dX0_consider_138 : decode cX0_consider 138 = .ok (.iload 5, 2) := dk_21 5 (dk_at dksX0_consider_5 18 rfl rfl)
theorem dX0_consider_140 : decode cX0_consider 140 = .ok (.iastore, 1) := dk_79 (dk_at dksX0_consider_5 20 rfl rfl)
theorem dX0_consider_141 : decode cX0_consider 141 = .ok (.aload_n 0, 1) := dk_42 (dk_at dksX0_consider_5 21 rfl rfl)
theorem dX0_consider_142 : decode cX0_consider 142 = .ok (.getfield 71, 3) := dk_180 0 71 (dk_at dksX0_consider_6 0 rfl rfl)
theorem dX0_consider_145 : decode cX0_consider 145 = .ok (.iload_n 1, 1) := dk_27 (dk_at dksX0_consider_6 3 rfl rfl)
theorem dX0_consider_146 : decode cX0_consider 146 = .ok (.aload_n 0, 1) := dk_42 (dk_at dksX0_consider_6 4 rfl rfl)
theorem dX0_consider_147 : decode cX0_consider 147 = .ok (.getfield 71, 3) := dk_180 0 71 (dk_at dksX0_consider_6 5 rfl rfl)
theorem dX0_consider_150 : decode cX0_consider 150 = .ok (.iload_n 2, 1) := dk_28 (dk_at dksX0_consider_6 8 rfl rfl)
theorem dX0_consider_151 : decode cX0_consider 151 = .ok (.iaload, 1) := dk_46 (dk_at dksX0_consider_6 9 rfl rfl)
theorem dX0_consider_152 : decode cX0_consider 152 = .ok (.iconst 1, 1) := dk_4 (dk_at dksX0_consider_6 10 rfl rfl)
theorem dX0_consider_153 : decode cX0_consider 153 = .ok (.iadd, 1) := dk_96 (dk_at dksX0_consider_6 11 rfl rfl)
theorem dX0_consider_154 : decode cX0_consider 154 = .ok (.iastore, 1) := dk_79 (dk_at dksX0_consider_6 12 rfl rfl)
theorem dX0_consider_155 : decode cX0_consider 155 = .ok (.aload_n 0, 1) := dk_42 (dk_at dksX0_consider_6 13 rfl rfl)
theorem dX0_consider_156 : decode cX0_consider 156 = .ok (.getfield 74, 3) := dk_180 0 74 (dk_at dksX0_consider_6 14 rfl rfl)
theorem dX0_consider_159 : decode cX0_consider 159 = .ok (.iload_n 1, 1) := dk_27 (dk_at dksX0_consider_6 17 rfl rfl)
theorem dX0_consider_160 : decode cX0_consider 160 = .ok (.iload 4, 2) := dk_21 4 (dk_at dksX0_consider_6 18 rfl rfl)
theorem dX0_consider_162 : decode cX0_consider 162 = .ok (.iastore, 1) := dk_79 (dk_at dksX0_consider_6 20 rfl rfl)
theorem dX0_consider_163 : decode cX0_consider 163 = .ok (.return_, 1) := dk_177 (dk_at dksX0_consider_6 21 rfl rfl)
abbrev cX0_piece : ByteArray := prog_1_method_39_code
def yX0_piece : MethodName := ⟨RX0, "piece", "(I)I"⟩
def dkwX0_piece_1 : List UInt8 := [182, 1, 112, 167, 0, 5, 16, 155, 172]
abbrev dktX0_piece_1 : List UInt8 := dkwX0_piece_1 ++ []
def dkwX0_piece_0 : List UInt8 := [42, 182, 1, 106, 27, 3, 42, 180, 0, 71, 3, 46, 4, 100, 184, 0, 114, 153, 0, 11, 42, 27]
abbrev dktX0_piece_0 : List UInt8 := dkwX0_piece_0 ++ dktX0_piece_1
theorem dksX0_piece_0 : cX0_piece.data.toList.drop 0 = dktX0_piece_0 := by decide +kernel
theorem dksX0_piece_1 : cX0_piece.data.toList.drop 22 = dktX0_piece_1 := dk_seg dksX0_piece_0 22 rfl rfl
theorem dX0_piece_0 : decode cX0_piece 0 = .ok (.aload_n 0, 1) := dk_42 (dk_at dksX0_piece_0 0 rfl rfl)
theorem dX0_piece_1 : decode cX0_piece 1 = .ok (.invokevirtual 362, 3) := dk_182 1 106 (dk_at dksX0_piece_0 1 rfl rfl)
theorem dX0_piece_4 : decode cX0_piece 4 = .ok (.iload_n 1, 1) := dk_27 (dk_at dksX0_piece_0 4 rfl rfl)
theorem dX0_piece_5 : decode cX0_piece 5 = .ok (.iconst 0, 1) := dk_3 (dk_at dksX0_piece_0 5 rfl rfl)
theorem dX0_piece_6 : decode cX0_piece 6 = .ok (.aload_n 0, 1) := dk_42 (dk_at dksX0_piece_0 6 rfl rfl)
theorem dX0_piece_7 : decode cX0_piece 7 = .ok (.getfield 71, 3) := dk_180 0 71 (dk_at dksX0_piece_0 7 rfl rfl)
theorem dX0_piece_10 : decode cX0_piece 10 = .ok (.iconst 0, 1) := dk_3 (dk_at dksX0_piece_0 10 rfl rfl)
theorem dX0_piece_11 : decode cX0_piece 11 = .ok (.iaload, 1) := dk_46 (dk_at dksX0_piece_0 11 rfl rfl)
theorem dX0_piece_12 : decode cX0_piece 12 = .ok (.iconst 1, 1) := dk_4 (dk_at dksX0_piece_0 12 rfl rfl)
theorem dX0_piece_13 : decode cX0_piece 13 = .ok (.isub, 1) := dk_100 (dk_at dksX0_piece_0 13 rfl rfl)
theorem dX0_piece_14 : decode cX0_piece 14 = .ok (.invokestatic 114, 3) := dk_184 0 114 (dk_at dksX0_piece_0 14 rfl rfl)
theorem dX0_piece_17 : decode cX0_piece 17 = .ok (.ifCond .eq 11, 3) := dk_153 0 11 (dk_at dksX0_piece_0 17 rfl rfl)
theorem dX0_piece_20 : decode cX0_piece 20 = .ok (.aload_n 0, 1) := dk_42 (dk_at dksX0_piece_0 20 rfl rfl)
theorem dX0_piece_21 : decode cX0_piece 21 = .ok (.iload_n 1, 1) := dk_27 (dk_at dksX0_piece_0 21 rfl rfl)
theorem dX0_piece_22 : decode cX0_piece 22 = .ok (.invokevirtual 368, 3) := dk_182 1 112 (dk_at dksX0_piece_1 0 rfl rfl)
theorem dX0_piece_25 : decode cX0_piece 25 = .ok (.goto 5, 3) := dk_167 0 5 (dk_at dksX0_piece_1 3 rfl rfl)
theorem dX0_piece_28 : decode cX0_piece 28 = .ok (.bipush (-101), 2) := dk_16 155 (dk_at dksX0_piece_1 6 rfl rfl)
theorem dX0_piece_30 : decode cX0_piece 30 = .ok (.ireturn, 1) := dk_172 (dk_at dksX0_piece_1 8 rfl rfl)
abbrev cX0_pieceTold : ByteArray := prog_1_method_38_code
def yX0_pieceTold : MethodName := ⟨RX0, "pieceTold", "(I)I"⟩
def dkwX0_pieceTold_2 : List UInt8 := [167, 255, 213, 42, 180, 0, 74, 28, 46, 172]
abbrev dktX0_pieceTold_2 : List UInt8 := dkwX0_pieceTold_2 ++ []
def dkwX0_pieceTold_1 : List UInt8 := [180, 0, 18, 42, 180, 0, 74, 28, 46, 182, 0, 237, 192, 0, 140, 182, 1, 7, 96, 61, 132, 3, 1]
abbrev dktX0_pieceTold_1 : List UInt8 := dkwX0_pieceTold_1 ++ dktX0_pieceTold_2
def dkwX0_pieceTold_0 : List UInt8 := [3, 61, 3, 62, 29, 27, 162, 0, 44, 28, 42, 180, 0, 74, 28, 46, 156, 0, 7, 4, 167, 0, 22, 42]
abbrev dktX0_pieceTold_0 : List UInt8 := dkwX0_pieceTold_0 ++ dktX0_pieceTold_1
theorem dksX0_pieceTold_0 : cX0_pieceTold.data.toList.drop 0 = dktX0_pieceTold_0 := by decide +kernel
theorem dksX0_pieceTold_1 : cX0_pieceTold.data.toList.drop 24 = dktX0_pieceTold_1 := dk_seg dksX0_pieceTold_0 24 rfl rfl
theorem dksX0_pieceTold_2 : cX0_pieceTold.data.toList.drop 47 = dktX0_pieceTold_2 := dk_seg dksX0_pieceTold_1 23 rfl rfl
theorem dX0_pieceTold_0 : decode cX0_pieceTold 0 = .ok (.iconst 0, 1) := dk_3 (dk_at dksX0_pieceTold_0 0 rfl rfl)
theorem dX0_pieceTold_1 : decode cX0_pieceTold 1 = .ok (.istore_n 2, 1) := dk_61 (dk_at dksX0_pieceTold_0 1 rfl rfl)
theorem dX0_pieceTold_2 : decode cX0_pieceTold 2 = .ok (.iconst 0, 1) := dk_3 (dk_at dksX0_pieceTold_0 2 rfl rfl)
theorem dX0_pieceTold_3 : decode cX0_pieceTold 3 = .ok (.istore_n 3, 1) := dk_62 (dk_at dksX0_pieceTold_0 3 rfl rfl)
theorem dX0_pieceTold_4 : decode cX0_pieceTold 4 = .ok (.iload_n 3, 1) := dk_29 (dk_at dksX0_pieceTold_0 4 rfl rfl)
theorem dX0_pieceTold_5 : decode cX0_pieceTold 5 = .ok (.iload_n 1, 1) := dk_27 (dk_at dksX0_pieceTold_0 5 rfl rfl)
theorem dX0_pieceTold_6 : decode cX0_pieceTold 6 = .ok (.if_icmp .ge 44, 3) := dk_162 0 44 (dk_at dksX0_pieceTold_0 6 rfl rfl)
theorem dX0_pieceTold_9 : decode cX0_pieceTold 9 = .ok (.iload_n 2, 1) := dk_28 (dk_at dksX0_pieceTold_0 9 rfl rfl)
theorem dX0_pieceTold_10 : decode cX0_pieceTold 10 = .ok (.aload_n 0, 1) := dk_42 (dk_at dksX0_pieceTold_0 10 rfl rfl)
theorem dX0_pieceTold_11 : decode cX0_pieceTold 11 = .ok (.getfield 74, 3) := dk_180 0 74 (dk_at dksX0_pieceTold_0 11 rfl rfl)
theorem dX0_pieceTold_14 : decode cX0_pieceTold 14 = .ok (.iload_n 2, 1) := dk_28 (dk_at dksX0_pieceTold_0 14 rfl rfl)
theorem dX0_pieceTold_15 : decode cX0_pieceTold 15 = .ok (.iaload, 1) := dk_46 (dk_at dksX0_pieceTold_0 15 rfl rfl)
theorem dX0_pieceTold_16 : decode cX0_pieceTold 16 = .ok (.ifCond .ge 7, 3) := dk_156 0 7 (dk_at dksX0_pieceTold_0 16 rfl rfl)
theorem dX0_pieceTold_19 : decode cX0_pieceTold 19 = .ok (.iconst 1, 1) := dk_4 (dk_at dksX0_pieceTold_0 19 rfl rfl)
theorem dX0_pieceTold_20 : decode cX0_pieceTold 20 = .ok (.goto 22, 3) := dk_167 0 22 (dk_at dksX0_pieceTold_0 20 rfl rfl)
theorem dX0_pieceTold_23 : decode cX0_pieceTold 23 = .ok (.aload_n 0, 1) := dk_42 (dk_at dksX0_pieceTold_0 23 rfl rfl)
theorem dX0_pieceTold_24 : decode cX0_pieceTold 24 = .ok (.getfield 18, 3) := dk_180 0 18 (dk_at dksX0_pieceTold_1 0 rfl rfl)
theorem dX0_pieceTold_27 : decode cX0_pieceTold 27 = .ok (.aload_n 0, 1) := dk_42 (dk_at dksX0_pieceTold_1 3 rfl rfl)
theorem dX0_pieceTold_28 : decode cX0_pieceTold 28 = .ok (.getfield 74, 3) := dk_180 0 74 (dk_at dksX0_pieceTold_1 4 rfl rfl)
theorem dX0_pieceTold_31 : decode cX0_pieceTold 31 = .ok (.iload_n 2, 1) := dk_28 (dk_at dksX0_pieceTold_1 7 rfl rfl)
theorem dX0_pieceTold_32 : decode cX0_pieceTold 32 = .ok (.iaload, 1) := dk_46 (dk_at dksX0_pieceTold_1 8 rfl rfl)
theorem dX0_pieceTold_33 : decode cX0_pieceTold 33 = .ok (.invokevirtual 237, 3) := dk_182 0 237 (dk_at dksX0_pieceTold_1 9 rfl rfl)
theorem dX0_pieceTold_36 : decode cX0_pieceTold 36 = .ok (.checkcast 140, 3) := dk_192 0 140 (dk_at dksX0_pieceTold_1 12 rfl rfl)
theorem dX0_pieceTold_39 : decode cX0_pieceTold 39 = .ok (.invokevirtual 263, 3) := dk_182 1 7 (dk_at dksX0_pieceTold_1 15 rfl rfl)
theorem dX0_pieceTold_42 : decode cX0_pieceTold 42 = .ok (.iadd, 1) := dk_96 (dk_at dksX0_pieceTold_1 18 rfl rfl)
theorem dX0_pieceTold_43 : decode cX0_pieceTold 43 = .ok (.istore_n 2, 1) := dk_61 (dk_at dksX0_pieceTold_1 19 rfl rfl)
theorem dX0_pieceTold_44 : decode cX0_pieceTold 44 = .ok (.iinc 3 1, 3) := dk_132 3 1 (dk_at dksX0_pieceTold_1 20 rfl rfl)
theorem dX0_pieceTold_47 : decode cX0_pieceTold 47 = .ok (.goto (-43), 3) := dk_167 255 213 (dk_at dksX0_pieceTold_2 0 rfl rfl)
theorem dX0_pieceTold_50 : decode cX0_pieceTold 50 = .ok (.aload_n 0, 1) := dk_42 (dk_at dksX0_pieceTold_2 3 rfl rfl)
theorem dX0_pieceTold_51 : decode cX0_pieceTold 51 = .ok (.getfield 74, 3) := dk_180 0 74 (dk_at dksX0_pieceTold_2 4 rfl rfl)
theorem dX0_pieceTold_54 : decode cX0_pieceTold 54 = .ok (.iload_n 2, 1) := dk_28 (dk_at dksX0_pieceTold_2 7 rfl rfl)
theorem dX0_pieceTold_55 : decode cX0_pieceTold 55 = .ok (.iaload, 1) := dk_46 (dk_at dksX0_pieceTold_2 8 rfl rfl)
theorem dX0_pieceTold_56 : decode cX0_pieceTold 56 = .ok (.ireturn, 1) := dk_172 (dk_at dksX0_pieceTold_2 9 rfl rfl)
abbrev cX0_build : ByteArray := prog_1_method_51_code
def yX0_build : MethodName := ⟨RX0, "build", "(I)I"⟩
def dkwX0_build_2 : List UInt8 := [181, 1, 156, 42, 180, 0, 193, 182, 1, 159, 172]
abbrev dktX0_build_2 : List UInt8 := dkwX0_build_2 ++ []
def dkwX0_build_1 : List UInt8 := [172, 42, 42, 27, 182, 1, 149, 181, 0, 193, 42, 27, 181, 1, 153, 42, 89, 180, 1, 156, 4, 96]
abbrev dktX0_build_1 : List UInt8 := dkwX0_build_1 ++ dktX0_build_2
def dkwX0_build_0 : List UInt8 := [27, 5, 7, 184, 0, 114, 154, 0, 6, 16, 154, 172, 42, 180, 0, 18, 182, 1, 148, 153, 0, 6, 16, 153]
abbrev dktX0_build_0 : List UInt8 := dkwX0_build_0 ++ dktX0_build_1
theorem dksX0_build_0 : cX0_build.data.toList.drop 0 = dktX0_build_0 := by decide +kernel
theorem dksX0_build_1 : cX0_build.data.toList.drop 24 = dktX0_build_1 := dk_seg dksX0_build_0 24 rfl rfl
theorem dksX0_build_2 : cX0_build.data.toList.drop 46 = dktX0_build_2 := dk_seg dksX0_build_1 22 rfl rfl
theorem dX0_build_0 : decode cX0_build 0 = .ok (.iload_n 1, 1) := dk_27 (dk_at dksX0_build_0 0 rfl rfl)
theorem dX0_build_1 : decode cX0_build 1 = .ok (.iconst 2, 1) := dk_5 (dk_at dksX0_build_0 1 rfl rfl)
theorem dX0_build_2 : decode cX0_build 2 = .ok (.iconst 4, 1) := dk_7 (dk_at dksX0_build_0 2 rfl rfl)
theorem dX0_build_3 : decode cX0_build 3 = .ok (.invokestatic 114, 3) := dk_184 0 114 (dk_at dksX0_build_0 3 rfl rfl)
theorem dX0_build_6 : decode cX0_build 6 = .ok (.ifCond .ne 6, 3) := dk_154 0 6 (dk_at dksX0_build_0 6 rfl rfl)
theorem dX0_build_9 : decode cX0_build 9 = .ok (.bipush (-102), 2) := dk_16 154 (dk_at dksX0_build_0 9 rfl rfl)
theorem dX0_build_11 : decode cX0_build 11 = .ok (.ireturn, 1) := dk_172 (dk_at dksX0_build_0 11 rfl rfl)
theorem dX0_build_12 : decode cX0_build 12 = .ok (.aload_n 0, 1) := dk_42 (dk_at dksX0_build_0 12 rfl rfl)
theorem dX0_build_13 : decode cX0_build 13 = .ok (.getfield 18, 3) := dk_180 0 18 (dk_at dksX0_build_0 13 rfl rfl)
theorem dX0_build_16 : decode cX0_build 16 = .ok (.invokevirtual 404, 3) := dk_182 1 148 (dk_at dksX0_build_0 16 rfl rfl)
theorem dX0_build_19 : decode cX0_build 19 = .ok (.ifCond .eq 6, 3) := dk_153 0 6 (dk_at dksX0_build_0 19 rfl rfl)
theorem dX0_build_22 : decode cX0_build 22 = .ok (.bipush (-103), 2) := dk_16 153 (dk_at dksX0_build_0 22 rfl rfl)
theorem dX0_build_24 : decode cX0_build 24 = .ok (.ireturn, 1) := dk_172 (dk_at dksX0_build_1 0 rfl rfl)
theorem dX0_build_25 : decode cX0_build 25 = .ok (.aload_n 0, 1) := dk_42 (dk_at dksX0_build_1 1 rfl rfl)
theorem dX0_build_26 : decode cX0_build 26 = .ok (.aload_n 0, 1) := dk_42 (dk_at dksX0_build_1 2 rfl rfl)
theorem dX0_build_27 : decode cX0_build 27 = .ok (.iload_n 1, 1) := dk_27 (dk_at dksX0_build_1 3 rfl rfl)
theorem dX0_build_28 : decode cX0_build 28 = .ok (.invokevirtual 405, 3) := dk_182 1 149 (dk_at dksX0_build_1 4 rfl rfl)
theorem dX0_build_31 : decode cX0_build 31 = .ok (.putfield 193, 3) := dk_181 0 193 (dk_at dksX0_build_1 7 rfl rfl)
theorem dX0_build_34 : decode cX0_build 34 = .ok (.aload_n 0, 1) := dk_42 (dk_at dksX0_build_1 10 rfl rfl)
theorem dX0_build_35 : decode cX0_build 35 = .ok (.iload_n 1, 1) := dk_27 (dk_at dksX0_build_1 11 rfl rfl)
theorem dX0_build_36 : decode cX0_build 36 = .ok (.putfield 409, 3) := dk_181 1 153 (dk_at dksX0_build_1 12 rfl rfl)
theorem dX0_build_39 : decode cX0_build 39 = .ok (.aload_n 0, 1) := dk_42 (dk_at dksX0_build_1 15 rfl rfl)
theorem dX0_build_40 : decode cX0_build 40 = .ok (.dup, 1) := dk_89 (dk_at dksX0_build_1 16 rfl rfl)
theorem dX0_build_41 : decode cX0_build 41 = .ok (.getfield 412, 3) := dk_180 1 156 (dk_at dksX0_build_1 17 rfl rfl)
theorem dX0_build_44 : decode cX0_build 44 = .ok (.iconst 1, 1) := dk_4 (dk_at dksX0_build_1 20 rfl rfl)
theorem dX0_build_45 : decode cX0_build 45 = .ok (.iadd, 1) := dk_96 (dk_at dksX0_build_1 21 rfl rfl)
theorem dX0_build_46 : decode cX0_build 46 = .ok (.putfield 412, 3) := dk_181 1 156 (dk_at dksX0_build_2 0 rfl rfl)
theorem dX0_build_49 : decode cX0_build 49 = .ok (.aload_n 0, 1) := dk_42 (dk_at dksX0_build_2 3 rfl rfl)
theorem dX0_build_50 : decode cX0_build 50 = .ok (.getfield 193, 3) := dk_180 0 193 (dk_at dksX0_build_2 4 rfl rfl)
theorem dX0_build_53 : decode cX0_build 53 = .ok (.invokevirtual 415, 3) := dk_182 1 159 (dk_at dksX0_build_2 7 rfl rfl)
theorem dX0_build_56 : decode cX0_build 56 = .ok (.ireturn, 1) := dk_172 (dk_at dksX0_build_2 10 rfl rfl)
abbrev cX0_leastMenu : ByteArray := prog_1_method_48_code
def yX0_leastMenu : MethodName := ⟨RX0, "leastMenu", "(I)LDialMenus$Menu;"⟩
def dkwX0_leastMenu_0 : List UInt8 := [42, 27, 182, 1, 145, 42, 3, 42, 180, 0, 18, 182, 0, 111, 182, 1, 141, 176]
abbrev dktX0_leastMenu_0 : List UInt8 := dkwX0_leastMenu_0 ++ []
theorem dksX0_leastMenu_0 : cX0_leastMenu.data.toList.drop 0 = dktX0_leastMenu_0 := by decide +kernel
theorem dX0_leastMenu_0 : decode cX0_leastMenu 0 = .ok (.aload_n 0, 1) := dk_42 (dk_at dksX0_leastMenu_0 0 rfl rfl)
theorem dX0_leastMenu_1 : decode cX0_leastMenu 1 = .ok (.iload_n 1, 1) := dk_27 (dk_at dksX0_leastMenu_0 1 rfl rfl)
theorem dX0_leastMenu_2 : decode cX0_leastMenu 2 = .ok (.invokevirtual 401, 3) := dk_182 1 145 (dk_at dksX0_leastMenu_0 2 rfl rfl)
theorem dX0_leastMenu_5 : decode cX0_leastMenu 5 = .ok (.aload_n 0, 1) := dk_42 (dk_at dksX0_leastMenu_0 5 rfl rfl)
theorem dX0_leastMenu_6 : decode cX0_leastMenu 6 = .ok (.iconst 0, 1) := dk_3 (dk_at dksX0_leastMenu_0 6 rfl rfl)
theorem dX0_leastMenu_7 : decode cX0_leastMenu 7 = .ok (.aload_n 0, 1) := dk_42 (dk_at dksX0_leastMenu_0 7 rfl rfl)
theorem dX0_leastMenu_8 : decode cX0_leastMenu 8 = .ok (.getfield 18, 3) := dk_180 0 18 (dk_at dksX0_leastMenu_0 8 rfl rfl)
theorem dX0_leastMenu_11 : decode cX0_leastMenu 11 = .ok (.invokevirtual 111, 3) := dk_182 0 111 (dk_at dksX0_leastMenu_0 11 rfl rfl)
theorem dX0_leastMenu_14 : decode cX0_leastMenu 14 = .ok (.invokevirtual 397, 3) := dk_182 1 141 (dk_at dksX0_leastMenu_0 14 rfl rfl)
theorem dX0_leastMenu_17 : decode cX0_leastMenu 17 = .ok (.areturn, 1) := dk_176 (dk_at dksX0_leastMenu_0 17 rfl rfl)
abbrev cX0_made : ByteArray := prog_1_method_47_code
def yX0_made : MethodName := ⟨RX0, "made", "(II)LDialMenus$Menu;"⟩
def dkwX0_made_3 : List UInt8 := [21, 4, 21, 6, 96, 54, 4, 132, 5, 255, 167, 255, 209, 45, 176]
abbrev dktX0_made_3 : List UInt8 := dkwX0_made_3 ++ []
def dkwX0_made_2 : List UInt8 := [21, 4, 100, 182, 1, 135, 54, 6, 45, 180, 1, 138, 42, 21, 4, 21, 6, 182, 1, 141, 182, 0, 184, 87]
abbrev dktX0_made_2 : List UInt8 := dkwX0_made_2 ++ dktX0_made_3
def dkwX0_made_1 : List UInt8 := [167, 0, 9, 42, 27, 28, 182, 1, 132, 54, 5, 21, 5, 158, 0, 48, 42, 21, 5, 21, 4, 27, 28, 96]
abbrev dktX0_made_1 : List UInt8 := dkwX0_made_1 ++ dktX0_made_2
def dkwX0_made_0 : List UInt8 := [187, 1, 30, 89, 42, 27, 27, 28, 96, 183, 1, 129, 78, 27, 54, 4, 28, 5, 162, 0, 7, 3]
abbrev dktX0_made_0 : List UInt8 := dkwX0_made_0 ++ dktX0_made_1
theorem dksX0_made_0 : cX0_made.data.toList.drop 0 = dktX0_made_0 := by decide +kernel
theorem dksX0_made_1 : cX0_made.data.toList.drop 22 = dktX0_made_1 := dk_seg dksX0_made_0 22 rfl rfl
theorem dksX0_made_2 : cX0_made.data.toList.drop 46 = dktX0_made_2 := dk_seg dksX0_made_1 24 rfl rfl
theorem dksX0_made_3 : cX0_made.data.toList.drop 70 = dktX0_made_3 := dk_seg dksX0_made_2 24 rfl rfl
theorem dX0_made_0 : decode cX0_made 0 = .ok (.new 286, 3) := dk_187 1 30 (dk_at dksX0_made_0 0 rfl rfl)
theorem dX0_made_3 : decode cX0_made 3 = .ok (.dup, 1) := dk_89 (dk_at dksX0_made_0 3 rfl rfl)
theorem dX0_made_4 : decode cX0_made 4 = .ok (.aload_n 0, 1) := dk_42 (dk_at dksX0_made_0 4 rfl rfl)
theorem dX0_made_5 : decode cX0_made 5 = .ok (.iload_n 1, 1) := dk_27 (dk_at dksX0_made_0 5 rfl rfl)
theorem dX0_made_6 : decode cX0_made 6 = .ok (.iload_n 1, 1) := dk_27 (dk_at dksX0_made_0 6 rfl rfl)
theorem dX0_made_7 : decode cX0_made 7 = .ok (.iload_n 2, 1) := dk_28 (dk_at dksX0_made_0 7 rfl rfl)
theorem dX0_made_8 : decode cX0_made 8 = .ok (.iadd, 1) := dk_96 (dk_at dksX0_made_0 8 rfl rfl)
theorem dX0_made_9 : decode cX0_made 9 = .ok (.invokespecial 385, 3) := dk_183 1 129 (dk_at dksX0_made_0 9 rfl rfl)
theorem dX0_made_12 : decode cX0_made 12 = .ok (.astore_n 3, 1) := dk_78 (dk_at dksX0_made_0 12 rfl rfl)
theorem dX0_made_13 : decode cX0_made 13 = .ok (.iload_n 1, 1) := dk_27 (dk_at dksX0_made_0 13 rfl rfl)
theorem dX0_made_14 : decode cX0_made 14 = .ok (.istore 4, 2) := dk_54 4 (dk_at dksX0_made_0 14 rfl rfl)
theorem dX0_made_16 : decode cX0_made 16 = .ok (.iload_n 2, 1) := dk_28 (dk_at dksX0_made_0 16 rfl rfl)
theorem dX0_made_17 : decode cX0_made 17 = .ok (.iconst 2, 1) := dk_5 (dk_at dksX0_made_0 17 rfl rfl)
theorem dX0_made_18 : decode cX0_made 18 = .ok (.if_icmp .ge 7, 3) := dk_162 0 7 (dk_at dksX0_made_0 18 rfl rfl)
theorem dX0_made_21 : decode cX0_made 21 = .ok (.iconst 0, 1) := dk_3 (dk_at dksX0_made_0 21 rfl rfl)
theorem dX0_made_22 : decode cX0_made 22 = .ok (.goto 9, 3) := dk_167 0 9 (dk_at dksX0_made_1 0 rfl rfl)
theorem dX0_made_25 : decode cX0_made 25 = .ok (.aload_n 0, 1) := dk_42 (dk_at dksX0_made_1 3 rfl rfl)
theorem dX0_made_26 : decode cX0_made 26 = .ok (.iload_n 1, 1) := dk_27 (dk_at dksX0_made_1 4 rfl rfl)
theorem dX0_made_27 : decode cX0_made 27 = .ok (.iload_n 2, 1) := dk_28 (dk_at dksX0_made_1 5 rfl rfl)
theorem dX0_made_28 : decode cX0_made 28 = .ok (.invokevirtual 388, 3) := dk_182 1 132 (dk_at dksX0_made_1 6 rfl rfl)
theorem dX0_made_31 : decode cX0_made 31 = .ok (.istore 5, 2) := dk_54 5 (dk_at dksX0_made_1 9 rfl rfl)
theorem dX0_made_33 : decode cX0_made 33 = .ok (.iload 5, 2) := dk_21 5 (dk_at dksX0_made_1 11 rfl rfl)
theorem dX0_made_35 : decode cX0_made 35 = .ok (.ifCond .le 48, 3) := dk_158 0 48 (dk_at dksX0_made_1 13 rfl rfl)
theorem dX0_made_38 : decode cX0_made 38 = .ok (.aload_n 0, 1) := dk_42 (dk_at dksX0_made_1 16 rfl rfl)
theorem dX0_made_39 : decode cX0_made 39 = .ok (.iload 5, 2) := dk_21 5 (dk_at dksX0_made_1 17 rfl rfl)
theorem dX0_made_41 : decode cX0_made 41 = .ok (.iload 4, 2) := dk_21 4 (dk_at dksX0_made_1 19 rfl rfl)
theorem dX0_made_43 : decode cX0_made 43 = .ok (.iload_n 1, 1) := dk_27 (dk_at dksX0_made_1 21 rfl rfl)
theorem dX0_made_44 : decode cX0_made 44 = .ok (.iload_n 2, 1) := dk_28 (dk_at dksX0_made_1 22 rfl rfl)
theorem dX0_made_45 : decode cX0_made 45 = .ok (.iadd, 1) := dk_96 (dk_at dksX0_made_1 23 rfl rfl)
theorem dX0_made_46 : decode cX0_made 46 = .ok (.iload 4, 2) := dk_21 4 (dk_at dksX0_made_2 0 rfl rfl)
theorem dX0_made_48 : decode cX0_made 48 = .ok (.isub, 1) := dk_100 (dk_at dksX0_made_2 2 rfl rfl)
theorem dX0_made_49 : decode cX0_made 49 = .ok (.invokevirtual 391, 3) := dk_182 1 135 (dk_at dksX0_made_2 3 rfl rfl)
theorem dX0_made_52 : decode cX0_made 52 = .ok (.istore 6, 2) := dk_54 6 (dk_at dksX0_made_2 6 rfl rfl)
theorem dX0_made_54 : decode cX0_made 54 = .ok (.aload_n 3, 1) := dk_45 (dk_at dksX0_made_2 8 rfl rfl)
theorem dX0_made_55 : decode cX0_made 55 = .ok (.getfield 394, 3) := dk_180 1 138 (dk_at dksX0_made_2 9 rfl rfl)
theorem dX0_made_58 : decode cX0_made 58 = .ok (.aload_n 0, 1) := dk_42 (dk_at dksX0_made_2 12 rfl rfl)
theorem dX0_made_59 : decode cX0_made 59 = .ok (.iload 4, 2) := dk_21 4 (dk_at dksX0_made_2 13 rfl rfl)
theorem dX0_made_61 : decode cX0_made 61 = .ok (.iload 6, 2) := dk_21 6 (dk_at dksX0_made_2 15 rfl rfl)
theorem dX0_made_63 : decode cX0_made 63 = .ok (.invokevirtual 397, 3) := dk_182 1 141 (dk_at dksX0_made_2 17 rfl rfl)
theorem dX0_made_66 : decode cX0_made 66 = .ok (.invokevirtual 184, 3) := dk_182 0 184 (dk_at dksX0_made_2 20 rfl rfl)
theorem dX0_made_69 : decode cX0_made 69 = .ok (.pop, 1) := dk_87 (dk_at dksX0_made_2 23 rfl rfl)
theorem dX0_made_70 : decode cX0_made 70 = .ok (.iload 4, 2) := dk_21 4 (dk_at dksX0_made_3 0 rfl rfl)
theorem dX0_made_72 : decode cX0_made 72 = .ok (.iload 6, 2) := dk_21 6 (dk_at dksX0_made_3 2 rfl rfl)
theorem dX0_made_74 : decode cX0_made 74 = .ok (.iadd, 1) := dk_96 (dk_at dksX0_made_3 4 rfl rfl)
theorem dX0_made_75 : decode cX0_made 75 = .ok (.istore 4, 2) := dk_54 4 (dk_at dksX0_made_3 5 rfl rfl)
theorem dX0_made_77 : decode cX0_made 77 = .ok (.iinc 5 (-1), 3) := dk_132 5 255 (dk_at dksX0_made_3 7 rfl rfl)
theorem dX0_made_80 : decode cX0_made 80 = .ok (.goto (-47), 3) := dk_167 255 209 (dk_at dksX0_made_3 10 rfl rfl)
theorem dX0_made_83 : decode cX0_made 83 = .ok (.aload_n 3, 1) := dk_45 (dk_at dksX0_made_3 13 rfl rfl)
theorem dX0_made_84 : decode cX0_made 84 = .ok (.areturn, 1) := dk_176 (dk_at dksX0_made_3 14 rfl rfl)
abbrev cX0_tend : ByteArray := prog_1_method_54_code
def yX0_tend : MethodName := ⟨RX0, "tend", "(I)I"⟩
def dkwX0_tend_1 : List UInt8 := [182, 1, 170, 167, 0, 5, 16, 154, 172]
abbrev dktX0_tend_1 : List UInt8 := dkwX0_tend_1 ++ []
def dkwX0_tend_0 : List UInt8 := [42, 180, 0, 193, 199, 0, 6, 16, 153, 172, 27, 3, 16, 100, 184, 0, 114, 153, 0, 11, 42, 27]
abbrev dktX0_tend_0 : List UInt8 := dkwX0_tend_0 ++ dktX0_tend_1
theorem dksX0_tend_0 : cX0_tend.data.toList.drop 0 = dktX0_tend_0 := by decide +kernel
theorem dksX0_tend_1 : cX0_tend.data.toList.drop 22 = dktX0_tend_1 := dk_seg dksX0_tend_0 22 rfl rfl
theorem dX0_tend_0 : decode cX0_tend 0 = .ok (.aload_n 0, 1) := dk_42 (dk_at dksX0_tend_0 0 rfl rfl)
theorem dX0_tend_1 : decode cX0_tend 1 = .ok (.getfield 193, 3) := dk_180 0 193 (dk_at dksX0_tend_0 1 rfl rfl)
theorem dX0_tend_4 : decode cX0_tend 4 = .ok (.ifnonnull 6, 3) := dk_199 0 6 (dk_at dksX0_tend_0 4 rfl rfl)
theorem dX0_tend_7 : decode cX0_tend 7 = .ok (.bipush (-103), 2) := dk_16 153 (dk_at dksX0_tend_0 7 rfl rfl)
theorem dX0_tend_9 : decode cX0_tend 9 = .ok (.ireturn, 1) := dk_172 (dk_at dksX0_tend_0 9 rfl rfl)
theorem dX0_tend_10 : decode cX0_tend 10 = .ok (.iload_n 1, 1) := dk_27 (dk_at dksX0_tend_0 10 rfl rfl)
theorem dX0_tend_11 : decode cX0_tend 11 = .ok (.iconst 0, 1) := dk_3 (dk_at dksX0_tend_0 11 rfl rfl)
theorem dX0_tend_12 : decode cX0_tend 12 = .ok (.bipush 100, 2) := dk_16 100 (dk_at dksX0_tend_0 12 rfl rfl)
theorem dX0_tend_14 : decode cX0_tend 14 = .ok (.invokestatic 114, 3) := dk_184 0 114 (dk_at dksX0_tend_0 14 rfl rfl)
theorem dX0_tend_17 : decode cX0_tend 17 = .ok (.ifCond .eq 11, 3) := dk_153 0 11 (dk_at dksX0_tend_0 17 rfl rfl)
theorem dX0_tend_20 : decode cX0_tend 20 = .ok (.aload_n 0, 1) := dk_42 (dk_at dksX0_tend_0 20 rfl rfl)
theorem dX0_tend_21 : decode cX0_tend 21 = .ok (.iload_n 1, 1) := dk_27 (dk_at dksX0_tend_0 21 rfl rfl)
theorem dX0_tend_22 : decode cX0_tend 22 = .ok (.invokevirtual 426, 3) := dk_182 1 170 (dk_at dksX0_tend_1 0 rfl rfl)
theorem dX0_tend_25 : decode cX0_tend 25 = .ok (.goto 5, 3) := dk_167 0 5 (dk_at dksX0_tend_1 3 rfl rfl)
theorem dX0_tend_28 : decode cX0_tend 28 = .ok (.bipush (-102), 2) := dk_16 154 (dk_at dksX0_tend_1 6 rfl rfl)
theorem dX0_tend_30 : decode cX0_tend 30 = .ok (.ireturn, 1) := dk_172 (dk_at dksX0_tend_1 8 rfl rfl)
abbrev cX0_tended : ByteArray := prog_1_method_53_code
def yX0_tended : MethodName := ⟨RX0, "tended", "(I)I"⟩
def dkwX0_tended_2 : List UInt8 := [180, 1, 156, 4, 96, 181, 1, 156, 42, 45, 42, 180, 0, 193, 182, 1, 166, 172]
abbrev dktX0_tended_2 : List UInt8 := dkwX0_tended_2 ++ []
def dkwX0_tended_1 : List UInt8 := [163, 0, 5, 2, 172, 42, 180, 0, 193, 78, 42, 42, 42, 180, 1, 153, 182, 1, 149, 181, 0, 193, 42, 89]
abbrev dktX0_tended_1 : List UInt8 := dkwX0_tended_1 ++ dktX0_tended_2
def dkwX0_tended_0 : List UInt8 := [42, 42, 180, 1, 153, 182, 1, 163, 61, 16, 100, 42, 180, 0, 193, 182, 1, 159, 28, 100, 104, 27, 28, 104]
abbrev dktX0_tended_0 : List UInt8 := dkwX0_tended_0 ++ dktX0_tended_1
theorem dksX0_tended_0 : cX0_tended.data.toList.drop 0 = dktX0_tended_0 := by decide +kernel
theorem dksX0_tended_1 : cX0_tended.data.toList.drop 24 = dktX0_tended_1 := dk_seg dksX0_tended_0 24 rfl rfl
theorem dksX0_tended_2 : cX0_tended.data.toList.drop 48 = dktX0_tended_2 := dk_seg dksX0_tended_1 24 rfl rfl
theorem dX0_tended_0 : decode cX0_tended 0 = .ok (.aload_n 0, 1) := dk_42 (dk_at dksX0_tended_0 0 rfl rfl)
theorem dX0_tended_1 : decode cX0_tended 1 = .ok (.aload_n 0, 1) := dk_42 (dk_at dksX0_tended_0 1 rfl rfl)
theorem dX0_tended_2 : decode cX0_tended 2 = .ok (.getfield 409, 3) := dk_180 1 153 (dk_at dksX0_tended_0 2 rfl rfl)
theorem dX0_tended_5 : decode cX0_tended 5 = .ok (.invokevirtual 419, 3) := dk_182 1 163 (dk_at dksX0_tended_0 5 rfl rfl)
theorem dX0_tended_8 : decode cX0_tended 8 = .ok (.istore_n 2, 1) := dk_61 (dk_at dksX0_tended_0 8 rfl rfl)
theorem dX0_tended_9 : decode cX0_tended 9 = .ok (.bipush 100, 2) := dk_16 100 (dk_at dksX0_tended_0 9 rfl rfl)
theorem dX0_tended_11 : decode cX0_tended 11 = .ok (.aload_n 0, 1) := dk_42 (dk_at dksX0_tended_0 11 rfl rfl)
theorem dX0_tended_12 : decode cX0_tended 12 = .ok (.getfield 193, 3) := dk_180 0 193 (dk_at dksX0_tended_0 12 rfl rfl)
theorem dX0_tended_15 : decode cX0_tended 15 = .ok (.invokevirtual 415, 3) := dk_182 1 159 (dk_at dksX0_tended_0 15 rfl rfl)
theorem dX0_tended_18 : decode cX0_tended 18 = .ok (.iload_n 2, 1) := dk_28 (dk_at dksX0_tended_0 18 rfl rfl)
theorem dX0_tended_19 : decode cX0_tended 19 = .ok (.isub, 1) := dk_100 (dk_at dksX0_tended_0 19 rfl rfl)
theorem dX0_tended_20 : decode cX0_tended 20 = .ok (.imul, 1) := dk_104 (dk_at dksX0_tended_0 20 rfl rfl)
theorem dX0_tended_21 : decode cX0_tended 21 = .ok (.iload_n 1, 1) := dk_27 (dk_at dksX0_tended_0 21 rfl rfl)
theorem dX0_tended_22 : decode cX0_tended 22 = .ok (.iload_n 2, 1) := dk_28 (dk_at dksX0_tended_0 22 rfl rfl)
theorem dX0_tended_23 : decode cX0_tended 23 = .ok (.imul, 1) := dk_104 (dk_at dksX0_tended_0 23 rfl rfl)
theorem dX0_tended_24 : decode cX0_tended 24 = .ok (.if_icmp .gt 5, 3) := dk_163 0 5 (dk_at dksX0_tended_1 0 rfl rfl)
theorem dX0_tended_27 : decode cX0_tended 27 = .ok (.iconst (-1), 1) := dk_2 (dk_at dksX0_tended_1 3 rfl rfl)
theorem dX0_tended_28 : decode cX0_tended 28 = .ok (.ireturn, 1) := dk_172 (dk_at dksX0_tended_1 4 rfl rfl)
theorem dX0_tended_29 : decode cX0_tended 29 = .ok (.aload_n 0, 1) := dk_42 (dk_at dksX0_tended_1 5 rfl rfl)
theorem dX0_tended_30 : decode cX0_tended 30 = .ok (.getfield 193, 3) := dk_180 0 193 (dk_at dksX0_tended_1 6 rfl rfl)
theorem dX0_tended_33 : decode cX0_tended 33 = .ok (.astore_n 3, 1) := dk_78 (dk_at dksX0_tended_1 9 rfl rfl)
theorem dX0_tended_34 : decode cX0_tended 34 = .ok (.aload_n 0, 1) := dk_42 (dk_at dksX0_tended_1 10 rfl rfl)
theorem dX0_tended_35 : decode cX0_tended 35 = .ok (.aload_n 0, 1) := dk_42 (dk_at dksX0_tended_1 11 rfl rfl)
theorem dX0_tended_36 : decode cX0_tended 36 = .ok (.aload_n 0, 1) := dk_42 (dk_at dksX0_tended_1 12 rfl rfl)
theorem dX0_tended_37 : decode cX0_tended 37 = .ok (.getfield 409, 3) := dk_180 1 153 (dk_at dksX0_tended_1 13 rfl rfl)
theorem dX0_tended_40 : decode cX0_tended 40 = .ok (.invokevirtual 405, 3) := dk_182 1 149 (dk_at dksX0_tended_1 16 rfl rfl)
theorem dX0_tended_43 : decode cX0_tended 43 = .ok (.putfield 193, 3) := dk_181 0 193 (dk_at dksX0_tended_1 19 rfl rfl)
theorem dX0_tended_46 : decode cX0_tended 46 = .ok (.aload_n 0, 1) := dk_42 (dk_at dksX0_tended_1 22 rfl rfl)
theorem dX0_tended_47 : decode cX0_tended 47 = .ok (.dup, 1) := dk_89 (dk_at dksX0_tended_1 23 rfl rfl)
theorem dX0_tended_48 : decode cX0_tended 48 = .ok (.getfield 412, 3) := dk_180 1 156 (dk_at dksX0_tended_2 0 rfl rfl)
theorem dX0_tended_51 : decode cX0_tended 51 = .ok (.iconst 1, 1) := dk_4 (dk_at dksX0_tended_2 3 rfl rfl)
theorem dX0_tended_52 : decode cX0_tended 52 = .ok (.iadd, 1) := dk_96 (dk_at dksX0_tended_2 4 rfl rfl)
theorem dX0_tended_53 : decode cX0_tended 53 = .ok (.putfield 412, 3) := dk_181 1 156 (dk_at dksX0_tended_2 5 rfl rfl)
theorem dX0_tended_56 : decode cX0_tended 56 = .ok (.aload_n 0, 1) := dk_42 (dk_at dksX0_tended_2 8 rfl rfl)
theorem dX0_tended_57 : decode cX0_tended 57 = .ok (.aload_n 3, 1) := dk_45 (dk_at dksX0_tended_2 9 rfl rfl)
theorem dX0_tended_58 : decode cX0_tended 58 = .ok (.aload_n 0, 1) := dk_42 (dk_at dksX0_tended_2 10 rfl rfl)
theorem dX0_tended_59 : decode cX0_tended 59 = .ok (.getfield 193, 3) := dk_180 0 193 (dk_at dksX0_tended_2 11 rfl rfl)
theorem dX0_tended_62 : decode cX0_tended 62 = .ok (.invokevirtual 422, 3) := dk_182 1 166 (dk_at dksX0_tended_2 14 rfl rfl)
theorem dX0_tended_65 : decode cX0_tended 65 = .ok (.ireturn, 1) := dk_172 (dk_at dksX0_tended_2 17 rfl rfl)
abbrev cX0_leastCost : ByteArray := prog_1_method_50_code
def yX0_leastCost : MethodName := ⟨RX0, "leastCost", "(I)I"⟩
def dkwX0_leastCost_0 : List UInt8 := [42, 27, 182, 1, 145, 42, 180, 0, 79, 3, 50, 42, 180, 0, 18, 182, 0, 111, 46, 172]
abbrev dktX0_leastCost_0 : List UInt8 := dkwX0_leastCost_0 ++ []
theorem dksX0_leastCost_0 : cX0_leastCost.data.toList.drop 0 = dktX0_leastCost_0 := by decide +kernel
theorem dX0_leastCost_0 : decode cX0_leastCost 0 = .ok (.aload_n 0, 1) := dk_42 (dk_at dksX0_leastCost_0 0 rfl rfl)
theorem dX0_leastCost_1 : decode cX0_leastCost 1 = .ok (.iload_n 1, 1) := dk_27 (dk_at dksX0_leastCost_0 1 rfl rfl)
theorem dX0_leastCost_2 : decode cX0_leastCost 2 = .ok (.invokevirtual 401, 3) := dk_182 1 145 (dk_at dksX0_leastCost_0 2 rfl rfl)
theorem dX0_leastCost_5 : decode cX0_leastCost 5 = .ok (.aload_n 0, 1) := dk_42 (dk_at dksX0_leastCost_0 5 rfl rfl)
theorem dX0_leastCost_6 : decode cX0_leastCost 6 = .ok (.getfield 79, 3) := dk_180 0 79 (dk_at dksX0_leastCost_0 6 rfl rfl)
theorem dX0_leastCost_9 : decode cX0_leastCost 9 = .ok (.iconst 0, 1) := dk_3 (dk_at dksX0_leastCost_0 9 rfl rfl)
theorem dX0_leastCost_10 : decode cX0_leastCost 10 = .ok (.aaload, 1) := dk_50 (dk_at dksX0_leastCost_0 10 rfl rfl)
theorem dX0_leastCost_11 : decode cX0_leastCost 11 = .ok (.aload_n 0, 1) := dk_42 (dk_at dksX0_leastCost_0 11 rfl rfl)
theorem dX0_leastCost_12 : decode cX0_leastCost 12 = .ok (.getfield 18, 3) := dk_180 0 18 (dk_at dksX0_leastCost_0 12 rfl rfl)
theorem dX0_leastCost_15 : decode cX0_leastCost 15 = .ok (.invokevirtual 111, 3) := dk_182 0 111 (dk_at dksX0_leastCost_0 15 rfl rfl)
theorem dX0_leastCost_18 : decode cX0_leastCost 18 = .ok (.iaload, 1) := dk_46 (dk_at dksX0_leastCost_0 18 rfl rfl)
theorem dX0_leastCost_19 : decode cX0_leastCost 19 = .ok (.ireturn, 1) := dk_172 (dk_at dksX0_leastCost_0 19 rfl rfl)
abbrev cX0_changes : ByteArray := prog_1_method_52_code
def yX0_changes : MethodName := ⟨RX0, "changes", "(LDialMenus$Menu;LDialMenus$Menu;)I"⟩
def dkwX0_changes_2 : List UInt8 := [167, 255, 215, 29, 172]
abbrev dktX0_changes_2 : List UInt8 := dkwX0_changes_2 ++ []
def dkwX0_changes_1 : List UInt8 := [44, 21, 4, 182, 1, 29, 182, 1, 162, 153, 0, 7, 3, 167, 0, 4, 4, 96, 62, 132, 4, 1]
abbrev dktX0_changes_1 : List UInt8 := dkwX0_changes_1 ++ dktX0_changes_2
def dkwX0_changes_0 : List UInt8 := [3, 62, 3, 54, 4, 21, 4, 42, 180, 0, 18, 182, 0, 111, 162, 0, 35, 29, 43, 21, 4, 182, 1, 29]
abbrev dktX0_changes_0 : List UInt8 := dkwX0_changes_0 ++ dktX0_changes_1
theorem dksX0_changes_0 : cX0_changes.data.toList.drop 0 = dktX0_changes_0 := by decide +kernel
theorem dksX0_changes_1 : cX0_changes.data.toList.drop 24 = dktX0_changes_1 := dk_seg dksX0_changes_0 24 rfl rfl
theorem dksX0_changes_2 : cX0_changes.data.toList.drop 46 = dktX0_changes_2 := dk_seg dksX0_changes_1 22 rfl rfl
theorem dX0_changes_0 : decode cX0_changes 0 = .ok (.iconst 0, 1) := dk_3 (dk_at dksX0_changes_0 0 rfl rfl)
theorem dX0_changes_1 : decode cX0_changes 1 = .ok (.istore_n 3, 1) := dk_62 (dk_at dksX0_changes_0 1 rfl rfl)
theorem dX0_changes_2 : decode cX0_changes 2 = .ok (.iconst 0, 1) := dk_3 (dk_at dksX0_changes_0 2 rfl rfl)
theorem dX0_changes_3 : decode cX0_changes 3 = .ok (.istore 4, 2) := dk_54 4 (dk_at dksX0_changes_0 3 rfl rfl)
theorem dX0_changes_5 : decode cX0_changes 5 = .ok (.iload 4, 2) := dk_21 4 (dk_at dksX0_changes_0 5 rfl rfl)
theorem dX0_changes_7 : decode cX0_changes 7 = .ok (.aload_n 0, 1) := dk_42 (dk_at dksX0_changes_0 7 rfl rfl)
theorem dX0_changes_8 : decode cX0_changes 8 = .ok (.getfield 18, 3) := dk_180 0 18 (dk_at dksX0_changes_0 8 rfl rfl)
theorem dX0_changes_11 : decode cX0_changes 11 = .ok (.invokevirtual 111, 3) := dk_182 0 111 (dk_at dksX0_changes_0 11 rfl rfl)
theorem dX0_changes_14 : decode cX0_changes 14 = .ok (.if_icmp .ge 35, 3) := dk_162 0 35 (dk_at dksX0_changes_0 14 rfl rfl)
theorem dX0_changes_17 : decode cX0_changes 17 = .ok (.iload_n 3, 1) := dk_29 (dk_at dksX0_changes_0 17 rfl rfl)
theorem dX0_changes_18 : decode cX0_changes 18 = .ok (.aload_n 1, 1) := dk_43 (dk_at dksX0_changes_0 18 rfl rfl)
theorem dX0_changes_19 : decode cX0_changes 19 = .ok (.iload 4, 2) := dk_21 4 (dk_at dksX0_changes_0 19 rfl rfl)
theorem dX0_changes_21 : decode cX0_changes 21 = .ok (.invokevirtual 285, 3) := dk_182 1 29 (dk_at dksX0_changes_0 21 rfl rfl)
theorem dX0_changes_24 : decode cX0_changes 24 = .ok (.aload_n 2, 1) := dk_44 (dk_at dksX0_changes_1 0 rfl rfl)
theorem dX0_changes_25 : decode cX0_changes 25 = .ok (.iload 4, 2) := dk_21 4 (dk_at dksX0_changes_1 1 rfl rfl)
theorem dX0_changes_27 : decode cX0_changes 27 = .ok (.invokevirtual 285, 3) := dk_182 1 29 (dk_at dksX0_changes_1 3 rfl rfl)
theorem dX0_changes_30 : decode cX0_changes 30 = .ok (.invokevirtual 418, 3) := dk_182 1 162 (dk_at dksX0_changes_1 6 rfl rfl)
theorem dX0_changes_33 : decode cX0_changes 33 = .ok (.ifCond .eq 7, 3) := dk_153 0 7 (dk_at dksX0_changes_1 9 rfl rfl)
theorem dX0_changes_36 : decode cX0_changes 36 = .ok (.iconst 0, 1) := dk_3 (dk_at dksX0_changes_1 12 rfl rfl)
theorem dX0_changes_37 : decode cX0_changes 37 = .ok (.goto 4, 3) := dk_167 0 4 (dk_at dksX0_changes_1 13 rfl rfl)
theorem dX0_changes_40 : decode cX0_changes 40 = .ok (.iconst 1, 1) := dk_4 (dk_at dksX0_changes_1 16 rfl rfl)
theorem dX0_changes_41 : decode cX0_changes 41 = .ok (.iadd, 1) := dk_96 (dk_at dksX0_changes_1 17 rfl rfl)
theorem dX0_changes_42 : decode cX0_changes 42 = .ok (.istore_n 3, 1) := dk_62 (dk_at dksX0_changes_1 18 rfl rfl)
theorem dX0_changes_43 : decode cX0_changes 43 = .ok (.iinc 4 1, 3) := dk_132 4 1 (dk_at dksX0_changes_1 19 rfl rfl)
theorem dX0_changes_46 : decode cX0_changes 46 = .ok (.goto (-41), 3) := dk_167 255 215 (dk_at dksX0_changes_2 0 rfl rfl)
theorem dX0_changes_49 : decode cX0_changes 49 = .ok (.iload_n 3, 1) := dk_29 (dk_at dksX0_changes_2 3 rfl rfl)
theorem dX0_changes_50 : decode cX0_changes 50 = .ok (.ireturn, 1) := dk_172 (dk_at dksX0_changes_2 4 rfl rfl)
abbrev cX0_path : ByteArray := prog_1_method_55_code
def yX0_path : MethodName := ⟨RX0, "path", "(II)I"⟩
def dkwX0_path_2 : List UInt8 := [182, 1, 29, 28, 182, 1, 75, 192, 0, 176, 182, 0, 178, 172]
abbrev dktX0_path_2 : List UInt8 := dkwX0_path_2 ++ []
def dkwX0_path_1 : List UInt8 := [27, 182, 1, 29, 182, 1, 35, 4, 100, 184, 0, 114, 154, 0, 6, 16, 155, 172, 42, 180, 0, 193, 27]
abbrev dktX0_path_1 : List UInt8 := dkwX0_path_1 ++ dktX0_path_2
def dkwX0_path_0 : List UInt8 := [42, 180, 0, 193, 199, 0, 6, 16, 153, 172, 42, 27, 182, 0, 227, 153, 0, 24, 28, 3, 42, 180, 0, 193]
abbrev dktX0_path_0 : List UInt8 := dkwX0_path_0 ++ dktX0_path_1
theorem dksX0_path_0 : cX0_path.data.toList.drop 0 = dktX0_path_0 := by decide +kernel
theorem dksX0_path_1 : cX0_path.data.toList.drop 24 = dktX0_path_1 := dk_seg dksX0_path_0 24 rfl rfl
theorem dksX0_path_2 : cX0_path.data.toList.drop 47 = dktX0_path_2 := dk_seg dksX0_path_1 23 rfl rfl
theorem dX0_path_0 : decode cX0_path 0 = .ok (.aload_n 0, 1) := dk_42 (dk_at dksX0_path_0 0 rfl rfl)
theorem dX0_path_1 : decode cX0_path 1 = .ok (.getfield 193, 3) := dk_180 0 193 (dk_at dksX0_path_0 1 rfl rfl)
theorem dX0_path_4 : decode cX0_path 4 = .ok (.ifnonnull 6, 3) := dk_199 0 6 (dk_at dksX0_path_0 4 rfl rfl)
theorem dX0_path_7 : decode cX0_path 7 = .ok (.bipush (-103), 2) := dk_16 153 (dk_at dksX0_path_0 7 rfl rfl)
theorem dX0_path_9 : decode cX0_path 9 = .ok (.ireturn, 1) := dk_172 (dk_at dksX0_path_0 9 rfl rfl)
theorem dX0_path_10 : decode cX0_path 10 = .ok (.aload_n 0, 1) := dk_42 (dk_at dksX0_path_0 10 rfl rfl)
theorem dX0_path_11 : decode cX0_path 11 = .ok (.iload_n 1, 1) := dk_27 (dk_at dksX0_path_0 11 rfl rfl)
theorem dX0_path_12 : decode cX0_path 12 = .ok (.invokevirtual 227, 3) := dk_182 0 227 (dk_at dksX0_path_0 12 rfl rfl)
theorem dX0_path_15 : decode cX0_path 15 = .ok (.ifCond .eq 24, 3) := dk_153 0 24 (dk_at dksX0_path_0 15 rfl rfl)
theorem dX0_path_18 : decode cX0_path 18 = .ok (.iload_n 2, 1) := dk_28 (dk_at dksX0_path_0 18 rfl rfl)
theorem dX0_path_19 : decode cX0_path 19 = .ok (.iconst 0, 1) := dk_3 (dk_at dksX0_path_0 19 rfl rfl)
theorem dX0_path_20 : decode cX0_path 20 = .ok (.aload_n 0, 1) := dk_42 (dk_at dksX0_path_0 20 rfl rfl)
theorem dX0_path_21 : decode cX0_path 21 = .ok (.getfield 193, 3) := dk_180 0 193 (dk_at dksX0_path_0 21 rfl rfl)
theorem dX0_path_24 : decode cX0_path 24 = .ok (.iload_n 1, 1) := dk_27 (dk_at dksX0_path_1 0 rfl rfl)
theorem dX0_path_25 : decode cX0_path 25 = .ok (.invokevirtual 285, 3) := dk_182 1 29 (dk_at dksX0_path_1 1 rfl rfl)
theorem dX0_path_28 : decode cX0_path 28 = .ok (.invokevirtual 291, 3) := dk_182 1 35 (dk_at dksX0_path_1 4 rfl rfl)
theorem dX0_path_31 : decode cX0_path 31 = .ok (.iconst 1, 1) := dk_4 (dk_at dksX0_path_1 7 rfl rfl)
theorem dX0_path_32 : decode cX0_path 32 = .ok (.isub, 1) := dk_100 (dk_at dksX0_path_1 8 rfl rfl)
theorem dX0_path_33 : decode cX0_path 33 = .ok (.invokestatic 114, 3) := dk_184 0 114 (dk_at dksX0_path_1 9 rfl rfl)
theorem dX0_path_36 : decode cX0_path 36 = .ok (.ifCond .ne 6, 3) := dk_154 0 6 (dk_at dksX0_path_1 12 rfl rfl)
theorem dX0_path_39 : decode cX0_path 39 = .ok (.bipush (-101), 2) := dk_16 155 (dk_at dksX0_path_1 15 rfl rfl)
theorem dX0_path_41 : decode cX0_path 41 = .ok (.ireturn, 1) := dk_172 (dk_at dksX0_path_1 17 rfl rfl)
theorem dX0_path_42 : decode cX0_path 42 = .ok (.aload_n 0, 1) := dk_42 (dk_at dksX0_path_1 18 rfl rfl)
theorem dX0_path_43 : decode cX0_path 43 = .ok (.getfield 193, 3) := dk_180 0 193 (dk_at dksX0_path_1 19 rfl rfl)
theorem dX0_path_46 : decode cX0_path 46 = .ok (.iload_n 1, 1) := dk_27 (dk_at dksX0_path_1 22 rfl rfl)
theorem dX0_path_47 : decode cX0_path 47 = .ok (.invokevirtual 285, 3) := dk_182 1 29 (dk_at dksX0_path_2 0 rfl rfl)
theorem dX0_path_50 : decode cX0_path 50 = .ok (.iload_n 2, 1) := dk_28 (dk_at dksX0_path_2 3 rfl rfl)
theorem dX0_path_51 : decode cX0_path 51 = .ok (.invokevirtual 331, 3) := dk_182 1 75 (dk_at dksX0_path_2 4 rfl rfl)
theorem dX0_path_54 : decode cX0_path 54 = .ok (.checkcast 176, 3) := dk_192 0 176 (dk_at dksX0_path_2 7 rfl rfl)
theorem dX0_path_57 : decode cX0_path 57 = .ok (.invokevirtual 178, 3) := dk_182 0 178 (dk_at dksX0_path_2 10 rfl rfl)
theorem dX0_path_60 : decode cX0_path 60 = .ok (.ireturn, 1) := dk_172 (dk_at dksX0_path_2 13 rfl rfl)
abbrev cX0_leads : ByteArray := prog_1_method_57_code
def yX0_leads : MethodName := ⟨RX0, "leads", "(I)I"⟩
def dkwX0_leads_1 : List UInt8 := [172]
abbrev dktX0_leads_1 : List UInt8 := dkwX0_leads_1 ++ []
def dkwX0_leads_0 : List UInt8 := [42, 180, 0, 193, 199, 0, 6, 16, 153, 172, 27, 156, 0, 8, 16, 155, 167, 0, 8, 42, 27, 182, 1, 180]
abbrev dktX0_leads_0 : List UInt8 := dkwX0_leads_0 ++ dktX0_leads_1
theorem dksX0_leads_0 : cX0_leads.data.toList.drop 0 = dktX0_leads_0 := by decide +kernel
theorem dksX0_leads_1 : cX0_leads.data.toList.drop 24 = dktX0_leads_1 := dk_seg dksX0_leads_0 24 rfl rfl
theorem dX0_leads_0 : decode cX0_leads 0 = .ok (.aload_n 0, 1) := dk_42 (dk_at dksX0_leads_0 0 rfl rfl)
theorem dX0_leads_1 : decode cX0_leads 1 = .ok (.getfield 193, 3) := dk_180 0 193 (dk_at dksX0_leads_0 1 rfl rfl)
theorem dX0_leads_4 : decode cX0_leads 4 = .ok (.ifnonnull 6, 3) := dk_199 0 6 (dk_at dksX0_leads_0 4 rfl rfl)
theorem dX0_leads_7 : decode cX0_leads 7 = .ok (.bipush (-103), 2) := dk_16 153 (dk_at dksX0_leads_0 7 rfl rfl)
theorem dX0_leads_9 : decode cX0_leads 9 = .ok (.ireturn, 1) := dk_172 (dk_at dksX0_leads_0 9 rfl rfl)
theorem dX0_leads_10 : decode cX0_leads 10 = .ok (.iload_n 1, 1) := dk_27 (dk_at dksX0_leads_0 10 rfl rfl)
theorem dX0_leads_11 : decode cX0_leads 11 = .ok (.ifCond .ge 8, 3) := dk_156 0 8 (dk_at dksX0_leads_0 11 rfl rfl)
theorem dX0_leads_14 : decode cX0_leads 14 = .ok (.bipush (-101), 2) := dk_16 155 (dk_at dksX0_leads_0 14 rfl rfl)
theorem dX0_leads_16 : decode cX0_leads 16 = .ok (.goto 8, 3) := dk_167 0 8 (dk_at dksX0_leads_0 16 rfl rfl)
theorem dX0_leads_19 : decode cX0_leads 19 = .ok (.aload_n 0, 1) := dk_42 (dk_at dksX0_leads_0 19 rfl rfl)
theorem dX0_leads_20 : decode cX0_leads 20 = .ok (.iload_n 1, 1) := dk_27 (dk_at dksX0_leads_0 20 rfl rfl)
theorem dX0_leads_21 : decode cX0_leads 21 = .ok (.invokevirtual 436, 3) := dk_182 1 180 (dk_at dksX0_leads_0 21 rfl rfl)
theorem dX0_leads_24 : decode cX0_leads 24 = .ok (.ireturn, 1) := dk_172 (dk_at dksX0_leads_1 0 rfl rfl)
abbrev cX0_leadsTo : ByteArray := prog_1_method_56_code
def yX0_leadsTo : MethodName := ⟨RX0, "leadsTo", "(I)I"⟩
def dkwX0_leadsTo_5 : List UInt8 := [45, 180, 1, 177, 167, 0, 4, 2, 172]
abbrev dktX0_leadsTo_5 : List UInt8 := dkwX0_leadsTo_5 ++ []
def dkwX0_leadsTo_4 : List UInt8 := [21, 5, 4, 100, 182, 0, 237, 192, 1, 30, 78, 167, 255, 197, 45, 180, 1, 138, 182, 1, 148, 153, 0, 10]
abbrev dktX0_leadsTo_4 : List UInt8 := dkwX0_leadsTo_4 ++ dktX0_leadsTo_5
def dkwX0_leadsTo_3 : List UInt8 := [21, 5, 4, 45, 180, 1, 138, 182, 0, 111, 184, 0, 114, 154, 0, 6, 16, 155, 172, 45, 180, 1, 138]
abbrev dktX0_leadsTo_3 : List UInt8 := dkwX0_leadsTo_3 ++ dktX0_leadsTo_4
def dkwX0_leadsTo_2 : List UInt8 := [185, 0, 91, 1, 0, 153, 0, 55, 25, 4, 185, 0, 97, 1, 0, 192, 0, 176, 182, 0, 178, 54, 5]
abbrev dktX0_leadsTo_2 : List UInt8 := dkwX0_leadsTo_2 ++ dktX0_leadsTo_3
def dkwX0_leadsTo_1 : List UInt8 := [182, 1, 173, 29, 16, 10, 108, 62, 167, 255, 236, 42, 180, 0, 193, 78, 44, 182, 1, 176, 58, 4, 25, 4]
abbrev dktX0_leadsTo_1 : List UInt8 := dkwX0_leadsTo_1 ++ dktX0_leadsTo_2
def dkwX0_leadsTo_0 : List UInt8 := [187, 0, 55, 89, 183, 0, 57, 77, 27, 62, 29, 158, 0, 22, 44, 29, 16, 10, 112, 184, 0, 204]
abbrev dktX0_leadsTo_0 : List UInt8 := dkwX0_leadsTo_0 ++ dktX0_leadsTo_1
theorem dksX0_leadsTo_0 : cX0_leadsTo.data.toList.drop 0 = dktX0_leadsTo_0 := by decide +kernel
theorem dksX0_leadsTo_1 : cX0_leadsTo.data.toList.drop 22 = dktX0_leadsTo_1 := dk_seg dksX0_leadsTo_0 22 rfl rfl
theorem dksX0_leadsTo_2 : cX0_leadsTo.data.toList.drop 46 = dktX0_leadsTo_2 := dk_seg dksX0_leadsTo_1 24 rfl rfl
theorem dksX0_leadsTo_3 : cX0_leadsTo.data.toList.drop 69 = dktX0_leadsTo_3 := dk_seg dksX0_leadsTo_2 23 rfl rfl
theorem dksX0_leadsTo_4 : cX0_leadsTo.data.toList.drop 92 = dktX0_leadsTo_4 := dk_seg dksX0_leadsTo_3 23 rfl rfl
theorem dksX0_leadsTo_5 : cX0_leadsTo.data.toList.drop 116 = dktX0_leadsTo_5 := dk_seg dksX0_leadsTo_4 24 rfl rfl
theorem dX0_leadsTo_0 : decode cX0_leadsTo 0 = .ok (.new 55, 3) := dk_187 0 55 (dk_at dksX0_leadsTo_0 0 rfl rfl)
theorem dX0_leadsTo_3 : decode cX0_leadsTo 3 = .ok (.dup, 1) := dk_89 (dk_at dksX0_leadsTo_0 3 rfl rfl)
theorem dX0_leadsTo_4 : decode cX0_leadsTo 4 = .ok (.invokespecial 57, 3) := dk_183 0 57 (dk_at dksX0_leadsTo_0 4 rfl rfl)
theorem dX0_leadsTo_7 : decode cX0_leadsTo 7 = .ok (.astore_n 2, 1) := dk_77 (dk_at dksX0_leadsTo_0 7 rfl rfl)
theorem dX0_leadsTo_8 : decode cX0_leadsTo 8 = .ok (.iload_n 1, 1) := dk_27 (dk_at dksX0_leadsTo_0 8 rfl rfl)
theorem dX0_leadsTo_9 : decode cX0_leadsTo 9 = .ok (.istore_n 3, 1) := dk_62 (dk_at dksX0_leadsTo_0 9 rfl rfl)
theorem dX0_leadsTo_10 : decode cX0_leadsTo 10 = .ok (.iload_n 3, 1) := dk_29 (dk_at dksX0_leadsTo_0 10 rfl rfl)
theorem dX0_leadsTo_11 : decode cX0_leadsTo 11 = .ok (.ifCond .le 22, 3) := dk_158 0 22 (dk_at dksX0_leadsTo_0 11 rfl rfl)
theorem dX0_leadsTo_14 : decode cX0_leadsTo 14 = .ok (.aload_n 2, 1) := dk_44 (dk_at dksX0_leadsTo_0 14 rfl rfl)
theorem dX0_leadsTo_15 : decode cX0_leadsTo 15 = .ok (.iload_n 3, 1) := dk_29 (dk_at dksX0_leadsTo_0 15 rfl rfl)
theorem dX0_leadsTo_16 : decode cX0_leadsTo 16 = .ok (.bipush 10, 2) := dk_16 10 (dk_at dksX0_leadsTo_0 16 rfl rfl)
theorem dX0_leadsTo_18 : decode cX0_leadsTo 18 = .ok (.irem, 1) := dk_112 (dk_at dksX0_leadsTo_0 18 rfl rfl)
theorem dX0_leadsTo_19 : decode cX0_leadsTo 19 = .ok (.invokestatic 204, 3) := dk_184 0 204 (dk_at dksX0_leadsTo_0 19 rfl rfl)
theorem dX0_leadsTo_22 : decode cX0_leadsTo 22 = .ok (.invokevirtual 429, 3) := dk_182 1 173 (dk_at dksX0_leadsTo_1 0 rfl rfl)
theorem dX0_leadsTo_25 : decode cX0_leadsTo 25 = .ok (.iload_n 3, 1) := dk_29 (dk_at dksX0_leadsTo_1 3 rfl rfl)
theorem dX0_leadsTo_26 : decode cX0_leadsTo 26 = .ok (.bipush 10, 2) := dk_16 10 (dk_at dksX0_leadsTo_1 4 rfl rfl)
theorem dX0_leadsTo_28 : decode cX0_leadsTo 28 = .ok (.idiv, 1) := dk_108 (dk_at dksX0_leadsTo_1 6 rfl rfl)
theorem dX0_leadsTo_29 : decode cX0_leadsTo 29 = .ok (.istore_n 3, 1) := dk_62 (dk_at dksX0_leadsTo_1 7 rfl rfl)
theorem dX0_leadsTo_30 : decode cX0_leadsTo 30 = .ok (.goto (-20), 3) := dk_167 255 236 (dk_at dksX0_leadsTo_1 8 rfl rfl)
theorem dX0_leadsTo_33 : decode cX0_leadsTo 33 = .ok (.aload_n 0, 1) := dk_42 (dk_at dksX0_leadsTo_1 11 rfl rfl)
theorem dX0_leadsTo_34 : decode cX0_leadsTo 34 = .ok (.getfield 193, 3) := dk_180 0 193 (dk_at dksX0_leadsTo_1 12 rfl rfl)
theorem dX0_leadsTo_37 : decode cX0_leadsTo 37 = .ok (.astore_n 3, 1) := dk_78 (dk_at dksX0_leadsTo_1 15 rfl rfl)
theorem dX0_leadsTo_38 : decode cX0_leadsTo 38 = .ok (.aload_n 2, 1) := dk_44 (dk_at dksX0_leadsTo_1 16 rfl rfl)
theorem dX0_leadsTo_39 : decode cX0_leadsTo 39 = .ok (.invokevirtual 432, 3) := dk_182 1 176 (dk_at dksX0_leadsTo_1 17 rfl rfl)
theorem dX0_leadsTo_42 : decode cX0_leadsTo 42 = .ok (.astore 4, 2) := dk_58 4 (dk_at dksX0_leadsTo_1 20 rfl rfl)
theorem dX0_leadsTo_44 : decode cX0_leadsTo 44 = .ok (.aload 4, 2) := dk_25 4 (dk_at dksX0_leadsTo_1 22 rfl rfl)
theorem dX0_leadsTo_46 : decode cX0_leadsTo 46 = .ok (.invokeinterface 91 1, 5) := by decide +kernel
theorem dX0_leadsTo_51 : decode cX0_leadsTo 51 = .ok (.ifCond .eq 55, 3) := dk_153 0 55 (dk_at dksX0_leadsTo_2 5 rfl rfl)
theorem dX0_leadsTo_54 : decode cX0_leadsTo 54 = .ok (.aload 4, 2) := dk_25 4 (dk_at dksX0_leadsTo_2 8 rfl rfl)
theorem dX0_leadsTo_56 : decode cX0_leadsTo 56 = .ok (.invokeinterface 97 1, 5) := by decide +kernel
theorem dX0_leadsTo_61 : decode cX0_leadsTo 61 = .ok (.checkcast 176, 3) := dk_192 0 176 (dk_at dksX0_leadsTo_2 15 rfl rfl)
theorem dX0_leadsTo_64 : decode cX0_leadsTo 64 = .ok (.invokevirtual 178, 3) := dk_182 0 178 (dk_at dksX0_leadsTo_2 18 rfl rfl)
theorem dX0_leadsTo_67 : decode cX0_leadsTo 67 = .ok (.istore 5, 2) := dk_54 5 (dk_at dksX0_leadsTo_2 21 rfl rfl)
theorem dX0_leadsTo_69 : decode cX0_leadsTo 69 = .ok (.iload 5, 2) := dk_21 5 (dk_at dksX0_leadsTo_3 0 rfl rfl)
theorem dX0_leadsTo_71 : decode cX0_leadsTo 71 = .ok (.iconst 1, 1) := dk_4 (dk_at dksX0_leadsTo_3 2 rfl rfl)
theorem dX0_leadsTo_72 : decode cX0_leadsTo 72 = .ok (.aload_n 3, 1) := dk_45 (dk_at dksX0_leadsTo_3 3 rfl rfl)
theorem dX0_leadsTo_73 : decode cX0_leadsTo 73 = .ok (.getfield 394, 3) := dk_180 1 138 (dk_at dksX0_leadsTo_3 4 rfl rfl)
theorem dX0_leadsTo_76 : decode cX0_leadsTo 76 = .ok (.invokevirtual 111, 3) := dk_182 0 111 (dk_at dksX0_leadsTo_3 7 rfl rfl)
theorem dX0_leadsTo_79 : decode cX0_leadsTo 79 = .ok (.invokestatic 114, 3) := dk_184 0 114 (dk_at dksX0_leadsTo_3 10 rfl rfl)
theorem dX0_leadsTo_82 : decode cX0_leadsTo 82 = .ok (.ifCond .ne 6, 3) := dk_154 0 6 (dk_at dksX0_leadsTo_3 13 rfl rfl)
theorem dX0_leadsTo_85 : decode cX0_leadsTo 85 = .ok (.bipush (-101), 2) := dk_16 155 (dk_at dksX0_leadsTo_3 16 rfl rfl)
theorem dX0_leadsTo_87 : decode cX0_leadsTo 87 = .ok (.ireturn, 1) := dk_172 (dk_at dksX0_leadsTo_3 18 rfl rfl)
theorem dX0_leadsTo_88 : decode cX0_leadsTo 88 = .ok (.aload_n 3, 1) := dk_45 (dk_at dksX0_leadsTo_3 19 rfl rfl)
theorem dX0_leadsTo_89 : decode cX0_leadsTo 89 = .ok (.getfield 394, 3) := dk_180 1 138 (dk_at dksX0_leadsTo_3 20 rfl rfl)
theorem dX0_leadsTo_92 : decode cX0_leadsTo 92 = .ok (.iload 5, 2) := dk_21 5 (dk_at dksX0_leadsTo_4 0 rfl rfl)
theorem dX0_leadsTo_94 : decode cX0_leadsTo 94 = .ok (.iconst 1, 1) := dk_4 (dk_at dksX0_leadsTo_4 2 rfl rfl)
theorem dX0_leadsTo_95 : decode cX0_leadsTo 95 = .ok (.isub, 1) := dk_100 (dk_at dksX0_leadsTo_4 3 rfl rfl)
theorem dX0_leadsTo_96 : decode cX0_leadsTo 96 = .ok (.invokevirtual 237, 3) := dk_182 0 237 (dk_at dksX0_leadsTo_4 4 rfl rfl)
theorem dX0_leadsTo_99 : decode cX0_leadsTo 99 = .ok (.checkcast 286, 3) := dk_192 1 30 (dk_at dksX0_leadsTo_4 7 rfl rfl)
theorem dX0_leadsTo_102 : decode cX0_leadsTo 102 = .ok (.astore_n 3, 1) := dk_78 (dk_at dksX0_leadsTo_4 10 rfl rfl)
theorem dX0_leadsTo_103 : decode cX0_leadsTo 103 = .ok (.goto (-59), 3) := dk_167 255 197 (dk_at dksX0_leadsTo_4 11 rfl rfl)
theorem dX0_leadsTo_106 : decode cX0_leadsTo 106 = .ok (.aload_n 3, 1) := dk_45 (dk_at dksX0_leadsTo_4 14 rfl rfl)
theorem dX0_leadsTo_107 : decode cX0_leadsTo 107 = .ok (.getfield 394, 3) := dk_180 1 138 (dk_at dksX0_leadsTo_4 15 rfl rfl)
theorem dX0_leadsTo_110 : decode cX0_leadsTo 110 = .ok (.invokevirtual 404, 3) := dk_182 1 148 (dk_at dksX0_leadsTo_4 18 rfl rfl)
theorem dX0_leadsTo_113 : decode cX0_leadsTo 113 = .ok (.ifCond .eq 10, 3) := dk_153 0 10 (dk_at dksX0_leadsTo_4 21 rfl rfl)
theorem dX0_leadsTo_116 : decode cX0_leadsTo 116 = .ok (.aload_n 3, 1) := dk_45 (dk_at dksX0_leadsTo_5 0 rfl rfl)
theorem dX0_leadsTo_117 : decode cX0_leadsTo 117 = .ok (.getfield 433, 3) := dk_180 1 177 (dk_at dksX0_leadsTo_5 1 rfl rfl)
theorem dX0_leadsTo_120 : decode cX0_leadsTo 120 = .ok (.goto 4, 3) := dk_167 0 4 (dk_at dksX0_leadsTo_5 4 rfl rfl)
theorem dX0_leadsTo_123 : decode cX0_leadsTo 123 = .ok (.iconst (-1), 1) := dk_2 (dk_at dksX0_leadsTo_5 7 rfl rfl)
theorem dX0_leadsTo_124 : decode cX0_leadsTo 124 = .ok (.ireturn, 1) := dk_172 (dk_at dksX0_leadsTo_5 8 rfl rfl)
abbrev cX0_menu : ByteArray := prog_1_method_59_code
def yX0_menu : MethodName := ⟨RX0, "menu", "(I)I"⟩
def dkwX0_menu_1 : List UInt8 := [182, 1, 189, 167, 0, 5, 16, 154, 172]
abbrev dktX0_menu_1 : List UInt8 := dkwX0_menu_1 ++ []
def dkwX0_menu_0 : List UInt8 := [42, 180, 0, 193, 199, 0, 6, 16, 153, 172, 27, 3, 16, 6, 184, 0, 114, 153, 0, 11, 42, 27]
abbrev dktX0_menu_0 : List UInt8 := dkwX0_menu_0 ++ dktX0_menu_1
theorem dksX0_menu_0 : cX0_menu.data.toList.drop 0 = dktX0_menu_0 := by decide +kernel
theorem dksX0_menu_1 : cX0_menu.data.toList.drop 22 = dktX0_menu_1 := dk_seg dksX0_menu_0 22 rfl rfl
theorem dX0_menu_0 : decode cX0_menu 0 = .ok (.aload_n 0, 1) := dk_42 (dk_at dksX0_menu_0 0 rfl rfl)
theorem dX0_menu_1 : decode cX0_menu 1 = .ok (.getfield 193, 3) := dk_180 0 193 (dk_at dksX0_menu_0 1 rfl rfl)
theorem dX0_menu_4 : decode cX0_menu 4 = .ok (.ifnonnull 6, 3) := dk_199 0 6 (dk_at dksX0_menu_0 4 rfl rfl)
theorem dX0_menu_7 : decode cX0_menu 7 = .ok (.bipush (-103), 2) := dk_16 153 (dk_at dksX0_menu_0 7 rfl rfl)
theorem dX0_menu_9 : decode cX0_menu 9 = .ok (.ireturn, 1) := dk_172 (dk_at dksX0_menu_0 9 rfl rfl)
theorem dX0_menu_10 : decode cX0_menu 10 = .ok (.iload_n 1, 1) := dk_27 (dk_at dksX0_menu_0 10 rfl rfl)
theorem dX0_menu_11 : decode cX0_menu 11 = .ok (.iconst 0, 1) := dk_3 (dk_at dksX0_menu_0 11 rfl rfl)
theorem dX0_menu_12 : decode cX0_menu 12 = .ok (.bipush 6, 2) := dk_16 6 (dk_at dksX0_menu_0 12 rfl rfl)
theorem dX0_menu_14 : decode cX0_menu 14 = .ok (.invokestatic 114, 3) := dk_184 0 114 (dk_at dksX0_menu_0 14 rfl rfl)
theorem dX0_menu_17 : decode cX0_menu 17 = .ok (.ifCond .eq 11, 3) := dk_153 0 11 (dk_at dksX0_menu_0 17 rfl rfl)
theorem dX0_menu_20 : decode cX0_menu 20 = .ok (.aload_n 0, 1) := dk_42 (dk_at dksX0_menu_0 20 rfl rfl)
theorem dX0_menu_21 : decode cX0_menu 21 = .ok (.iload_n 1, 1) := dk_27 (dk_at dksX0_menu_0 21 rfl rfl)
theorem dX0_menu_22 : decode cX0_menu 22 = .ok (.invokevirtual 445, 3) := dk_182 1 189 (dk_at dksX0_menu_1 0 rfl rfl)
theorem dX0_menu_25 : decode cX0_menu 25 = .ok (.goto 5, 3) := dk_167 0 5 (dk_at dksX0_menu_1 3 rfl rfl)
theorem dX0_menu_28 : decode cX0_menu 28 = .ok (.bipush (-102), 2) := dk_16 154 (dk_at dksX0_menu_1 6 rfl rfl)
theorem dX0_menu_30 : decode cX0_menu 30 = .ok (.ireturn, 1) := dk_172 (dk_at dksX0_menu_1 8 rfl rfl)
abbrev cX0_menuTold : ByteArray := prog_1_method_58_code
def yX0_menuTold : MethodName := ⟨RX0, "menuTold", "(I)I"⟩
def dkwX0_menuTold_4 : List UInt8 := [182, 0, 111, 172, 42, 180, 1, 156, 172]
abbrev dktX0_menuTold_4 : List UInt8 := dkwX0_menuTold_4 ++ []
def dkwX0_menuTold_3 : List UInt8 := [180, 0, 193, 182, 1, 183, 172, 42, 180, 0, 193, 182, 1, 186, 172, 42, 180, 0, 193, 180, 1, 138]
abbrev dktX0_menuTold_3 : List UInt8 := dkwX0_menuTold_3 ++ dktX0_menuTold_4
def dkwX0_menuTold_2 : List UInt8 := [42, 180, 1, 153, 172, 42, 180, 0, 193, 182, 1, 159, 172, 42, 42, 180, 1, 153, 182, 1, 163, 172, 42]
abbrev dktX0_menuTold_2 : List UInt8 := dkwX0_menuTold_2 ++ dktX0_menuTold_3
def dkwX0_menuTold_1 : List UInt8 := [170, 0, 0, 0, 0, 0, 88, 0, 0, 0, 0, 0, 0, 0, 5, 0, 0, 0, 39, 0, 0, 0, 44, 0, 0, 0, 52, 0, 0, 0, 61, 0, 0, 0, 69, 0, 0, 0, 77]
abbrev dktX0_menuTold_1 : List UInt8 := dkwX0_menuTold_1 ++ dktX0_menuTold_2
def dkwX0_menuTold_0 : List UInt8 := [27]
abbrev dktX0_menuTold_0 : List UInt8 := dkwX0_menuTold_0 ++ dktX0_menuTold_1
theorem dksX0_menuTold_0 : cX0_menuTold.data.toList.drop 0 = dktX0_menuTold_0 := by decide +kernel
theorem dksX0_menuTold_1 : cX0_menuTold.data.toList.drop 1 = dktX0_menuTold_1 := dk_seg dksX0_menuTold_0 1 rfl rfl
theorem dksX0_menuTold_2 : cX0_menuTold.data.toList.drop 40 = dktX0_menuTold_2 := dk_seg dksX0_menuTold_1 39 rfl rfl
theorem dksX0_menuTold_3 : cX0_menuTold.data.toList.drop 63 = dktX0_menuTold_3 := dk_seg dksX0_menuTold_2 23 rfl rfl
theorem dksX0_menuTold_4 : cX0_menuTold.data.toList.drop 85 = dktX0_menuTold_4 := dk_seg dksX0_menuTold_3 22 rfl rfl
theorem dX0_menuTold_0 : decode cX0_menuTold 0 = .ok (.iload_n 1, 1) := dk_27 (dk_at dksX0_menuTold_0 0 rfl rfl)
theorem dX0_menuTold_1 : decode cX0_menuTold 1 = .ok (.tableswitch 88 0 5 #[39, 44, 52, 61, 69, 77], 39) := by decide +kernel
theorem dX0_menuTold_40 : decode cX0_menuTold 40 = .ok (.aload_n 0, 1) := dk_42 (dk_at dksX0_menuTold_2 0 rfl rfl)
theorem dX0_menuTold_41 : decode cX0_menuTold 41 = .ok (.getfield 409, 3) := dk_180 1 153 (dk_at dksX0_menuTold_2 1 rfl rfl)
theorem dX0_menuTold_44 : decode cX0_menuTold 44 = .ok (.ireturn, 1) := dk_172 (dk_at dksX0_menuTold_2 4 rfl rfl)
theorem dX0_menuTold_45 : decode cX0_menuTold 45 = .ok (.aload_n 0, 1) := dk_42 (dk_at dksX0_menuTold_2 5 rfl rfl)
theorem dX0_menuTold_46 : decode cX0_menuTold 46 = .ok (.getfield 193, 3) := dk_180 0 193 (dk_at dksX0_menuTold_2 6 rfl rfl)
theorem dX0_menuTold_49 : decode cX0_menuTold 49 = .ok (.invokevirtual 415, 3) := dk_182 1 159 (dk_at dksX0_menuTold_2 9 rfl rfl)
theorem dX0_menuTold_52 : decode cX0_menuTold 52 = .ok (.ireturn, 1) := dk_172 (dk_at dksX0_menuTold_2 12 rfl rfl)
theorem dX0_menuTold_53 : decode cX0_menuTold 53 = .ok (.aload_n 0, 1) := dk_42 (dk_at dksX0_menuTold_2 13 rfl rfl)
theorem dX0_menuTold_54 : decode cX0_menuTold 54 = .ok (.aload_n 0, 1) := dk_42 (dk_at dksX0_menuTold_2 14 rfl rfl)
theorem dX0_menuTold_55 : decode cX0_menuTold 55 = .ok (.getfield 409, 3) := dk_180 1 153 (dk_at dksX0_menuTold_2 15 rfl rfl)
theorem dX0_menuTold_58 : decode cX0_menuTold 58 = .ok (.invokevirtual 419, 3) := dk_182 1 163 (dk_at dksX0_menuTold_2 18 rfl rfl)
theorem dX0_menuTold_61 : decode cX0_menuTold 61 = .ok (.ireturn, 1) := dk_172 (dk_at dksX0_menuTold_2 21 rfl rfl)
theorem dX0_menuTold_62 : decode cX0_menuTold 62 = .ok (.aload_n 0, 1) := dk_42 (dk_at dksX0_menuTold_2 22 rfl rfl)
theorem dX0_menuTold_63 : decode cX0_menuTold 63 = .ok (.getfield 193, 3) := dk_180 0 193 (dk_at dksX0_menuTold_3 0 rfl rfl)
theorem dX0_menuTold_66 : decode cX0_menuTold 66 = .ok (.invokevirtual 439, 3) := dk_182 1 183 (dk_at dksX0_menuTold_3 3 rfl rfl)
theorem dX0_menuTold_69 : decode cX0_menuTold 69 = .ok (.ireturn, 1) := dk_172 (dk_at dksX0_menuTold_3 6 rfl rfl)
theorem dX0_menuTold_70 : decode cX0_menuTold 70 = .ok (.aload_n 0, 1) := dk_42 (dk_at dksX0_menuTold_3 7 rfl rfl)
theorem dX0_menuTold_71 : decode cX0_menuTold 71 = .ok (.getfield 193, 3) := dk_180 0 193 (dk_at dksX0_menuTold_3 8 rfl rfl)
theorem dX0_menuTold_74 : decode cX0_menuTold 74 = .ok (.invokevirtual 442, 3) := dk_182 1 186 (dk_at dksX0_menuTold_3 11 rfl rfl)
theorem dX0_menuTold_77 : decode cX0_menuTold 77 = .ok (.ireturn, 1) := dk_172 (dk_at dksX0_menuTold_3 14 rfl rfl)
theorem dX0_menuTold_78 : decode cX0_menuTold 78 = .ok (.aload_n 0, 1) := dk_42 (dk_at dksX0_menuTold_3 15 rfl rfl)
theorem dX0_menuTold_79 : decode cX0_menuTold 79 = .ok (.getfield 193, 3) := dk_180 0 193 (dk_at dksX0_menuTold_3 16 rfl rfl)
theorem dX0_menuTold_82 : decode cX0_menuTold 82 = .ok (.getfield 394, 3) := dk_180 1 138 (dk_at dksX0_menuTold_3 19 rfl rfl)
theorem dX0_menuTold_85 : decode cX0_menuTold 85 = .ok (.invokevirtual 111, 3) := dk_182 0 111 (dk_at dksX0_menuTold_4 0 rfl rfl)
theorem dX0_menuTold_88 : decode cX0_menuTold 88 = .ok (.ireturn, 1) := dk_172 (dk_at dksX0_menuTold_4 3 rfl rfl)
theorem dX0_menuTold_89 : decode cX0_menuTold 89 = .ok (.aload_n 0, 1) := dk_42 (dk_at dksX0_menuTold_4 4 rfl rfl)
theorem dX0_menuTold_90 : decode cX0_menuTold 90 = .ok (.getfield 412, 3) := dk_180 1 156 (dk_at dksX0_menuTold_4 5 rfl rfl)
theorem dX0_menuTold_93 : decode cX0_menuTold 93 = .ok (.ireturn, 1) := dk_172 (dk_at dksX0_menuTold_4 8 rfl rfl)
abbrev cX0_count : ByteArray := prog_1_method_61_code
def yX0_count : MethodName := ⟨RX0, "count", "(I)I"⟩
def dkwX0_count_0 : List UInt8 := [42, 27, 182, 1, 192, 172]
abbrev dktX0_count_0 : List UInt8 := dkwX0_count_0 ++ []
theorem dksX0_count_0 : cX0_count.data.toList.drop 0 = dktX0_count_0 := by decide +kernel
theorem dX0_count_0 : decode cX0_count 0 = .ok (.aload_n 0, 1) := dk_42 (dk_at dksX0_count_0 0 rfl rfl)
theorem dX0_count_1 : decode cX0_count 1 = .ok (.iload_n 1, 1) := dk_27 (dk_at dksX0_count_0 1 rfl rfl)
theorem dX0_count_2 : decode cX0_count 2 = .ok (.invokevirtual 448, 3) := dk_182 1 192 (dk_at dksX0_count_0 2 rfl rfl)
theorem dX0_count_5 : decode cX0_count 5 = .ok (.ireturn, 1) := dk_172 (dk_at dksX0_count_0 5 rfl rfl)
abbrev cX0_countOf : ByteArray := prog_1_method_60_code
def yX0_countOf : MethodName := ⟨RX0, "countOf", "(I)I"⟩
def dkwX0_countOf_3 : List UInt8 := [42, 180, 0, 197, 172, 42, 180, 0, 224, 172, 42, 180, 0, 234, 172, 16, 154, 172]
abbrev dktX0_countOf_3 : List UInt8 := dkwX0_countOf_3 ++ []
def dkwX0_countOf_2 : List UInt8 := [42, 180, 0, 18, 182, 0, 111, 172, 42, 180, 0, 51, 182, 0, 118, 172, 42, 180, 0, 58, 182, 1, 35, 172]
abbrev dktX0_countOf_2 : List UInt8 := dkwX0_countOf_2 ++ dktX0_countOf_3
def dkwX0_countOf_1 : List UInt8 := [170, 0, 0, 0, 0, 0, 78, 0, 0, 0, 0, 0, 0, 0, 5, 0, 0, 0, 39, 0, 0, 0, 47, 0, 0, 0, 55, 0, 0, 0, 63, 0, 0, 0, 68, 0, 0, 0, 73]
abbrev dktX0_countOf_1 : List UInt8 := dkwX0_countOf_1 ++ dktX0_countOf_2
def dkwX0_countOf_0 : List UInt8 := [27]
abbrev dktX0_countOf_0 : List UInt8 := dkwX0_countOf_0 ++ dktX0_countOf_1
theorem dksX0_countOf_0 : cX0_countOf.data.toList.drop 0 = dktX0_countOf_0 := by decide +kernel
theorem dksX0_countOf_1 : cX0_countOf.data.toList.drop 1 = dktX0_countOf_1 := dk_seg dksX0_countOf_0 1 rfl rfl
theorem dksX0_countOf_2 : cX0_countOf.data.toList.drop 40 = dktX0_countOf_2 := dk_seg dksX0_countOf_1 39 rfl rfl
theorem dksX0_countOf_3 : cX0_countOf.data.toList.drop 64 = dktX0_countOf_3 := dk_seg dksX0_countOf_2 24 rfl rfl
theorem dX0_countOf_0 : decode cX0_countOf 0 = .ok (.iload_n 1, 1) := dk_27 (dk_at dksX0_countOf_0 0 rfl rfl)
theorem dX0_countOf_1 : decode cX0_countOf 1 = .ok (.tableswitch 78 0 5 #[39, 47, 55, 63, 68, 73], 39) := by decide +kernel
theorem dX0_countOf_40 : decode cX0_countOf 40 = .ok (.aload_n 0, 1) := dk_42 (dk_at dksX0_countOf_2 0 rfl rfl)
theorem dX0_countOf_41 : decode cX0_countOf 41 = .ok (.getfield 18, 3) := dk_180 0 18 (dk_at dksX0_countOf_2 1 rfl rfl)
theorem dX0_countOf_44 : decode cX0_countOf 44 = .ok (.invokevirtual 111, 3) := dk_182 0 111 (dk_at dksX0_countOf_2 4 rfl rfl)
theorem dX0_countOf_47 : decode cX0_countOf 47 = .ok (.ireturn, 1) := dk_172 (dk_at dksX0_countOf_2 7 rfl rfl)
theorem dX0_countOf_48 : decode cX0_countOf 48 = .ok (.aload_n 0, 1) := dk_42 (dk_at dksX0_countOf_2 8 rfl rfl)
theorem dX0_countOf_49 : decode cX0_countOf 49 = .ok (.getfield 51, 3) := dk_180 0 51 (dk_at dksX0_countOf_2 9 rfl rfl)
theorem dX0_countOf_52 : decode cX0_countOf 52 = .ok (.invokevirtual 118, 3) := dk_182 0 118 (dk_at dksX0_countOf_2 12 rfl rfl)
theorem dX0_countOf_55 : decode cX0_countOf 55 = .ok (.ireturn, 1) := dk_172 (dk_at dksX0_countOf_2 15 rfl rfl)
theorem dX0_countOf_56 : decode cX0_countOf 56 = .ok (.aload_n 0, 1) := dk_42 (dk_at dksX0_countOf_2 16 rfl rfl)
theorem dX0_countOf_57 : decode cX0_countOf 57 = .ok (.getfield 58, 3) := dk_180 0 58 (dk_at dksX0_countOf_2 17 rfl rfl)
theorem dX0_countOf_60 : decode cX0_countOf 60 = .ok (.invokevirtual 291, 3) := dk_182 1 35 (dk_at dksX0_countOf_2 20 rfl rfl)
theorem dX0_countOf_63 : decode cX0_countOf 63 = .ok (.ireturn, 1) := dk_172 (dk_at dksX0_countOf_2 23 rfl rfl)
theorem dX0_countOf_64 : decode cX0_countOf 64 = .ok (.aload_n 0, 1) := dk_42 (dk_at dksX0_countOf_3 0 rfl rfl)
theorem dX0_countOf_65 : decode cX0_countOf 65 = .ok (.getfield 197, 3) := dk_180 0 197 (dk_at dksX0_countOf_3 1 rfl rfl)
theorem dX0_countOf_68 : decode cX0_countOf 68 = .ok (.ireturn, 1) := dk_172 (dk_at dksX0_countOf_3 4 rfl rfl)
theorem dX0_countOf_69 : decode cX0_countOf 69 = .ok (.aload_n 0, 1) := dk_42 (dk_at dksX0_countOf_3 5 rfl rfl)
theorem dX0_countOf_70 : decode cX0_countOf 70 = .ok (.getfield 224, 3) := dk_180 0 224 (dk_at dksX0_countOf_3 6 rfl rfl)
theorem dX0_countOf_73 : decode cX0_countOf 73 = .ok (.ireturn, 1) := dk_172 (dk_at dksX0_countOf_3 9 rfl rfl)
theorem dX0_countOf_74 : decode cX0_countOf 74 = .ok (.aload_n 0, 1) := dk_42 (dk_at dksX0_countOf_3 10 rfl rfl)
theorem dX0_countOf_75 : decode cX0_countOf 75 = .ok (.getfield 234, 3) := dk_180 0 234 (dk_at dksX0_countOf_3 11 rfl rfl)
theorem dX0_countOf_78 : decode cX0_countOf 78 = .ok (.ireturn, 1) := dk_172 (dk_at dksX0_countOf_3 14 rfl rfl)
theorem dX0_countOf_79 : decode cX0_countOf 79 = .ok (.bipush (-102), 2) := dk_16 154 (dk_at dksX0_countOf_3 15 rfl rfl)
theorem dX0_countOf_81 : decode cX0_countOf 81 = .ok (.ireturn, 1) := dk_172 (dk_at dksX0_countOf_3 17 rfl rfl)
abbrev cX0_digest : ByteArray := prog_1_method_66_code
def yX0_digest : MethodName := ⟨RX0, "digest", "()J"⟩
def dkwX0_digest_6 : List UInt8 := [31, 173]
abbrev dktX0_digest_6 : List UInt8 := dkwX0_digest_6 ++ []
def dkwX0_digest_5 : List UInt8 := [62, 29, 16, 6, 162, 0, 20, 31, 42, 29, 182, 1, 192, 133, 184, 1, 197, 64, 132, 3, 1, 167, 255, 236]
abbrev dktX0_digest_5 : List UInt8 := dkwX0_digest_5 ++ dktX0_digest_6
def dkwX0_digest_4 : List UInt8 := [162, 0, 23, 31, 42, 180, 0, 51, 29, 182, 0, 203, 133, 184, 1, 197, 64, 132, 3, 1, 167, 255, 228, 3]
abbrev dktX0_digest_4 : List UInt8 := dkwX0_digest_4 ++ dktX0_digest_5
def dkwX0_digest_3 : List UInt8 := [199, 0, 7, 31, 167, 0, 8, 42, 31, 182, 1, 210, 64, 3, 62, 29, 42, 180, 0, 51, 182, 0, 118]
abbrev dktX0_digest_3 : List UInt8 := dkwX0_digest_3 ++ dktX0_digest_4
def dkwX0_digest_2 : List UInt8 := [182, 1, 65, 133, 184, 1, 197, 64, 132, 3, 1, 167, 255, 236, 42, 31, 182, 1, 207, 64, 42, 180, 0, 193]
abbrev dktX0_digest_2 : List UInt8 := dkwX0_digest_2 ++ dktX0_digest_3
def dkwX0_digest_1 : List UInt8 := [132, 3, 1, 167, 255, 235, 42, 31, 182, 1, 203, 64, 3, 62, 29, 16, 7, 162, 0, 20, 31, 42, 29]
abbrev dktX0_digest_1 : List UInt8 := dkwX0_digest_1 ++ dktX0_digest_2
def dkwX0_digest_0 : List UInt8 := [20, 1, 201, 64, 3, 62, 29, 16, 26, 162, 0, 21, 31, 42, 180, 0, 9, 29, 46, 133, 184, 1, 197, 64]
abbrev dktX0_digest_0 : List UInt8 := dkwX0_digest_0 ++ dktX0_digest_1
theorem dksX0_digest_0 : cX0_digest.data.toList.drop 0 = dktX0_digest_0 := by decide +kernel
theorem dksX0_digest_1 : cX0_digest.data.toList.drop 24 = dktX0_digest_1 := dk_seg dksX0_digest_0 24 rfl rfl
theorem dksX0_digest_2 : cX0_digest.data.toList.drop 47 = dktX0_digest_2 := dk_seg dksX0_digest_1 23 rfl rfl
theorem dksX0_digest_3 : cX0_digest.data.toList.drop 71 = dktX0_digest_3 := dk_seg dksX0_digest_2 24 rfl rfl
theorem dksX0_digest_4 : cX0_digest.data.toList.drop 94 = dktX0_digest_4 := dk_seg dksX0_digest_3 23 rfl rfl
theorem dksX0_digest_5 : cX0_digest.data.toList.drop 118 = dktX0_digest_5 := dk_seg dksX0_digest_4 24 rfl rfl
theorem dksX0_digest_6 : cX0_digest.data.toList.drop 142 = dktX0_digest_6 := dk_seg dksX0_digest_5 24 rfl rfl
theorem dX0_digest_0 : decode cX0_digest 0 = .ok (.ldc2_w 457, 3) := dk_20 1 201 (dk_at dksX0_digest_0 0 rfl rfl)
theorem dX0_digest_3 : decode cX0_digest 3 = .ok (.lstore_n 1, 1) := dk_64 (dk_at dksX0_digest_0 3 rfl rfl)
theorem dX0_digest_4 : decode cX0_digest 4 = .ok (.iconst 0, 1) := dk_3 (dk_at dksX0_digest_0 4 rfl rfl)
theorem dX0_digest_5 : decode cX0_digest 5 = .ok (.istore_n 3, 1) := dk_62 (dk_at dksX0_digest_0 5 rfl rfl)
theorem dX0_digest_6 : decode cX0_digest 6 = .ok (.iload_n 3, 1) := dk_29 (dk_at dksX0_digest_0 6 rfl rfl)
theorem dX0_digest_7 : decode cX0_digest 7 = .ok (.bipush 26, 2) := dk_16 26 (dk_at dksX0_digest_0 7 rfl rfl)
theorem dX0_digest_9 : decode cX0_digest 9 = .ok (.if_icmp .ge 21, 3) := dk_162 0 21 (dk_at dksX0_digest_0 9 rfl rfl)
theorem dX0_digest_12 : decode cX0_digest 12 = .ok (.lload_n 1, 1) := dk_31 (dk_at dksX0_digest_0 12 rfl rfl)
theorem dX0_digest_13 : decode cX0_digest 13 = .ok (.aload_n 0, 1) := dk_42 (dk_at dksX0_digest_0 13 rfl rfl)
theorem dX0_digest_14 : decode cX0_digest 14 = .ok (.getfield 9, 3) := dk_180 0 9 (dk_at dksX0_digest_0 14 rfl rfl)
theorem dX0_digest_17 : decode cX0_digest 17 = .ok (.iload_n 3, 1) := dk_29 (dk_at dksX0_digest_0 17 rfl rfl)
theorem dX0_digest_18 : decode cX0_digest 18 = .ok (.iaload, 1) := dk_46 (dk_at dksX0_digest_0 18 rfl rfl)
theorem dX0_digest_19 : decode cX0_digest 19 = .ok (.i2l, 1) := dk_133 (dk_at dksX0_digest_0 19 rfl rfl)
theorem dX0_digest_20 : decode cX0_digest 20 = .ok (.invokestatic 453, 3) := dk_184 1 197 (dk_at dksX0_digest_0 20 rfl rfl)
theorem dX0_digest_23 : decode cX0_digest 23 = .ok (.lstore_n 1, 1) := dk_64 (dk_at dksX0_digest_0 23 rfl rfl)
theorem dX0_digest_24 : decode cX0_digest 24 = .ok (.iinc 3 1, 3) := dk_132 3 1 (dk_at dksX0_digest_1 0 rfl rfl)
theorem dX0_digest_27 : decode cX0_digest 27 = .ok (.goto (-21), 3) := dk_167 255 235 (dk_at dksX0_digest_1 3 rfl rfl)
theorem dX0_digest_30 : decode cX0_digest 30 = .ok (.aload_n 0, 1) := dk_42 (dk_at dksX0_digest_1 6 rfl rfl)
theorem dX0_digest_31 : decode cX0_digest 31 = .ok (.lload_n 1, 1) := dk_31 (dk_at dksX0_digest_1 7 rfl rfl)
theorem dX0_digest_32 : decode cX0_digest 32 = .ok (.invokevirtual 459, 3) := dk_182 1 203 (dk_at dksX0_digest_1 8 rfl rfl)
theorem dX0_digest_35 : decode cX0_digest 35 = .ok (.lstore_n 1, 1) := dk_64 (dk_at dksX0_digest_1 11 rfl rfl)
theorem dX0_digest_36 : decode cX0_digest 36 = .ok (.iconst 0, 1) := dk_3 (dk_at dksX0_digest_1 12 rfl rfl)
theorem dX0_digest_37 : decode cX0_digest 37 = .ok (.istore_n 3, 1) := dk_62 (dk_at dksX0_digest_1 13 rfl rfl)
theorem dX0_digest_38 : decode cX0_digest 38 = .ok (.iload_n 3, 1) := dk_29 (dk_at dksX0_digest_1 14 rfl rfl)
theorem dX0_digest_39 : decode cX0_digest 39 = .ok (.bipush 7, 2) := dk_16 7 (dk_at dksX0_digest_1 15 rfl rfl)
theorem dX0_digest_41 : decode cX0_digest 41 = .ok (.if_icmp .ge 20, 3) := dk_162 0 20 (dk_at dksX0_digest_1 17 rfl rfl)
theorem dX0_digest_44 : decode cX0_digest 44 = .ok (.lload_n 1, 1) := dk_31 (dk_at dksX0_digest_1 20 rfl rfl)
theorem dX0_digest_45 : decode cX0_digest 45 = .ok (.aload_n 0, 1) := dk_42 (dk_at dksX0_digest_1 21 rfl rfl)
theorem dX0_digest_46 : decode cX0_digest 46 = .ok (.iload_n 3, 1) := dk_29 (dk_at dksX0_digest_1 22 rfl rfl)
theorem dX0_digest_47 : decode cX0_digest 47 = .ok (.invokevirtual 321, 3) := dk_182 1 65 (dk_at dksX0_digest_2 0 rfl rfl)
theorem dX0_digest_50 : decode cX0_digest 50 = .ok (.i2l, 1) := dk_133 (dk_at dksX0_digest_2 3 rfl rfl)
theorem dX0_digest_51 : decode cX0_digest 51 = .ok (.invokestatic 453, 3) := dk_184 1 197 (dk_at dksX0_digest_2 4 rfl rfl)
theorem dX0_digest_54 : decode cX0_digest 54 = .ok (.lstore_n 1, 1) := dk_64 (dk_at dksX0_digest_2 7 rfl rfl)
theorem dX0_digest_55 : decode cX0_digest 55 = .ok (.iinc 3 1, 3) := dk_132 3 1 (dk_at dksX0_digest_2 8 rfl rfl)
theorem dX0_digest_58 : decode cX0_digest 58 = .ok (.goto (-20), 3) := dk_167 255 236 (dk_at dksX0_digest_2 11 rfl rfl)
theorem dX0_digest_61 : decode cX0_digest 61 = .ok (.aload_n 0, 1) := dk_42 (dk_at dksX0_digest_2 14 rfl rfl)
theorem dX0_digest_62 : decode cX0_digest 62 = .ok (.lload_n 1, 1) := dk_31 (dk_at dksX0_digest_2 15 rfl rfl)
theorem dX0_digest_63 : decode cX0_digest 63 = .ok (.invokevirtual 463, 3) := dk_182 1 207 (dk_at dksX0_digest_2 16 rfl rfl)
theorem dX0_digest_66 : decode cX0_digest 66 = .ok (.lstore_n 1, 1) := dk_64 (dk_at dksX0_digest_2 19 rfl rfl)
theorem dX0_digest_67 : decode cX0_digest 67 = .ok (.aload_n 0, 1) := dk_42 (dk_at dksX0_digest_2 20 rfl rfl)
theorem dX0_digest_68 : decode cX0_digest 68 = .ok (.getfield 193, 3) := dk_180 0 193 (dk_at dksX0_digest_2 21 rfl rfl)
theorem dX0_digest_71 : decode cX0_digest 71 = .ok (.ifnonnull 7, 3) := dk_199 0 7 (dk_at dksX0_digest_3 0 rfl rfl)
theorem dX0_digest_74 : decode cX0_digest 74 = .ok (.lload_n 1, 1) := dk_31 (dk_at dksX0_digest_3 3 rfl rfl)
theorem dX0_digest_75 : decode cX0_digest 75 = .ok (.goto 8, 3) := dk_167 0 8 (dk_at dksX0_digest_3 4 rfl rfl)
theorem dX0_digest_78 : decode cX0_digest 78 = .ok (.aload_n 0, 1) := dk_42 (dk_at dksX0_digest_3 7 rfl rfl)
theorem dX0_digest_79 : decode cX0_digest 79 = .ok (.lload_n 1, 1) := dk_31 (dk_at dksX0_digest_3 8 rfl rfl)
theorem dX0_digest_80 : decode cX0_digest 80 = .ok (.invokevirtual 466, 3) := dk_182 1 210 (dk_at dksX0_digest_3 9 rfl rfl)
theorem dX0_digest_83 : decode cX0_digest 83 = .ok (.lstore_n 1, 1) := dk_64 (dk_at dksX0_digest_3 12 rfl rfl)
theorem dX0_digest_84 : decode cX0_digest 84 = .ok (.iconst 0, 1) := dk_3 (dk_at dksX0_digest_3 13 rfl rfl)
theorem dX0_digest_85 : decode cX0_digest 85 = .ok (.istore_n 3, 1) := dk_62 (dk_at dksX0_digest_3 14 rfl rfl)
theorem dX0_digest_86 : decode cX0_digest 86 = .ok (.iload_n 3, 1) := dk_29 (dk_at dksX0_digest_3 15 rfl rfl)
theorem dX0_digest_87 : decode cX0_digest 87 = .ok (.aload_n 0, 1) := dk_42 (dk_at dksX0_digest_3 16 rfl rfl)
theorem dX0_digest_88 : decode cX0_digest 88 = .ok (.getfield 51, 3) := dk_180 0 51 (dk_at dksX0_digest_3 17 rfl rfl)
theorem dX0_digest_91 : decode cX0_digest 91 = .ok (.invokevirtual 118, 3) := dk_182 0 118 (dk_at dksX0_digest_3 20 rfl rfl)
theorem dX0_digest_94 : decode cX0_digest 94 = .ok (.if_icmp .ge 23, 3) := dk_162 0 23 (dk_at dksX0_digest_4 0 rfl rfl)
theorem dX0_digest_97 : decode cX0_digest 97 = .ok (.lload_n 1, 1) := dk_31 (dk_at dksX0_digest_4 3 rfl rfl)
theorem dX0_digest_98 : decode cX0_digest 98 = .ok (.aload_n 0, 1) := dk_42 (dk_at dksX0_digest_4 4 rfl rfl)
theorem dX0_digest_99 : decode cX0_digest 99 = .ok (.getfield 51, 3) := dk_180 0 51 (dk_at dksX0_digest_4 5 rfl rfl)
theorem dX0_digest_102 : decode cX0_digest 102 = .ok (.iload_n 3, 1) := dk_29 (dk_at dksX0_digest_4 8 rfl rfl)
theorem dX0_digest_103 : decode cX0_digest 103 = .ok (.invokevirtual 203, 3) := dk_182 0 203 (dk_at dksX0_digest_4 9 rfl rfl)
theorem dX0_digest_106 : decode cX0_digest 106 = .ok (.i2l, 1) := dk_133 (dk_at dksX0_digest_4 12 rfl rfl)
theorem dX0_digest_107 : decode cX0_digest 107 = .ok (.invokestatic 453, 3) := dk_184 1 197 (dk_at dksX0_digest_4 13 rfl rfl)
theorem dX0_digest_110 : decode cX0_digest 110 = .ok (.lstore_n 1, 1) := dk_64 (dk_at dksX0_digest_4 16 rfl rfl)
theorem dX0_digest_111 : decode cX0_digest 111 = .ok (.iinc 3 1, 3) := dk_132 3 1 (dk_at dksX0_digest_4 17 rfl rfl)
theorem dX0_digest_114 : decode cX0_digest 114 = .ok (.goto (-28), 3) := dk_167 255 228 (dk_at dksX0_digest_4 20 rfl rfl)
theorem dX0_digest_117 : decode cX0_digest 117 = .ok (.iconst 0, 1) := dk_3 (dk_at dksX0_digest_4 23 rfl rfl)
theorem dX0_digest_118 : decode cX0_digest 118 = .ok (.istore_n 3, 1) := dk_62 (dk_at dksX0_digest_5 0 rfl rfl)
theorem dX0_digest_119 : decode cX0_digest 119 = .ok (.iload_n 3, 1) := dk_29 (dk_at dksX0_digest_5 1 rfl rfl)
theorem dX0_digest_120 : decode cX0_digest 120 = .ok (.bipush 6, 2) := dk_16 6 (dk_at dksX0_digest_5 2 rfl rfl)
theorem dX0_digest_122 : decode cX0_digest 122 = .ok (.if_icmp .ge 20, 3) := dk_162 0 20 (dk_at dksX0_digest_5 4 rfl rfl)
theorem dX0_digest_125 : decode cX0_digest 125 = .ok (.lload_n 1, 1) := dk_31 (dk_at dksX0_digest_5 7 rfl rfl)
theorem dX0_digest_126 : decode cX0_digest 126 = .ok (.aload_n 0, 1) := dk_42 (dk_at dksX0_digest_5 8 rfl rfl)
theorem dX0_digest_127 : decode cX0_digest 127 = .ok (.iload_n 3, 1) := dk_29 (dk_at dksX0_digest_5 9 rfl rfl)
theorem dX0_digest_128 : decode cX0_digest 128 = .ok (.invokevirtual 448, 3) := dk_182 1 192 (dk_at dksX0_digest_5 10 rfl rfl)
theorem dX0_digest_131 : decode cX0_digest 131 = .ok (.i2l, 1) := dk_133 (dk_at dksX0_digest_5 13 rfl rfl)
theorem dX0_digest_132 : decode cX0_digest 132 = .ok (.invokestatic 453, 3) := dk_184 1 197 (dk_at dksX0_digest_5 14 rfl rfl)
theorem dX0_digest_135 : decode cX0_digest 135 = .ok (.lstore_n 1, 1) := dk_64 (dk_at dksX0_digest_5 17 rfl rfl)
theorem dX0_digest_136 : decode cX0_digest 136 = .ok (.iinc 3 1, 3) := dk_132 3 1 (dk_at dksX0_digest_5 18 rfl rfl)
theorem dX0_digest_139 : decode cX0_digest 139 = .ok (.goto (-20), 3) := dk_167 255 236 (dk_at dksX0_digest_5 21 rfl rfl)
theorem dX0_digest_142 : decode cX0_digest 142 = .ok (.lload_n 1, 1) := dk_31 (dk_at dksX0_digest_6 0 rfl rfl)
theorem dX0_digest_143 : decode cX0_digest 143 = .ok (.lreturn, 1) := dk_173 (dk_at dksX0_digest_6 1 rfl rfl)
abbrev cX0_mixed : ByteArray := prog_1_method_62_code
def yX0_mixed : MethodName := ⟨RX0, "mixed", "(JJ)J"⟩
def dkwX0_mixed_0 : List UInt8 := [20, 1, 195, 30, 105, 32, 97, 173]
abbrev dktX0_mixed_0 : List UInt8 := dkwX0_mixed_0 ++ []
theorem dksX0_mixed_0 : cX0_mixed.data.toList.drop 0 = dktX0_mixed_0 := by decide +kernel
theorem dX0_mixed_0 : decode cX0_mixed 0 = .ok (.ldc2_w 451, 3) := dk_20 1 195 (dk_at dksX0_mixed_0 0 rfl rfl)
theorem dX0_mixed_3 : decode cX0_mixed 3 = .ok (.lload_n 0, 1) := dk_30 (dk_at dksX0_mixed_0 3 rfl rfl)
theorem dX0_mixed_4 : decode cX0_mixed 4 = .ok (.lmul, 1) := dk_105 (dk_at dksX0_mixed_0 4 rfl rfl)
theorem dX0_mixed_5 : decode cX0_mixed 5 = .ok (.lload_n 2, 1) := dk_32 (dk_at dksX0_mixed_0 5 rfl rfl)
theorem dX0_mixed_6 : decode cX0_mixed 6 = .ok (.ladd, 1) := dk_97 (dk_at dksX0_mixed_0 6 rfl rfl)
theorem dX0_mixed_7 : decode cX0_mixed 7 = .ok (.lreturn, 1) := dk_173 (dk_at dksX0_mixed_0 7 rfl rfl)
abbrev cX0_mixedNames : ByteArray := prog_1_method_63_code
def yX0_mixedNames : MethodName := ⟨RX0, "mixedNames", "(J)J"⟩
def dkwX0_mixedNames_5 : List UInt8 := [133, 184, 1, 197, 66, 132, 7, 1, 167, 255, 230, 132, 5, 1, 167, 255, 130, 33, 173]
abbrev dktX0_mixedNames_5 : List UInt8 := dkwX0_mixedNames_5 ++ []
def dkwX0_mixedNames_4 : List UInt8 := [167, 255, 232, 3, 54, 7, 21, 7, 25, 6, 182, 1, 7, 162, 0, 22, 33, 25, 6, 21, 7, 182, 1, 42]
abbrev dktX0_mixedNames_4 : List UInt8 := dkwX0_mixedNames_4 ++ dktX0_mixedNames_5
def dkwX0_mixedNames_3 : List UInt8 := [16, 8, 162, 0, 23, 33, 42, 21, 5, 21, 7, 182, 1, 39, 133, 184, 1, 197, 66, 132, 7, 1]
abbrev dktX0_mixedNames_3 : List UInt8 := dkwX0_mixedNames_3 ++ dktX0_mixedNames_4
def dkwX0_mixedNames_2 : List UInt8 := [180, 0, 142, 21, 7, 182, 0, 107, 133, 184, 1, 197, 66, 132, 7, 1, 167, 255, 227, 3, 54, 7, 21, 7]
abbrev dktX0_mixedNames_2 : List UInt8 := dkwX0_mixedNames_2 ++ dktX0_mixedNames_3
def dkwX0_mixedNames_1 : List UInt8 := [182, 0, 237, 192, 0, 140, 58, 6, 3, 54, 7, 21, 7, 25, 6, 182, 1, 7, 162, 0, 25, 33, 25, 6]
abbrev dktX0_mixedNames_1 : List UInt8 := dkwX0_mixedNames_1 ++ dktX0_mixedNames_2
def dkwX0_mixedNames_0 : List UInt8 := [31, 66, 3, 54, 5, 21, 5, 42, 180, 0, 18, 182, 0, 111, 162, 0, 120, 42, 180, 0, 18, 21, 5]
abbrev dktX0_mixedNames_0 : List UInt8 := dkwX0_mixedNames_0 ++ dktX0_mixedNames_1
theorem dksX0_mixedNames_0 : cX0_mixedNames.data.toList.drop 0 = dktX0_mixedNames_0 := by decide +kernel
theorem dksX0_mixedNames_1 : cX0_mixedNames.data.toList.drop 23 = dktX0_mixedNames_1 := dk_seg dksX0_mixedNames_0 23 rfl rfl
theorem dksX0_mixedNames_2 : cX0_mixedNames.data.toList.drop 47 = dktX0_mixedNames_2 := dk_seg dksX0_mixedNames_1 24 rfl rfl
theorem dksX0_mixedNames_3 : cX0_mixedNames.data.toList.drop 71 = dktX0_mixedNames_3 := dk_seg dksX0_mixedNames_2 24 rfl rfl
theorem dksX0_mixedNames_4 : cX0_mixedNames.data.toList.drop 93 = dktX0_mixedNames_4 := dk_seg dksX0_mixedNames_3 22 rfl rfl
theorem dksX0_mixedNames_5 : cX0_mixedNames.data.toList.drop 117 = dktX0_mixedNames_5 := dk_seg dksX0_mixedNames_4 24 rfl rfl
theorem dX0_mixedNames_0 : decode cX0_mixedNames 0 = .ok (.lload_n 1, 1) := dk_31 (dk_at dksX0_mixedNames_0 0 rfl rfl)
theorem dX0_mixedNames_1 : decode cX0_mixedNames 1 = .ok (.lstore_n 3, 1) := dk_66 (dk_at dksX0_mixedNames_0 1 rfl rfl)
theorem dX0_mixedNames_2 : decode cX0_mixedNames 2 = .ok (.iconst 0, 1) := dk_3 (dk_at dksX0_mixedNames_0 2 rfl rfl)
theorem dX0_mixedNames_3 : decode cX0_mixedNames 3 = .ok (.istore 5, 2) := dk_54 5 (dk_at dksX0_mixedNames_0 3 rfl rfl)
theorem dX0_mixedNames_5 : decode cX0_mixedNames 5 = .ok (.iload 5, 2) := dk_21 5 (dk_at dksX0_mixedNames_0 5 rfl rfl)
theorem dX0_mixedNames_7 : decode cX0_mixedNames 7 = .ok (.aload_n 0, 1) := dk_42 (dk_at dksX0_mixedNames_0 7 rfl rfl)
theorem dX0_mixedNames_8 : decode cX0_mixedNames 8 = .ok (.getfield 18, 3) := dk_180 0 18 (dk_at dksX0_mixedNames_0 8 rfl rfl)
theorem dX0_mixedNames_11 : decode cX0_mixedNames 11 = .ok (.invokevirtual 111, 3) := dk_182 0 111 (dk_at dksX0_mixedNames_0 11 rfl rfl)
theorem dX0_mixedNames_14 : decode cX0_mixedNames 14 = .ok (.if_icmp .ge 120, 3) := dk_162 0 120 (dk_at dksX0_mixedNames_0 14 rfl rfl)
theorem dX0_mixedNames_17 : decode cX0_mixedNames 17 = .ok (.aload_n 0, 1) := dk_42 (dk_at dksX0_mixedNames_0 17 rfl rfl)
theorem dX0_mixedNames_18 : decode cX0_mixedNames 18 = .ok (.getfield 18, 3) := dk_180 0 18 (dk_at dksX0_mixedNames_0 18 rfl rfl)
theorem dX0_mixedNames_21 : decode cX0_mixedNames 21 = .ok (.iload 5, 2) := dk_21 5 (dk_at dksX0_mixedNames_0 21 rfl rfl)
theorem dX0_mixedNames_23 : decode cX0_mixedNames 23 = .ok (.invokevirtual 237, 3) := dk_182 0 237 (dk_at dksX0_mixedNames_1 0 rfl rfl)
theorem dX0_mixedNames_26 : decode cX0_mixedNames 26 = .ok (.checkcast 140, 3) := dk_192 0 140 (dk_at dksX0_mixedNames_1 3 rfl rfl)
theorem dX0_mixedNames_29 : decode cX0_mixedNames 29 = .ok (.astore 6, 2) := dk_58 6 (dk_at dksX0_mixedNames_1 6 rfl rfl)
theorem dX0_mixedNames_31 : decode cX0_mixedNames 31 = .ok (.iconst 0, 1) := dk_3 (dk_at dksX0_mixedNames_1 8 rfl rfl)
theorem dX0_mixedNames_32 : decode cX0_mixedNames 32 = .ok (.istore 7, 2) := dk_54 7 (dk_at dksX0_mixedNames_1 9 rfl rfl)
theorem dX0_mixedNames_34 : decode cX0_mixedNames 34 = .ok (.iload 7, 2) := dk_21 7 (dk_at dksX0_mixedNames_1 11 rfl rfl)
theorem dX0_mixedNames_36 : decode cX0_mixedNames 36 = .ok (.aload 6, 2) := dk_25 6 (dk_at dksX0_mixedNames_1 13 rfl rfl)
theorem dX0_mixedNames_38 : decode cX0_mixedNames 38 = .ok (.invokevirtual 263, 3) := dk_182 1 7 (dk_at dksX0_mixedNames_1 15 rfl rfl)
theorem dX0_mixedNames_41 : decode cX0_mixedNames 41 = .ok (.if_icmp .ge 25, 3) := dk_162 0 25 (dk_at dksX0_mixedNames_1 18 rfl rfl)
theorem dX0_mixedNames_44 : decode cX0_mixedNames 44 = .ok (.lload_n 3, 1) := dk_33 (dk_at dksX0_mixedNames_1 21 rfl rfl)
theorem dX0_mixedNames_45 : decode cX0_mixedNames 45 = .ok (.aload 6, 2) := dk_25 6 (dk_at dksX0_mixedNames_1 22 rfl rfl)
theorem dX0_mixedNames_47 : decode cX0_mixedNames 47 = .ok (.getfield 142, 3) := dk_180 0 142 (dk_at dksX0_mixedNames_2 0 rfl rfl)
theorem dX0_mixedNames_50 : decode cX0_mixedNames 50 = .ok (.iload 7, 2) := dk_21 7 (dk_at dksX0_mixedNames_2 3 rfl rfl)
theorem dX0_mixedNames_52 : decode cX0_mixedNames 52 = .ok (.invokevirtual 107, 3) := dk_182 0 107 (dk_at dksX0_mixedNames_2 5 rfl rfl)
theorem dX0_mixedNames_55 : decode cX0_mixedNames 55 = .ok (.i2l, 1) := dk_133 (dk_at dksX0_mixedNames_2 8 rfl rfl)
theorem dX0_mixedNames_56 : decode cX0_mixedNames 56 = .ok (.invokestatic 453, 3) := dk_184 1 197 (dk_at dksX0_mixedNames_2 9 rfl rfl)
theorem dX0_mixedNames_59 : decode cX0_mixedNames 59 = .ok (.lstore_n 3, 1) := dk_66 (dk_at dksX0_mixedNames_2 12 rfl rfl)
theorem dX0_mixedNames_60 : decode cX0_mixedNames 60 = .ok (.iinc 7 1, 3) := dk_132 7 1 (dk_at dksX0_mixedNames_2 13 rfl rfl)
theorem dX0_mixedNames_63 : decode cX0_mixedNames 63 = .ok (.goto (-29), 3) := dk_167 255 227 (dk_at dksX0_mixedNames_2 16 rfl rfl)
theorem dX0_mixedNames_66 : decode cX0_mixedNames 66 = .ok (.iconst 0, 1) := dk_3 (dk_at dksX0_mixedNames_2 19 rfl rfl)
theorem dX0_mixedNames_67 : decode cX0_mixedNames 67 = .ok (.istore 7, 2) := dk_54 7 (dk_at dksX0_mixedNames_2 20 rfl rfl)
theorem dX0_mixedNames_69 : decode cX0_mixedNames 69 = .ok (.iload 7, 2) := dk_21 7 (dk_at dksX0_mixedNames_2 22 rfl rfl)
theorem dX0_mixedNames_71 : decode cX0_mixedNames 71 = .ok (.bipush 8, 2) := dk_16 8 (dk_at dksX0_mixedNames_3 0 rfl rfl)
theorem dX0_mixedNames_73 : decode cX0_mixedNames 73 = .ok (.if_icmp .ge 23, 3) := dk_162 0 23 (dk_at dksX0_mixedNames_3 2 rfl rfl)
theorem dX0_mixedNames_76 : decode cX0_mixedNames 76 = .ok (.lload_n 3, 1) := dk_33 (dk_at dksX0_mixedNames_3 5 rfl rfl)
theorem dX0_mixedNames_77 : decode cX0_mixedNames 77 = .ok (.aload_n 0, 1) := dk_42 (dk_at dksX0_mixedNames_3 6 rfl rfl)
theorem dX0_mixedNames_78 : decode cX0_mixedNames 78 = .ok (.iload 5, 2) := dk_21 5 (dk_at dksX0_mixedNames_3 7 rfl rfl)
theorem dX0_mixedNames_80 : decode cX0_mixedNames 80 = .ok (.iload 7, 2) := dk_21 7 (dk_at dksX0_mixedNames_3 9 rfl rfl)
theorem dX0_mixedNames_82 : decode cX0_mixedNames 82 = .ok (.invokevirtual 295, 3) := dk_182 1 39 (dk_at dksX0_mixedNames_3 11 rfl rfl)
theorem dX0_mixedNames_85 : decode cX0_mixedNames 85 = .ok (.i2l, 1) := dk_133 (dk_at dksX0_mixedNames_3 14 rfl rfl)
theorem dX0_mixedNames_86 : decode cX0_mixedNames 86 = .ok (.invokestatic 453, 3) := dk_184 1 197 (dk_at dksX0_mixedNames_3 15 rfl rfl)
theorem dX0_mixedNames_89 : decode cX0_mixedNames 89 = .ok (.lstore_n 3, 1) := dk_66 (dk_at dksX0_mixedNames_3 18 rfl rfl)
theorem dX0_mixedNames_90 : decode cX0_mixedNames 90 = .ok (.iinc 7 1, 3) := dk_132 7 1 (dk_at dksX0_mixedNames_3 19 rfl rfl)
theorem dX0_mixedNames_93 : decode cX0_mixedNames 93 = .ok (.goto (-24), 3) := dk_167 255 232 (dk_at dksX0_mixedNames_4 0 rfl rfl)
theorem dX0_mixedNames_96 : decode cX0_mixedNames 96 = .ok (.iconst 0, 1) := dk_3 (dk_at dksX0_mixedNames_4 3 rfl rfl)
theorem dX0_mixedNames_97 : decode cX0_mixedNames 97 = .ok (.istore 7, 2) := dk_54 7 (dk_at dksX0_mixedNames_4 4 rfl rfl)
theorem dX0_mixedNames_99 : decode cX0_mixedNames 99 = .ok (.iload 7, 2) := dk_21 7 (dk_at dksX0_mixedNames_4 6 rfl rfl)
theorem dX0_mixedNames_101 : decode cX0_mixedNames 101 = .ok (.aload 6, 2) := dk_25 6 (dk_at dksX0_mixedNames_4 8 rfl rfl)
theorem dX0_mixedNames_103 : decode cX0_mixedNames 103 = .ok (.invokevirtual 263, 3) := dk_182 1 7 (dk_at dksX0_mixedNames_4 10 rfl rfl)
theorem dX0_mixedNames_106 : decode cX0_mixedNames 106 = .ok (.if_icmp .ge 22, 3) := dk_162 0 22 (dk_at dksX0_mixedNames_4 13 rfl rfl)
theorem dX0_mixedNames_109 : decode cX0_mixedNames 109 = .ok (.lload_n 3, 1) := dk_33 (dk_at dksX0_mixedNames_4 16 rfl rfl)
theorem dX0_mixedNames_110 : decode cX0_mixedNames 110 = .ok (.aload 6, 2) := dk_25 6 (dk_at dksX0_mixedNames_4 17 rfl rfl)
theorem dX0_mixedNames_112 : decode cX0_mixedNames 112 = .ok (.iload 7, 2) := dk_21 7 (dk_at dksX0_mixedNames_4 19 rfl rfl)
theorem dX0_mixedNames_114 : decode cX0_mixedNames 114 = .ok (.invokevirtual 298, 3) := dk_182 1 42 (dk_at dksX0_mixedNames_4 21 rfl rfl)
theorem dX0_mixedNames_117 : decode cX0_mixedNames 117 = .ok (.i2l, 1) := dk_133 (dk_at dksX0_mixedNames_5 0 rfl rfl)
theorem dX0_mixedNames_118 : decode cX0_mixedNames 118 = .ok (.invokestatic 453, 3) := dk_184 1 197 (dk_at dksX0_mixedNames_5 1 rfl rfl)
theorem dX0_mixedNames_121 : decode cX0_mixedNames 121 = .ok (.lstore_n 3, 1) := dk_66 (dk_at dksX0_mixedNames_5 4 rfl rfl)
theorem dX0_mixedNames_122 : decode cX0_mixedNames 122 = .ok (.iinc 7 1, 3) := dk_132 7 1 (dk_at dksX0_mixedNames_5 5 rfl rfl)
theorem dX0_mixedNames_125 : decode cX0_mixedNames 125 = .ok (.goto (-26), 3) := dk_167 255 230 (dk_at dksX0_mixedNames_5 8 rfl rfl)
theorem dX0_mixedNames_128 : decode cX0_mixedNames 128 = .ok (.iinc 5 1, 3) := dk_132 5 1 (dk_at dksX0_mixedNames_5 11 rfl rfl)
theorem dX0_mixedNames_131 : decode cX0_mixedNames 131 = .ok (.goto (-126), 3) := dk_167 255 130 (dk_at dksX0_mixedNames_5 14 rfl rfl)
theorem dX0_mixedNames_134 : decode cX0_mixedNames 134 = .ok (.lload_n 3, 1) := dk_33 (dk_at dksX0_mixedNames_5 17 rfl rfl)
theorem dX0_mixedNames_135 : decode cX0_mixedNames 135 = .ok (.lreturn, 1) := dk_173 (dk_at dksX0_mixedNames_5 18 rfl rfl)
abbrev cX0_mixedTyped : ByteArray := prog_1_method_64_code
def yX0_mixedTyped : MethodName := ⟨RX0, "mixedTyped", "(J)J"⟩
def dkwX0_mixedTyped_6 : List UInt8 := [133, 184, 1, 197, 66, 132, 5, 1, 167, 255, 230, 33, 173]
abbrev dktX0_mixedTyped_6 : List UInt8 := dkwX0_mixedTyped_6 ++ []
def dkwX0_mixedTyped_5 : List UInt8 := [167, 255, 235, 3, 54, 5, 21, 5, 42, 180, 0, 71, 3, 46, 162, 0, 21, 33, 42, 21, 5, 182, 1, 112]
abbrev dktX0_mixedTyped_5 : List UInt8 := dkwX0_mixedTyped_5 ++ dktX0_mixedTyped_6
def dkwX0_mixedTyped_4 : List UInt8 := [3, 54, 5, 21, 5, 7, 162, 0, 21, 33, 42, 21, 5, 182, 1, 109, 133, 184, 1, 197, 66, 132, 5, 1]
abbrev dktX0_mixedTyped_4 : List UInt8 := dkwX0_mixedTyped_4 ++ dktX0_mixedTyped_5
def dkwX0_mixedTyped_3 : List UInt8 := [185, 0, 97, 1, 0, 192, 1, 83, 58, 6, 33, 25, 6, 180, 1, 94, 133, 184, 1, 197, 66, 167, 255, 223]
abbrev dktX0_mixedTyped_3 : List UInt8 := dkwX0_mixedTyped_3 ++ dktX0_mixedTyped_4
def dkwX0_mixedTyped_2 : List UInt8 := [42, 182, 1, 88, 182, 1, 93, 58, 5, 25, 5, 185, 0, 91, 1, 0, 153, 0, 29, 25, 5]
abbrev dktX0_mixedTyped_2 : List UInt8 := dkwX0_mixedTyped_2 ++ dktX0_mixedTyped_3
def dkwX0_mixedTyped_1 : List UInt8 := [185, 0, 97, 1, 0, 192, 0, 176, 182, 0, 178, 54, 6, 33, 21, 6, 133, 184, 1, 197, 66, 167, 255, 223]
abbrev dktX0_mixedTyped_1 : List UInt8 := dkwX0_mixedTyped_1 ++ dktX0_mixedTyped_2
def dkwX0_mixedTyped_0 : List UInt8 := [31, 66, 42, 180, 0, 58, 182, 1, 176, 58, 5, 25, 5, 185, 0, 91, 1, 0, 153, 0, 29, 25, 5]
abbrev dktX0_mixedTyped_0 : List UInt8 := dkwX0_mixedTyped_0 ++ dktX0_mixedTyped_1
theorem dksX0_mixedTyped_0 : cX0_mixedTyped.data.toList.drop 0 = dktX0_mixedTyped_0 := by decide +kernel
theorem dksX0_mixedTyped_1 : cX0_mixedTyped.data.toList.drop 23 = dktX0_mixedTyped_1 := dk_seg dksX0_mixedTyped_0 23 rfl rfl
theorem dksX0_mixedTyped_2 : cX0_mixedTyped.data.toList.drop 47 = dktX0_mixedTyped_2 := dk_seg dksX0_mixedTyped_1 24 rfl rfl
theorem dksX0_mixedTyped_3 : cX0_mixedTyped.data.toList.drop 68 = dktX0_mixedTyped_3 := dk_seg dksX0_mixedTyped_2 21 rfl rfl
theorem dksX0_mixedTyped_4 : cX0_mixedTyped.data.toList.drop 92 = dktX0_mixedTyped_4 := dk_seg dksX0_mixedTyped_3 24 rfl rfl
theorem dksX0_mixedTyped_5 : cX0_mixedTyped.data.toList.drop 116 = dktX0_mixedTyped_5 := dk_seg dksX0_mixedTyped_4 24 rfl rfl
theorem dksX0_mixedTyped_6 : cX0_mixedTyped.data.toList.drop 140 = dktX0_mixedTyped_6 := dk_seg dksX0_mixedTyped_5 24 rfl rfl
theorem dX0_mixedTyped_0 : decode cX0_mixedTyped 0 = .ok (.lload_n 1, 1) := dk_31 (dk_at dksX0_mixedTyped_0 0 rfl rfl)
theorem dX0_mixedTyped_1 : decode cX0_mixedTyped 1 = .ok (.lstore_n 3, 1) := dk_66 (dk_at dksX0_mixedTyped_0 1 rfl rfl)
theorem dX0_mixedTyped_2 : decode cX0_mixedTyped 2 = .ok (.aload_n 0, 1) := dk_42 (dk_at dksX0_mixedTyped_0 2 rfl rfl)
theorem dX0_mixedTyped_3 : decode cX0_mixedTyped 3 = .ok (.getfield 58, 3) := dk_180 0 58 (dk_at dksX0_mixedTyped_0 3 rfl rfl)
theorem dX0_mixedTyped_6 : decode cX0_mixedTyped 6 = .ok (.invokevirtual 432, 3) := dk_182 1 176 (dk_at dksX0_mixedTyped_0 6 rfl rfl)
theorem dX0_mixedTyped_9 : decode cX0_mixedTyped 9 = .ok (.astore 5, 2) := dk_58 5 (dk_at dksX0_mixedTyped_0 9 rfl rfl)
theorem dX0_mixedTyped_11 : decode cX0_mixedTyped 11 = .ok (.aload 5, 2) := dk_25 5 (dk_at dksX0_mixedTyped_0 11 rfl rfl)
theorem dX0_mixedTyped_13 : decode cX0_mixedTyped 13 = .ok (.invokeinterface 91 1, 5) := by decide +kernel
theorem dX0_mixedTyped_18 : decode cX0_mixedTyped 18 = .ok (.ifCond .eq 29, 3) := dk_153 0 29 (dk_at dksX0_mixedTyped_0 18 rfl rfl)
theorem dX0_mixedTyped_21 : decode cX0_mixedTyped 21 = .ok (.aload 5, 2) := dk_25 5 (dk_at dksX0_mixedTyped_0 21 rfl rfl)
theorem dX0_mixedTyped_23 : decode cX0_mixedTyped 23 = .ok (.invokeinterface 97 1, 5) := by decide +kernel
theorem dX0_mixedTyped_28 : decode cX0_mixedTyped 28 = .ok (.checkcast 176, 3) := dk_192 0 176 (dk_at dksX0_mixedTyped_1 5 rfl rfl)
theorem dX0_mixedTyped_31 : decode cX0_mixedTyped 31 = .ok (.invokevirtual 178, 3) := dk_182 0 178 (dk_at dksX0_mixedTyped_1 8 rfl rfl)
theorem dX0_mixedTyped_34 : decode cX0_mixedTyped 34 = .ok (.istore 6, 2) := dk_54 6 (dk_at dksX0_mixedTyped_1 11 rfl rfl)
theorem dX0_mixedTyped_36 : decode cX0_mixedTyped 36 = .ok (.lload_n 3, 1) := dk_33 (dk_at dksX0_mixedTyped_1 13 rfl rfl)
theorem dX0_mixedTyped_37 : decode cX0_mixedTyped 37 = .ok (.iload 6, 2) := dk_21 6 (dk_at dksX0_mixedTyped_1 14 rfl rfl)
theorem dX0_mixedTyped_39 : decode cX0_mixedTyped 39 = .ok (.i2l, 1) := dk_133 (dk_at dksX0_mixedTyped_1 16 rfl rfl)
theorem dX0_mixedTyped_40 : decode cX0_mixedTyped 40 = .ok (.invokestatic 453, 3) := dk_184 1 197 (dk_at dksX0_mixedTyped_1 17 rfl rfl)
theorem dX0_mixedTyped_43 : decode cX0_mixedTyped 43 = .ok (.lstore_n 3, 1) := dk_66 (dk_at dksX0_mixedTyped_1 20 rfl rfl)
theorem dX0_mixedTyped_44 : decode cX0_mixedTyped 44 = .ok (.goto (-33), 3) := dk_167 255 223 (dk_at dksX0_mixedTyped_1 21 rfl rfl)
theorem dX0_mixedTyped_47 : decode cX0_mixedTyped 47 = .ok (.aload_n 0, 1) := dk_42 (dk_at dksX0_mixedTyped_2 0 rfl rfl)
theorem dX0_mixedTyped_48 : decode cX0_mixedTyped 48 = .ok (.invokevirtual 344, 3) := dk_182 1 88 (dk_at dksX0_mixedTyped_2 1 rfl rfl)
theorem dX0_mixedTyped_51 : decode cX0_mixedTyped 51 = .ok (.invokevirtual 349, 3) := dk_182 1 93 (dk_at dksX0_mixedTyped_2 4 rfl rfl)
theorem dX0_mixedTyped_54 : decode cX0_mixedTyped 54 = .ok (.astore 5, 2) := dk_58 5 (dk_at dksX0_mixedTyped_2 7 rfl rfl)
theorem dX0_mixedTyped_56 : decode cX0_mixedTyped 56 = .ok (.aload 5, 2) := dk_25 5 (dk_at dksX0_mixedTyped_2 9 rfl rfl)
theorem dX0_mixedTyped_58 : decode cX0_mixedTyped 58 = .ok (.invokeinterface 91 1, 5) := by decide +kernel
theorem dX0_mixedTyped_63 : decode cX0_mixedTyped 63 = .ok (.ifCond .eq 29, 3) := dk_153 0 29 (dk_at dksX0_mixedTyped_2 16 rfl rfl)
theorem dX0_mixedTyped_66 : decode cX0_mixedTyped 66 = .ok (.aload 5, 2) := dk_25 5 (dk_at dksX0_mixedTyped_2 19 rfl rfl)
theorem dX0_mixedTyped_68 : decode cX0_mixedTyped 68 = .ok (.invokeinterface 97 1, 5) := by decide +kernel
theorem dX0_mixedTyped_73 : decode cX0_mixedTyped 73 = .ok (.checkcast 339, 3) := dk_192 1 83 (dk_at dksX0_mixedTyped_3 5 rfl rfl)
theorem dX0_mixedTyped_76 : decode cX0_mixedTyped 76 = .ok (.astore 6, 2) := dk_58 6 (dk_at dksX0_mixedTyped_3 8 rfl rfl)
theorem dX0_mixedTyped_78 : decode cX0_mixedTyped 78 = .ok (.lload_n 3, 1) := dk_33 (dk_at dksX0_mixedTyped_3 10 rfl rfl)
theorem dX0_mixedTyped_79 : decode cX0_mixedTyped 79 = .ok (.aload 6, 2) := dk_25 6 (dk_at dksX0_mixedTyped_3 11 rfl rfl)
theorem dX0_mixedTyped_81 : decode cX0_mixedTyped 81 = .ok (.getfield 350, 3) := dk_180 1 94 (dk_at dksX0_mixedTyped_3 13 rfl rfl)
theorem dX0_mixedTyped_84 : decode cX0_mixedTyped 84 = .ok (.i2l, 1) := dk_133 (dk_at dksX0_mixedTyped_3 16 rfl rfl)
theorem dX0_mixedTyped_85 : decode cX0_mixedTyped 85 = .ok (.invokestatic 453, 3) := dk_184 1 197 (dk_at dksX0_mixedTyped_3 17 rfl rfl)
theorem dX0_mixedTyped_88 : decode cX0_mixedTyped 88 = .ok (.lstore_n 3, 1) := dk_66 (dk_at dksX0_mixedTyped_3 20 rfl rfl)
theorem dX0_mixedTyped_89 : decode cX0_mixedTyped 89 = .ok (.goto (-33), 3) := dk_167 255 223 (dk_at dksX0_mixedTyped_3 21 rfl rfl)
theorem dX0_mixedTyped_92 : decode cX0_mixedTyped 92 = .ok (.iconst 0, 1) := dk_3 (dk_at dksX0_mixedTyped_4 0 rfl rfl)
theorem dX0_mixedTyped_93 : decode cX0_mixedTyped 93 = .ok (.istore 5, 2) := dk_54 5 (dk_at dksX0_mixedTyped_4 1 rfl rfl)
theorem dX0_mixedTyped_95 : decode cX0_mixedTyped 95 = .ok (.iload 5, 2) := dk_21 5 (dk_at dksX0_mixedTyped_4 3 rfl rfl)
theorem dX0_mixedTyped_97 : decode cX0_mixedTyped 97 = .ok (.iconst 4, 1) := dk_7 (dk_at dksX0_mixedTyped_4 5 rfl rfl)
theorem dX0_mixedTyped_98 : decode cX0_mixedTyped 98 = .ok (.if_icmp .ge 21, 3) := dk_162 0 21 (dk_at dksX0_mixedTyped_4 6 rfl rfl)
theorem dX0_mixedTyped_101 : decode cX0_mixedTyped 101 = .ok (.lload_n 3, 1) := dk_33 (dk_at dksX0_mixedTyped_4 9 rfl rfl)
theorem dX0_mixedTyped_102 : decode cX0_mixedTyped 102 = .ok (.aload_n 0, 1) := dk_42 (dk_at dksX0_mixedTyped_4 10 rfl rfl)
theorem dX0_mixedTyped_103 : decode cX0_mixedTyped 103 = .ok (.iload 5, 2) := dk_21 5 (dk_at dksX0_mixedTyped_4 11 rfl rfl)
theorem dX0_mixedTyped_105 : decode cX0_mixedTyped 105 = .ok (.invokevirtual 365, 3) := dk_182 1 109 (dk_at dksX0_mixedTyped_4 13 rfl rfl)
theorem dX0_mixedTyped_108 : decode cX0_mixedTyped 108 = .ok (.i2l, 1) := dk_133 (dk_at dksX0_mixedTyped_4 16 rfl rfl)
theorem dX0_mixedTyped_109 : decode cX0_mixedTyped 109 = .ok (.invokestatic 453, 3) := dk_184 1 197 (dk_at dksX0_mixedTyped_4 17 rfl rfl)
theorem dX0_mixedTyped_112 : decode cX0_mixedTyped 112 = .ok (.lstore_n 3, 1) := dk_66 (dk_at dksX0_mixedTyped_4 20 rfl rfl)
theorem dX0_mixedTyped_113 : decode cX0_mixedTyped 113 = .ok (.iinc 5 1, 3) := dk_132 5 1 (dk_at dksX0_mixedTyped_4 21 rfl rfl)
theorem dX0_mixedTyped_116 : decode cX0_mixedTyped 116 = .ok (.goto (-21), 3) := dk_167 255 235 (dk_at dksX0_mixedTyped_5 0 rfl rfl)
theorem dX0_mixedTyped_119 : decode cX0_mixedTyped 119 = .ok (.iconst 0, 1) := dk_3 (dk_at dksX0_mixedTyped_5 3 rfl rfl)
theorem dX0_mixedTyped_120 : decode cX0_mixedTyped 120 = .ok (.istore 5, 2) := dk_54 5 (dk_at dksX0_mixedTyped_5 4 rfl rfl)
theorem dX0_mixedTyped_122 : decode cX0_mixedTyped 122 = .ok (.iload 5, 2) := dk_21 5 (dk_at dksX0_mixedTyped_5 6 rfl rfl)
theorem dX0_mixedTyped_124 : decode cX0_mixedTyped 124 = .ok (.aload_n 0, 1) := dk_42 (dk_at dksX0_mixedTyped_5 8 rfl rfl)
theorem dX0_mixedTyped_125 : decode cX0_mixedTyped 125 = .ok (.getfield 71, 3) := dk_180 0 71 (dk_at dksX0_mixedTyped_5 9 rfl rfl)
theorem dX0_mixedTyped_128 : decode cX0_mixedTyped 128 = .ok (.iconst 0, 1) := dk_3 (dk_at dksX0_mixedTyped_5 12 rfl rfl)
theorem dX0_mixedTyped_129 : decode cX0_mixedTyped 129 = .ok (.iaload, 1) := dk_46 (dk_at dksX0_mixedTyped_5 13 rfl rfl)
theorem dX0_mixedTyped_130 : decode cX0_mixedTyped 130 = .ok (.if_icmp .ge 21, 3) := dk_162 0 21 (dk_at dksX0_mixedTyped_5 14 rfl rfl)
theorem dX0_mixedTyped_133 : decode cX0_mixedTyped 133 = .ok (.lload_n 3, 1) := dk_33 (dk_at dksX0_mixedTyped_5 17 rfl rfl)
theorem dX0_mixedTyped_134 : decode cX0_mixedTyped 134 = .ok (.aload_n 0, 1) := dk_42 (dk_at dksX0_mixedTyped_5 18 rfl rfl)
theorem dX0_mixedTyped_135 : decode cX0_mixedTyped 135 = .ok (.iload 5, 2) := dk_21 5 (dk_at dksX0_mixedTyped_5 19 rfl rfl)
theorem dX0_mixedTyped_137 : decode cX0_mixedTyped 137 = .ok (.invokevirtual 368, 3) := dk_182 1 112 (dk_at dksX0_mixedTyped_5 21 rfl rfl)
theorem dX0_mixedTyped_140 : decode cX0_mixedTyped 140 = .ok (.i2l, 1) := dk_133 (dk_at dksX0_mixedTyped_6 0 rfl rfl)
theorem dX0_mixedTyped_141 : decode cX0_mixedTyped 141 = .ok (.invokestatic 453, 3) := dk_184 1 197 (dk_at dksX0_mixedTyped_6 1 rfl rfl)
theorem dX0_mixedTyped_144 : decode cX0_mixedTyped 144 = .ok (.lstore_n 3, 1) := dk_66 (dk_at dksX0_mixedTyped_6 4 rfl rfl)
theorem dX0_mixedTyped_145 : decode cX0_mixedTyped 145 = .ok (.iinc 5 1, 3) := dk_132 5 1 (dk_at dksX0_mixedTyped_6 5 rfl rfl)
theorem dX0_mixedTyped_148 : decode cX0_mixedTyped 148 = .ok (.goto (-26), 3) := dk_167 255 230 (dk_at dksX0_mixedTyped_6 8 rfl rfl)
theorem dX0_mixedTyped_151 : decode cX0_mixedTyped 151 = .ok (.lload_n 3, 1) := dk_33 (dk_at dksX0_mixedTyped_6 11 rfl rfl)
theorem dX0_mixedTyped_152 : decode cX0_mixedTyped 152 = .ok (.lreturn, 1) := dk_173 (dk_at dksX0_mixedTyped_6 12 rfl rfl)
abbrev cX0_mixedMenu : ByteArray := prog_1_method_65_code
def yX0_mixedMenu : MethodName := ⟨RX0, "mixedMenu", "(J)J"⟩
def dkwX0_mixedMenu_4 : List UInt8 := [167, 255, 223, 132, 5, 1, 167, 255, 191, 33, 173]
abbrev dktX0_mixedMenu_4 : List UInt8 := dkwX0_mixedMenu_4 ++ []
def dkwX0_mixedMenu_3 : List UInt8 := [25, 6, 185, 0, 97, 1, 0, 192, 0, 176, 182, 0, 178, 54, 7, 33, 21, 7, 133, 184, 1, 197, 66]
abbrev dktX0_mixedMenu_3 : List UInt8 := dkwX0_mixedMenu_3 ++ dktX0_mixedMenu_4
def dkwX0_mixedMenu_2 : List UInt8 := [180, 0, 193, 21, 5, 182, 1, 29, 182, 1, 176, 58, 6, 25, 6, 185, 0, 91, 1, 0, 153, 0, 29]
abbrev dktX0_mixedMenu_2 : List UInt8 := dkwX0_mixedMenu_2 ++ dktX0_mixedMenu_3
def dkwX0_mixedMenu_1 : List UInt8 := [132, 5, 1, 167, 255, 234, 3, 54, 5, 21, 5, 42, 180, 0, 18, 182, 0, 111, 162, 0, 59, 42]
abbrev dktX0_mixedMenu_1 : List UInt8 := dkwX0_mixedMenu_1 ++ dktX0_mixedMenu_2
def dkwX0_mixedMenu_0 : List UInt8 := [31, 66, 3, 54, 5, 21, 5, 16, 7, 162, 0, 21, 33, 42, 21, 5, 182, 1, 189, 133, 184, 1, 197, 66]
abbrev dktX0_mixedMenu_0 : List UInt8 := dkwX0_mixedMenu_0 ++ dktX0_mixedMenu_1
theorem dksX0_mixedMenu_0 : cX0_mixedMenu.data.toList.drop 0 = dktX0_mixedMenu_0 := by decide +kernel
theorem dksX0_mixedMenu_1 : cX0_mixedMenu.data.toList.drop 24 = dktX0_mixedMenu_1 := dk_seg dksX0_mixedMenu_0 24 rfl rfl
theorem dksX0_mixedMenu_2 : cX0_mixedMenu.data.toList.drop 46 = dktX0_mixedMenu_2 := dk_seg dksX0_mixedMenu_1 22 rfl rfl
theorem dksX0_mixedMenu_3 : cX0_mixedMenu.data.toList.drop 69 = dktX0_mixedMenu_3 := dk_seg dksX0_mixedMenu_2 23 rfl rfl
theorem dksX0_mixedMenu_4 : cX0_mixedMenu.data.toList.drop 92 = dktX0_mixedMenu_4 := dk_seg dksX0_mixedMenu_3 23 rfl rfl
theorem dX0_mixedMenu_0 : decode cX0_mixedMenu 0 = .ok (.lload_n 1, 1) := dk_31 (dk_at dksX0_mixedMenu_0 0 rfl rfl)
theorem dX0_mixedMenu_1 : decode cX0_mixedMenu 1 = .ok (.lstore_n 3, 1) := dk_66 (dk_at dksX0_mixedMenu_0 1 rfl rfl)
theorem dX0_mixedMenu_2 : decode cX0_mixedMenu 2 = .ok (.iconst 0, 1) := dk_3 (dk_at dksX0_mixedMenu_0 2 rfl rfl)
theorem dX0_mixedMenu_3 : decode cX0_mixedMenu 3 = .ok (.istore 5, 2) := dk_54 5 (dk_at dksX0_mixedMenu_0 3 rfl rfl)
theorem dX0_mixedMenu_5 : decode cX0_mixedMenu 5 = .ok (.iload 5, 2) := dk_21 5 (dk_at dksX0_mixedMenu_0 5 rfl rfl)
theorem dX0_mixedMenu_7 : decode cX0_mixedMenu 7 = .ok (.bipush 7, 2) := dk_16 7 (dk_at dksX0_mixedMenu_0 7 rfl rfl)
theorem dX0_mixedMenu_9 : decode cX0_mixedMenu 9 = .ok (.if_icmp .ge 21, 3) := dk_162 0 21 (dk_at dksX0_mixedMenu_0 9 rfl rfl)
theorem dX0_mixedMenu_12 : decode cX0_mixedMenu 12 = .ok (.lload_n 3, 1) := dk_33 (dk_at dksX0_mixedMenu_0 12 rfl rfl)
theorem dX0_mixedMenu_13 : decode cX0_mixedMenu 13 = .ok (.aload_n 0, 1) := dk_42 (dk_at dksX0_mixedMenu_0 13 rfl rfl)
theorem dX0_mixedMenu_14 : decode cX0_mixedMenu 14 = .ok (.iload 5, 2) := dk_21 5 (dk_at dksX0_mixedMenu_0 14 rfl rfl)
theorem dX0_mixedMenu_16 : decode cX0_mixedMenu 16 = .ok (.invokevirtual 445, 3) := dk_182 1 189 (dk_at dksX0_mixedMenu_0 16 rfl rfl)
theorem dX0_mixedMenu_19 : decode cX0_mixedMenu 19 = .ok (.i2l, 1) := dk_133 (dk_at dksX0_mixedMenu_0 19 rfl rfl)
theorem dX0_mixedMenu_20 : decode cX0_mixedMenu 20 = .ok (.invokestatic 453, 3) := dk_184 1 197 (dk_at dksX0_mixedMenu_0 20 rfl rfl)
theorem dX0_mixedMenu_23 : decode cX0_mixedMenu 23 = .ok (.lstore_n 3, 1) := dk_66 (dk_at dksX0_mixedMenu_0 23 rfl rfl)
theorem dX0_mixedMenu_24 : decode cX0_mixedMenu 24 = .ok (.iinc 5 1, 3) := dk_132 5 1 (dk_at dksX0_mixedMenu_1 0 rfl rfl)
theorem dX0_mixedMenu_27 : decode cX0_mixedMenu 27 = .ok (.goto (-22), 3) := dk_167 255 234 (dk_at dksX0_mixedMenu_1 3 rfl rfl)
theorem dX0_mixedMenu_30 : decode cX0_mixedMenu 30 = .ok (.iconst 0, 1) := dk_3 (dk_at dksX0_mixedMenu_1 6 rfl rfl)
theorem dX0_mixedMenu_31 : decode cX0_mixedMenu 31 = .ok (.istore 5, 2) := dk_54 5 (dk_at dksX0_mixedMenu_1 7 rfl rfl)
theorem dX0_mixedMenu_33 : decode cX0_mixedMenu 33 = .ok (.iload 5, 2) := dk_21 5 (dk_at dksX0_mixedMenu_1 9 rfl rfl)
theorem dX0_mixedMenu_35 : decode cX0_mixedMenu 35 = .ok (.aload_n 0, 1) := dk_42 (dk_at dksX0_mixedMenu_1 11 rfl rfl)
theorem dX0_mixedMenu_36 : decode cX0_mixedMenu 36 = .ok (.getfield 18, 3) := dk_180 0 18 (dk_at dksX0_mixedMenu_1 12 rfl rfl)
theorem dX0_mixedMenu_39 : decode cX0_mixedMenu 39 = .ok (.invokevirtual 111, 3) := dk_182 0 111 (dk_at dksX0_mixedMenu_1 15 rfl rfl)
theorem dX0_mixedMenu_42 : decode cX0_mixedMenu 42 = .ok (.if_icmp .ge 59, 3) := dk_162 0 59 (dk_at dksX0_mixedMenu_1 18 rfl rfl)
theorem dX0_mixedMenu_45 : decode cX0_mixedMenu 45 = .ok (.aload_n 0, 1) := dk_42 (dk_at dksX0_mixedMenu_1 21 rfl rfl)
theorem dX0_mixedMenu_46 : decode cX0_mixedMenu 46 = .ok (.getfield 193, 3) := dk_180 0 193 (dk_at dksX0_mixedMenu_2 0 rfl rfl)
theorem dX0_mixedMenu_49 : decode cX0_mixedMenu 49 = .ok (.iload 5, 2) := dk_21 5 (dk_at dksX0_mixedMenu_2 3 rfl rfl)
theorem dX0_mixedMenu_51 : decode cX0_mixedMenu 51 = .ok (.invokevirtual 285, 3) := dk_182 1 29 (dk_at dksX0_mixedMenu_2 5 rfl rfl)
theorem dX0_mixedMenu_54 : decode cX0_mixedMenu 54 = .ok (.invokevirtual 432, 3) := dk_182 1 176 (dk_at dksX0_mixedMenu_2 8 rfl rfl)
theorem dX0_mixedMenu_57 : decode cX0_mixedMenu 57 = .ok (.astore 6, 2) := dk_58 6 (dk_at dksX0_mixedMenu_2 11 rfl rfl)
theorem dX0_mixedMenu_59 : decode cX0_mixedMenu 59 = .ok (.aload 6, 2) := dk_25 6 (dk_at dksX0_mixedMenu_2 13 rfl rfl)
theorem dX0_mixedMenu_61 : decode cX0_mixedMenu 61 = .ok (.invokeinterface 91 1, 5) := by decide +kernel
theorem dX0_mixedMenu_66 : decode cX0_mixedMenu 66 = .ok (.ifCond .eq 29, 3) := dk_153 0 29 (dk_at dksX0_mixedMenu_2 20 rfl rfl)
theorem dX0_mixedMenu_69 : decode cX0_mixedMenu 69 = .ok (.aload 6, 2) := dk_25 6 (dk_at dksX0_mixedMenu_3 0 rfl rfl)
theorem dX0_mixedMenu_71 : decode cX0_mixedMenu 71 = .ok (.invokeinterface 97 1, 5) := by decide +kernel
theorem dX0_mixedMenu_76 : decode cX0_mixedMenu 76 = .ok (.checkcast 176, 3) := dk_192 0 176 (dk_at dksX0_mixedMenu_3 7 rfl rfl)
theorem dX0_mixedMenu_79 : decode cX0_mixedMenu 79 = .ok (.invokevirtual 178, 3) := dk_182 0 178 (dk_at dksX0_mixedMenu_3 10 rfl rfl)
theorem dX0_mixedMenu_82 : decode cX0_mixedMenu 82 = .ok (.istore 7, 2) := dk_54 7 (dk_at dksX0_mixedMenu_3 13 rfl rfl)
theorem dX0_mixedMenu_84 : decode cX0_mixedMenu 84 = .ok (.lload_n 3, 1) := dk_33 (dk_at dksX0_mixedMenu_3 15 rfl rfl)
theorem dX0_mixedMenu_85 : decode cX0_mixedMenu 85 = .ok (.iload 7, 2) := dk_21 7 (dk_at dksX0_mixedMenu_3 16 rfl rfl)
theorem dX0_mixedMenu_87 : decode cX0_mixedMenu 87 = .ok (.i2l, 1) := dk_133 (dk_at dksX0_mixedMenu_3 18 rfl rfl)
theorem dX0_mixedMenu_88 : decode cX0_mixedMenu 88 = .ok (.invokestatic 453, 3) := dk_184 1 197 (dk_at dksX0_mixedMenu_3 19 rfl rfl)
theorem dX0_mixedMenu_91 : decode cX0_mixedMenu 91 = .ok (.lstore_n 3, 1) := dk_66 (dk_at dksX0_mixedMenu_3 22 rfl rfl)
theorem dX0_mixedMenu_92 : decode cX0_mixedMenu 92 = .ok (.goto (-33), 3) := dk_167 255 223 (dk_at dksX0_mixedMenu_4 0 rfl rfl)
theorem dX0_mixedMenu_95 : decode cX0_mixedMenu 95 = .ok (.iinc 5 1, 3) := dk_132 5 1 (dk_at dksX0_mixedMenu_4 3 rfl rfl)
theorem dX0_mixedMenu_98 : decode cX0_mixedMenu 98 = .ok (.goto (-65), 3) := dk_167 255 191 (dk_at dksX0_mixedMenu_4 6 rfl rfl)
theorem dX0_mixedMenu_101 : decode cX0_mixedMenu 101 = .ok (.lload_n 3, 1) := dk_33 (dk_at dksX0_mixedMenu_4 9 rfl rfl)
theorem dX0_mixedMenu_102 : decode cX0_mixedMenu 102 = .ok (.lreturn, 1) := dk_173 (dk_at dksX0_mixedMenu_4 10 rfl rfl)
theorem q137 : (Jvm.Cond.initialized "DialMenus") ∈ lw_all := lw_g (lw_at lw_m1 1 rfl) rfl
theorem q200 : (Jvm.Cond.instantiable "DialMenus" (18 : Nat)) ∈ lw_all := lw_g (lw_at lw_m1 64 rfl) rfl
theorem q202 : (Jvm.Cond.instanceMethod ({ cls := "DialMenus", name := "<init>", desc := "()V" } : Jvm.MethodName)) ∈ lw_all := lw_g (lw_at lw_m1 66 rfl) rfl
theorem q203 : (Jvm.Cond.code ({ cls := "DialMenus", name := "<init>", desc := "()V" } : Jvm.MethodName) prog_1_method_2_code (5 : Nat) (Option.none : Option Jvm.ClassFile.FieldType)) ∈ lw_all := lw_g (lw_at lw_m1 67 rfl) rfl
theorem q204 : (Jvm.Cond.methodLink "DialMenus" (1 : Nat) ({ cls := "java/lang/Object", name := "<init>", desc := "()V" } : Jvm.MethodName)) ∈ lw_all := lw_g (lw_at lw_m1 68 rfl) rfl
theorem q207 : (Jvm.Cond.classLink "DialMenus" (13 : Nat) "java/util/ArrayList") ∈ lw_all := lw_g (lw_at lw_m1 71 rfl) rfl
theorem q209 : (Jvm.Cond.methodLink "DialMenus" (15 : Nat) ({ cls := "java/util/ArrayList", name := "<init>", desc := "(I)V" } : Jvm.MethodName)) ∈ lw_all := lw_g (lw_at lw_m1 73 rfl) rfl
theorem q244 : (Jvm.Cond.stringRef "DialMenus" (22 : Nat) "abc") ∈ lw_tbl := lw_at lw_m1 108 rfl
theorem q245 : (Jvm.Cond.stringRef "DialMenus" (24 : Nat) "def") ∈ lw_tbl := lw_at lw_m1 109 rfl
theorem q246 : (Jvm.Cond.stringRef "DialMenus" (26 : Nat) "ghi") ∈ lw_tbl := lw_at lw_m1 110 rfl
theorem q247 : (Jvm.Cond.stringRef "DialMenus" (28 : Nat) "jkl") ∈ lw_tbl := lw_at lw_m1 111 rfl
theorem q248 : (Jvm.Cond.stringRef "DialMenus" (30 : Nat) "mno") ∈ lw_tbl := lw_at lw_m1 112 rfl
theorem q249 : (Jvm.Cond.stringRef "DialMenus" (32 : Nat) "pqrs") ∈ lw_tbl := lw_at lw_m1 113 rfl
theorem q250 : (Jvm.Cond.stringRef "DialMenus" (34 : Nat) "tuv") ∈ lw_tbl := lw_at lw_m1 114 rfl
theorem q251 : (Jvm.Cond.stringRef "DialMenus" (36 : Nat) "wxyz") ∈ lw_tbl := lw_at lw_m1 115 rfl
theorem q252 : (Jvm.Cond.methodLink "DialMenus" (38 : Nat) ({ cls := "java/util/List", name := "of", desc := "(Ljava/lang/Object;Ljava/lang/Object;Ljava/lang/Object;Ljava/lang/Object;Ljava/lang/Object;Ljava/lang/Object;Ljava/lang/Object;Ljava/lang/Object;)Ljava/util/List;" } : Jvm.MethodName)) ∈ lw_all := lw_g (lw_at lw_m1 116 rfl) rfl
theorem q264 : (Jvm.Cond.selects "DialMenus" ({ cls := "java/lang/Object", name := "getClass", desc := "()Ljava/lang/Class;" } : Jvm.MethodName) ({ cls := "java/lang/Object", name := "getClass", desc := "()Ljava/lang/Class;" } : Jvm.MethodName)) ∈ lw_all := lw_g (lw_at lw_m1 128 rfl) rfl
theorem q342 : (Jvm.Cond.classLink "DialMenus" (48 : Nat) "java/lang/StringBuilder") ∈ lw_all := lw_g (lw_at lw_m1 206 rfl) rfl
theorem q344 : (Jvm.Cond.methodLink "DialMenus" (50 : Nat) ({ cls := "java/lang/StringBuilder", name := "<init>", desc := "(I)V" } : Jvm.MethodName)) ∈ lw_all := lw_g (lw_at lw_m1 208 rfl) rfl
theorem q374 : (Jvm.Cond.classLink "DialMenus" (55 : Nat) "java/util/LinkedList") ∈ lw_all := lw_g (lw_at lw_m1 238 rfl) rfl
theorem q376 : (Jvm.Cond.methodLink "DialMenus" (57 : Nat) ({ cls := "java/util/LinkedList", name := "<init>", desc := "()V" } : Jvm.MethodName)) ∈ lw_all := lw_g (lw_at lw_m2 0 rfl) rfl
theorem q395 : (Jvm.Cond.classLink "DialMenus" (77 : Nat) "[[I") ∈ lw_all := lw_g (lw_at lw_m2 19 rfl) rfl
theorem q397 : (Jvm.Cond.classLink "DialMenus" (82 : Nat) "[[[I") ∈ lw_all := lw_g (lw_at lw_m2 21 rfl) rfl
theorem q399 : (Jvm.Cond.interfaceEntry "DialMenus" (87 : Nat)) ∈ lw_tbl := lw_at lw_m2 23 rfl
theorem q400 : (Jvm.Cond.methodLink "DialMenus" (87 : Nat) ({ cls := "java/util/List", name := "iterator", desc := "()Ljava/util/Iterator;" } : Jvm.MethodName)) ∈ lw_all := lw_g (lw_at lw_m2 24 rfl) rfl
theorem q543 : (Jvm.Cond.interfaceEntry "DialMenus" (91 : Nat)) ∈ lw_tbl := lw_at lw_m2 167 rfl
theorem q544 : (Jvm.Cond.methodLink "DialMenus" (91 : Nat) ({ cls := "java/util/Iterator", name := "hasNext", desc := "()Z" } : Jvm.MethodName)) ∈ lw_all := lw_g (lw_at lw_m2 168 rfl) rfl
theorem q594 : (Jvm.Cond.interfaceEntry "DialMenus" (97 : Nat)) ∈ lw_tbl := lw_at lw_m2 218 rfl
theorem q595 : (Jvm.Cond.methodLink "DialMenus" (97 : Nat) ({ cls := "java/util/Iterator", name := "next", desc := "()Ljava/lang/Object;" } : Jvm.MethodName)) ∈ lw_all := lw_g (lw_at lw_m2 219 rfl) rfl
theorem q993 : (Jvm.Cond.classLink "DialMenus" (101 : Nat) "java/lang/String") ∈ lw_all := lw_g (lw_at lw_m4 137 rfl) rfl
theorem q994 : (Jvm.Cond.methodLink "DialMenus" (103 : Nat) ({ cls := "java/lang/String", name := "length", desc := "()I" } : Jvm.MethodName)) ∈ lw_all := lw_g (lw_at lw_m4 138 rfl) rfl
theorem q995 : (Jvm.Cond.methodLink "DialMenus" (107 : Nat) ({ cls := "java/lang/String", name := "charAt", desc := "(I)C" } : Jvm.MethodName)) ∈ lw_all := lw_g (lw_at lw_m4 139 rfl) rfl
theorem q1017 : (Jvm.Cond.fieldLink "DialMenus" (9 : Nat) "DialMenus" "digitOf" "[I") ∈ lw_all := lw_g (lw_at lw_m4 161 rfl) rfl
theorem q1019 : (Jvm.Cond.fieldLink "DialMenus" (18 : Nat) "DialMenus" "names" "Ljava/util/ArrayList;") ∈ lw_all := lw_g (lw_at lw_m4 163 rfl) rfl
theorem q1020 : (Jvm.Cond.fieldLink "DialMenus" (197 : Nat) "DialMenus" "lists" "I") ∈ lw_all := lw_g (lw_at lw_m4 164 rfl) rfl
theorem q1021 : (Jvm.Cond.fieldLink "DialMenus" (224 : Nat) "DialMenus" "dials" "I") ∈ lw_all := lw_g (lw_at lw_m4 165 rfl) rfl
theorem q1022 : (Jvm.Cond.fieldLink "DialMenus" (234 : Nat) "DialMenus" "gone" "I") ∈ lw_all := lw_g (lw_at lw_m4 166 rfl) rfl
theorem q1023 : (Jvm.Cond.fieldLink "DialMenus" (44 : Nat) "DialMenus" "first" "Ljava/util/List;") ∈ lw_all := lw_g (lw_at lw_m4 167 rfl) rfl
theorem q1025 : (Jvm.Cond.fieldLink "DialMenus" (51 : Nat) "DialMenus" "page" "Ljava/lang/StringBuilder;") ∈ lw_all := lw_g (lw_at lw_m4 169 rfl) rfl
theorem q1026 : (Jvm.Cond.fieldLink "DialMenus" (58 : Nat) "DialMenus" "typed" "Ljava/util/LinkedList;") ∈ lw_all := lw_g (lw_at lw_m4 170 rfl) rfl
theorem q1027 : (Jvm.Cond.fieldLink "DialMenus" (62 : Nat) "DialMenus" "spellings" "[I") ∈ lw_all := lw_g (lw_at lw_m4 171 rfl) rfl
theorem q1028 : (Jvm.Cond.fieldLink "DialMenus" (65 : Nat) "DialMenus" "fewest" "[I") ∈ lw_all := lw_g (lw_at lw_m4 172 rfl) rfl
theorem q1029 : (Jvm.Cond.fieldLink "DialMenus" (68 : Nat) "DialMenus" "loose" "[I") ∈ lw_all := lw_g (lw_at lw_m4 173 rfl) rfl
theorem q1030 : (Jvm.Cond.fieldLink "DialMenus" (71 : Nat) "DialMenus" "sizes" "[I") ∈ lw_all := lw_g (lw_at lw_m4 174 rfl) rfl
theorem q1031 : (Jvm.Cond.fieldLink "DialMenus" (74 : Nat) "DialMenus" "pieceAt" "[I") ∈ lw_all := lw_g (lw_at lw_m4 175 rfl) rfl
theorem q1032 : (Jvm.Cond.fieldLink "DialMenus" (193 : Nat) "DialMenus" "menu" "LDialMenus$Menu;") ∈ lw_all := lw_g (lw_at lw_m4 176 rfl) rfl
theorem q1033 : (Jvm.Cond.fieldLink "DialMenus" (409 : Nat) "DialMenus" "width" "I") ∈ lw_all := lw_g (lw_at lw_m4 177 rfl) rfl
theorem q1034 : (Jvm.Cond.fieldLink "DialMenus" (412 : Nat) "DialMenus" "builds" "I") ∈ lw_all := lw_g (lw_at lw_m4 178 rfl) rfl
theorem q1035 : (Jvm.Cond.fieldLink "DialMenus" (79 : Nat) "DialMenus" "least" "[[I") ∈ lw_all := lw_g (lw_at lw_m4 179 rfl) rfl
theorem q1036 : (Jvm.Cond.fieldLink "DialMenus" (84 : Nat) "DialMenus" "parted" "[[[I") ∈ lw_all := lw_g (lw_at lw_m4 180 rfl) rfl
theorem q1037 : (Jvm.Cond.laysFinal "DialMenus" "DialMenus" "digitOf" "[I") ∈ lw_all := lw_g (lw_at lw_m4 181 rfl) rfl
theorem q1038 : (Jvm.Cond.soleField "DialMenus" "digitOf") ∈ lw_all := lw_g (lw_at lw_m4 182 rfl) rfl
theorem q1039 : (Jvm.Cond.laysFinal "DialMenus" "DialMenus" "names" "Ljava/util/ArrayList;") ∈ lw_all := lw_g (lw_at lw_m4 183 rfl) rfl
theorem q1040 : (Jvm.Cond.soleField "DialMenus" "names") ∈ lw_all := lw_g (lw_at lw_m4 184 rfl) rfl
theorem q1041 : (Jvm.Cond.lays "DialMenus" "DialMenus" "lists" "I") ∈ lw_all := lw_g (lw_at lw_m4 185 rfl) rfl
theorem q1042 : (Jvm.Cond.soleField "DialMenus" "lists") ∈ lw_all := lw_g (lw_at lw_m4 186 rfl) rfl
theorem q1043 : (Jvm.Cond.lays "DialMenus" "DialMenus" "dials" "I") ∈ lw_all := lw_g (lw_at lw_m4 187 rfl) rfl
theorem q1044 : (Jvm.Cond.soleField "DialMenus" "dials") ∈ lw_all := lw_g (lw_at lw_m4 188 rfl) rfl
theorem q1045 : (Jvm.Cond.lays "DialMenus" "DialMenus" "gone" "I") ∈ lw_all := lw_g (lw_at lw_m4 189 rfl) rfl
theorem q1046 : (Jvm.Cond.soleField "DialMenus" "gone") ∈ lw_all := lw_g (lw_at lw_m4 190 rfl) rfl
theorem q1047 : (Jvm.Cond.laysFinal "DialMenus" "DialMenus" "first" "Ljava/util/List;") ∈ lw_all := lw_g (lw_at lw_m4 191 rfl) rfl
theorem q1048 : (Jvm.Cond.soleField "DialMenus" "first") ∈ lw_all := lw_g (lw_at lw_m4 192 rfl) rfl
theorem q1049 : (Jvm.Cond.laysFinal "DialMenus" "DialMenus" "page" "Ljava/lang/StringBuilder;") ∈ lw_all := lw_g (lw_at lw_m4 193 rfl) rfl
theorem q1050 : (Jvm.Cond.soleField "DialMenus" "page") ∈ lw_all := lw_g (lw_at lw_m4 194 rfl) rfl
theorem q1051 : (Jvm.Cond.laysFinal "DialMenus" "DialMenus" "typed" "Ljava/util/LinkedList;") ∈ lw_all := lw_g (lw_at lw_m4 195 rfl) rfl
theorem q1052 : (Jvm.Cond.soleField "DialMenus" "typed") ∈ lw_all := lw_g (lw_at lw_m4 196 rfl) rfl
theorem q1053 : (Jvm.Cond.laysFinal "DialMenus" "DialMenus" "spellings" "[I") ∈ lw_all := lw_g (lw_at lw_m4 197 rfl) rfl
theorem q1054 : (Jvm.Cond.soleField "DialMenus" "spellings") ∈ lw_all := lw_g (lw_at lw_m4 198 rfl) rfl
theorem q1055 : (Jvm.Cond.laysFinal "DialMenus" "DialMenus" "fewest" "[I") ∈ lw_all := lw_g (lw_at lw_m4 199 rfl) rfl
theorem q1056 : (Jvm.Cond.soleField "DialMenus" "fewest") ∈ lw_all := lw_g (lw_at lw_m4 200 rfl) rfl
theorem q1057 : (Jvm.Cond.laysFinal "DialMenus" "DialMenus" "loose" "[I") ∈ lw_all := lw_g (lw_at lw_m4 201 rfl) rfl
theorem q1058 : (Jvm.Cond.soleField "DialMenus" "loose") ∈ lw_all := lw_g (lw_at lw_m4 202 rfl) rfl
theorem q1059 : (Jvm.Cond.laysFinal "DialMenus" "DialMenus" "sizes" "[I") ∈ lw_all := lw_g (lw_at lw_m4 203 rfl) rfl
theorem q1060 : (Jvm.Cond.soleField "DialMenus" "sizes") ∈ lw_all := lw_g (lw_at lw_m4 204 rfl) rfl
theorem q1061 : (Jvm.Cond.laysFinal "DialMenus" "DialMenus" "pieceAt" "[I") ∈ lw_all := lw_g (lw_at lw_m4 205 rfl) rfl
theorem q1062 : (Jvm.Cond.soleField "DialMenus" "pieceAt") ∈ lw_all := lw_g (lw_at lw_m4 206 rfl) rfl
theorem q1063 : (Jvm.Cond.lays "DialMenus" "DialMenus" "menu" "LDialMenus$Menu;") ∈ lw_all := lw_g (lw_at lw_m4 207 rfl) rfl
theorem q1064 : (Jvm.Cond.soleField "DialMenus" "menu") ∈ lw_all := lw_g (lw_at lw_m4 208 rfl) rfl
theorem q1065 : (Jvm.Cond.lays "DialMenus" "DialMenus" "width" "I") ∈ lw_all := lw_g (lw_at lw_m4 209 rfl) rfl
theorem q1066 : (Jvm.Cond.soleField "DialMenus" "width") ∈ lw_all := lw_g (lw_at lw_m4 210 rfl) rfl
theorem q1067 : (Jvm.Cond.lays "DialMenus" "DialMenus" "builds" "I") ∈ lw_all := lw_g (lw_at lw_m4 211 rfl) rfl
theorem q1068 : (Jvm.Cond.soleField "DialMenus" "builds") ∈ lw_all := lw_g (lw_at lw_m4 212 rfl) rfl
theorem q1069 : (Jvm.Cond.laysFinal "DialMenus" "DialMenus" "least" "[[I") ∈ lw_all := lw_g (lw_at lw_m4 213 rfl) rfl
theorem q1070 : (Jvm.Cond.soleField "DialMenus" "least") ∈ lw_all := lw_g (lw_at lw_m4 214 rfl) rfl
theorem q1071 : (Jvm.Cond.laysFinal "DialMenus" "DialMenus" "parted" "[[[I") ∈ lw_all := lw_g (lw_at lw_m4 215 rfl) rfl
theorem q1072 : (Jvm.Cond.soleField "DialMenus" "parted") ∈ lw_all := lw_g (lw_at lw_m4 216 rfl) rfl
theorem q1073 : (Jvm.Cond.superclass "DialMenus" "java/lang/Object") ∈ lw_all := lw_g (lw_at lw_m4 217 rfl) rfl
theorem q1075 : (Jvm.Cond.instanceMethod ({ cls := "DialMenus", name := "letter", desc := "(I)I" } : Jvm.MethodName)) ∈ lw_all := lw_g (lw_at lw_m4 219 rfl) rfl
theorem q1076 : (Jvm.Cond.selects "DialMenus" ({ cls := "DialMenus", name := "letter", desc := "(I)I" } : Jvm.MethodName) ({ cls := "DialMenus", name := "letter", desc := "(I)I" } : Jvm.MethodName)) ∈ lw_all := lw_g (lw_at lw_m4 220 rfl) rfl
theorem q1077 : (Jvm.Cond.code ({ cls := "DialMenus", name := "letter", desc := "(I)I" } : Jvm.MethodName) prog_1_method_4_code (2 : Nat) (Option.some Jvm.ClassFile.FieldType.int)) ∈ lw_all := lw_g (lw_at lw_m4 221 rfl) rfl
theorem q1078 : (Jvm.Cond.methodLink "DialMenus" (114 : Nat) ({ cls := "DialMenus", name := "in", desc := "(III)Z" } : Jvm.MethodName)) ∈ lw_all := lw_g (lw_at lw_m4 222 rfl) rfl
theorem q1079 : (Jvm.Cond.static ({ cls := "DialMenus", name := "in", desc := "(III)Z" } : Jvm.MethodName)) ∈ lw_all := lw_g (lw_at lw_m4 223 rfl) rfl
theorem q1080 : (Jvm.Cond.code ({ cls := "DialMenus", name := "in", desc := "(III)Z" } : Jvm.MethodName) prog_1_method_1_code (3 : Nat) (Option.some Jvm.ClassFile.FieldType.boolean)) ∈ lw_all := lw_g (lw_at lw_m4 224 rfl) rfl
theorem q1081 : (Jvm.Cond.methodLink "DialMenus" (118 : Nat) ({ cls := "java/lang/StringBuilder", name := "length", desc := "()I" } : Jvm.MethodName)) ∈ lw_all := lw_g (lw_at lw_m4 225 rfl) rfl
theorem q1082 : (Jvm.Cond.methodLink "DialMenus" (119 : Nat) ({ cls := "java/lang/StringBuilder", name := "append", desc := "(C)Ljava/lang/StringBuilder;" } : Jvm.MethodName)) ∈ lw_all := lw_g (lw_at lw_m4 226 rfl) rfl
theorem q1096 : (Jvm.Cond.instanceMethod ({ cls := "DialMenus", name := "blank", desc := "()I" } : Jvm.MethodName)) ∈ lw_all := lw_g (lw_at lw_m5 0 rfl) rfl
theorem q1097 : (Jvm.Cond.selects "DialMenus" ({ cls := "DialMenus", name := "blank", desc := "()I" } : Jvm.MethodName) ({ cls := "DialMenus", name := "blank", desc := "()I" } : Jvm.MethodName)) ∈ lw_all := lw_g (lw_at lw_m5 1 rfl) rfl
theorem q1098 : (Jvm.Cond.code ({ cls := "DialMenus", name := "blank", desc := "()I" } : Jvm.MethodName) prog_1_method_5_code (2 : Nat) (Option.some Jvm.ClassFile.FieldType.int)) ∈ lw_all := lw_g (lw_at lw_m5 2 rfl) rfl
theorem q1099 : (Jvm.Cond.methodLink "DialMenus" (123 : Nat) ({ cls := "java/lang/StringBuilder", name := "setLength", desc := "(I)V" } : Jvm.MethodName)) ∈ lw_all := lw_g (lw_at lw_m5 3 rfl) rfl
theorem q1120 : (Jvm.Cond.instanceMethod ({ cls := "DialMenus", name := "fault", desc := "()I" } : Jvm.MethodName)) ∈ lw_all := lw_g (lw_at lw_m5 24 rfl) rfl
theorem q1121 : (Jvm.Cond.selects "DialMenus" ({ cls := "DialMenus", name := "fault", desc := "()I" } : Jvm.MethodName) ({ cls := "DialMenus", name := "fault", desc := "()I" } : Jvm.MethodName)) ∈ lw_all := lw_g (lw_at lw_m5 25 rfl) rfl
theorem q1122 : (Jvm.Cond.code ({ cls := "DialMenus", name := "fault", desc := "()I" } : Jvm.MethodName) prog_1_method_6_code (1 : Nat) (Option.some Jvm.ClassFile.FieldType.int)) ∈ lw_all := lw_g (lw_at lw_m5 26 rfl) rfl
theorem q1123 : (Jvm.Cond.classLink "DialMenus" (126 : Nat) "DialMenus$Reader") ∈ lw_all := lw_g (lw_at lw_m5 27 rfl) rfl
theorem q1125 : (Jvm.Cond.methodLinkNest "DialMenus" (128 : Nat) ({ cls := "DialMenus$Reader", name := "<init>", desc := "(LDialMenus;)V" } : Jvm.MethodName) "DialMenus") ∈ lw_tbl := lw_at lw_m5 29 rfl
theorem q1164 : (Jvm.Cond.fieldLinkNest "DialMenus" (135 : Nat) "DialMenus$Reader" "place" "I" "DialMenus") ∈ lw_tbl := lw_at lw_m5 68 rfl
theorem q1166 : (Jvm.Cond.fieldLinkNest "DialMenus" (150 : Nat) "DialMenus$Reader" "isGood" "Z" "DialMenus") ∈ lw_tbl := lw_at lw_m5 70 rfl
theorem q1168 : (Jvm.Cond.fieldLinkNest "DialMenus" (154 : Nat) "DialMenus$Reader" "read" "Ljava/util/TreeMap;" "DialMenus") ∈ lw_tbl := lw_at lw_m5 72 rfl
theorem q1179 : (Jvm.Cond.methodLink "DialMenus" (131 : Nat) ({ cls := "DialMenus$Reader", name := "all", desc := "()LDialMenus$Reader;" } : Jvm.MethodName)) ∈ lw_all := lw_g (lw_at lw_m5 83 rfl) rfl
theorem q1571 : (Jvm.Cond.instanceMethod ({ cls := "DialMenus", name := "names", desc := "()I" } : Jvm.MethodName)) ∈ lw_all := lw_g (lw_at lw_m6 235 rfl) rfl
theorem q1572 : (Jvm.Cond.selects "DialMenus" ({ cls := "DialMenus", name := "names", desc := "()I" } : Jvm.MethodName) ({ cls := "DialMenus", name := "names", desc := "()I" } : Jvm.MethodName)) ∈ lw_all := lw_g (lw_at lw_m6 236 rfl) rfl
theorem q1573 : (Jvm.Cond.code ({ cls := "DialMenus", name := "names", desc := "()I" } : Jvm.MethodName) prog_1_method_8_code (5 : Nat) (Option.some Jvm.ClassFile.FieldType.int)) ∈ lw_all := lw_g (lw_at lw_m6 237 rfl) rfl
theorem q1574 : (Jvm.Cond.methodLink "DialMenus" (158 : Nat) ({ cls := "java/util/TreeMap", name := "keySet", desc := "()Ljava/util/Set;" } : Jvm.MethodName)) ∈ lw_all := lw_g (lw_at lw_m6 238 rfl) rfl
theorem q1595 : (Jvm.Cond.interfaceEntry "DialMenus" (164 : Nat)) ∈ lw_tbl := lw_at lw_m7 19 rfl
theorem q1596 : (Jvm.Cond.methodLink "DialMenus" (164 : Nat) ({ cls := "java/util/Set", name := "iterator", desc := "()Ljava/util/Iterator;" } : Jvm.MethodName)) ∈ lw_all := lw_g (lw_at lw_m7 20 rfl) rfl
theorem q1662 : (Jvm.Cond.methodLink "DialMenus" (167 : Nat) ({ cls := "DialMenus", name := "isThere", desc := "(Ljava/lang/String;)Z" } : Jvm.MethodName)) ∈ lw_all := lw_g (lw_at lw_m7 86 rfl) rfl
theorem q1663 : (Jvm.Cond.privateMethod ({ cls := "DialMenus", name := "isThere", desc := "(Ljava/lang/String;)Z" } : Jvm.MethodName)) ∈ lw_tbl := lw_at lw_m7 87 rfl
theorem q1664 : (Jvm.Cond.instanceMethod ({ cls := "DialMenus", name := "isThere", desc := "(Ljava/lang/String;)Z" } : Jvm.MethodName)) ∈ lw_all := lw_g (lw_at lw_m7 88 rfl) rfl
theorem q1665 : (Jvm.Cond.code ({ cls := "DialMenus", name := "isThere", desc := "(Ljava/lang/String;)Z" } : Jvm.MethodName) prog_1_method_7_code (5 : Nat) (Option.some Jvm.ClassFile.FieldType.boolean)) ∈ lw_all := lw_g (lw_at lw_m7 89 rfl) rfl
theorem q1666 : (Jvm.Cond.methodLink "DialMenus" (139 : Nat) ({ cls := "java/util/ArrayList", name := "iterator", desc := "()Ljava/util/Iterator;" } : Jvm.MethodName)) ∈ lw_all := lw_g (lw_at lw_m7 90 rfl) rfl
theorem q1667 : (Jvm.Cond.classLink "DialMenus" (140 : Nat) "DialMenus$Name") ∈ lw_all := lw_g (lw_at lw_m7 91 rfl) rfl
theorem q1668 : (Jvm.Cond.methodLink "DialMenus" (146 : Nat) ({ cls := "java/lang/String", name := "equals", desc := "(Ljava/lang/Object;)Z" } : Jvm.MethodName)) ∈ lw_all := lw_g (lw_at lw_m7 92 rfl) rfl
theorem q1675 : (Jvm.Cond.methodLink "DialMenus" (111 : Nat) ({ cls := "java/util/ArrayList", name := "size", desc := "()I" } : Jvm.MethodName)) ∈ lw_all := lw_g (lw_at lw_m7 99 rfl) rfl
theorem q1676 : (Jvm.Cond.methodLink "DialMenus" (171 : Nat) ({ cls := "java/util/TreeMap", name := "size", desc := "()I" } : Jvm.MethodName)) ∈ lw_all := lw_g (lw_at lw_m7 100 rfl) rfl
theorem q1681 : (Jvm.Cond.methodLink "DialMenus" (172 : Nat) ({ cls := "java/util/TreeMap", name := "get", desc := "(Ljava/lang/Object;)Ljava/lang/Object;" } : Jvm.MethodName)) ∈ lw_all := lw_g (lw_at lw_m7 105 rfl) rfl
theorem q1685 : (Jvm.Cond.classLink "DialMenus" (176 : Nat) "java/lang/Integer") ∈ lw_all := lw_g (lw_at lw_m7 109 rfl) rfl
theorem q1686 : (Jvm.Cond.methodLink "DialMenus" (178 : Nat) ({ cls := "java/lang/Integer", name := "intValue", desc := "()I" } : Jvm.MethodName)) ∈ lw_all := lw_g (lw_at lw_m7 110 rfl) rfl
theorem q1690 : (Jvm.Cond.methodLink "DialMenus" (181 : Nat) ({ cls := "DialMenus$Name", name := "<init>", desc := "(LDialMenus;Ljava/lang/String;I)V" } : Jvm.MethodName)) ∈ lw_all := lw_g (lw_at lw_m7 114 rfl) rfl
theorem q1695 : (Jvm.Cond.fieldLinkNest "DialMenus" (142 : Nat) "DialMenus$Name" "text" "Ljava/lang/String;" "DialMenus") ∈ lw_tbl := lw_at lw_m7 119 rfl
theorem q1697 : (Jvm.Cond.fieldLinkNest "DialMenus" (240 : Nat) "DialMenus$Name" "use" "I" "DialMenus") ∈ lw_tbl := lw_at lw_m7 121 rfl
theorem q1706 : (Jvm.Cond.methodLink "DialMenus" (184 : Nat) ({ cls := "java/util/ArrayList", name := "add", desc := "(Ljava/lang/Object;)Z" } : Jvm.MethodName)) ∈ lw_all := lw_g (lw_at lw_m7 130 rfl) rfl
theorem q1735 : (Jvm.Cond.methodLink "DialMenus" (187 : Nat) ({ cls := "java/util/Collections", name := "sort", desc := "(Ljava/util/List;)V" } : Jvm.MethodName)) ∈ lw_all := lw_g (lw_at lw_m7 159 rfl) rfl
theorem q2022 : (Jvm.Cond.instanceMethod ({ cls := "DialMenus", name := "dial", desc := "()I" } : Jvm.MethodName)) ∈ lw_all := lw_g (lw_at lw_m8 206 rfl) rfl
theorem q2023 : (Jvm.Cond.selects "DialMenus" ({ cls := "DialMenus", name := "dial", desc := "()I" } : Jvm.MethodName) ({ cls := "DialMenus", name := "dial", desc := "()I" } : Jvm.MethodName)) ∈ lw_all := lw_g (lw_at lw_m8 207 rfl) rfl
theorem q2024 : (Jvm.Cond.code ({ cls := "DialMenus", name := "dial", desc := "()I" } : Jvm.MethodName) prog_1_method_10_code (7 : Nat) (Option.some Jvm.ClassFile.FieldType.int)) ∈ lw_all := lw_g (lw_at lw_m8 208 rfl) rfl
theorem q2025 : (Jvm.Cond.methodLink "DialMenus" (213 : Nat) ({ cls := "DialMenus", name := "groups", desc := "()Ljava/util/ArrayDeque;" } : Jvm.MethodName)) ∈ lw_all := lw_g (lw_at lw_m8 209 rfl) rfl
theorem q2026 : (Jvm.Cond.privateMethod ({ cls := "DialMenus", name := "groups", desc := "()Ljava/util/ArrayDeque;" } : Jvm.MethodName)) ∈ lw_tbl := lw_at lw_m8 210 rfl
theorem q2027 : (Jvm.Cond.instanceMethod ({ cls := "DialMenus", name := "groups", desc := "()Ljava/util/ArrayDeque;" } : Jvm.MethodName)) ∈ lw_all := lw_g (lw_at lw_m8 211 rfl) rfl
theorem q2028 : (Jvm.Cond.code ({ cls := "DialMenus", name := "groups", desc := "()Ljava/util/ArrayDeque;" } : Jvm.MethodName) prog_1_method_9_code (7 : Nat) (Option.some (Jvm.ClassFile.FieldType.object "java/util/ArrayDeque"))) ∈ lw_all := lw_g (lw_at lw_m8 212 rfl) rfl
theorem q2029 : (Jvm.Cond.classLink "DialMenus" (200 : Nat) "java/util/ArrayDeque") ∈ lw_all := lw_g (lw_at lw_m8 213 rfl) rfl
theorem q2031 : (Jvm.Cond.methodLink "DialMenus" (202 : Nat) ({ cls := "java/util/ArrayDeque", name := "<init>", desc := "()V" } : Jvm.MethodName)) ∈ lw_all := lw_g (lw_at lw_m8 215 rfl) rfl
theorem q2048 : (Jvm.Cond.methodLink "DialMenus" (203 : Nat) ({ cls := "java/lang/StringBuilder", name := "charAt", desc := "(I)C" } : Jvm.MethodName)) ∈ lw_all := lw_g (lw_at lw_m8 232 rfl) rfl
theorem q2049 : (Jvm.Cond.methodLink "DialMenus" (204 : Nat) ({ cls := "java/lang/Integer", name := "valueOf", desc := "(I)Ljava/lang/Integer;" } : Jvm.MethodName)) ∈ lw_all := lw_g (lw_at lw_m8 233 rfl) rfl
theorem q2050 : (Jvm.Cond.methodLink "DialMenus" (208 : Nat) ({ cls := "java/util/ArrayDeque", name := "addLast", desc := "(Ljava/lang/Object;)V" } : Jvm.MethodName)) ∈ lw_all := lw_g (lw_at lw_m8 234 rfl) rfl
theorem q2067 : (Jvm.Cond.methodLink "DialMenus" (212 : Nat) ({ cls := "java/util/ArrayDeque", name := "size", desc := "()I" } : Jvm.MethodName)) ∈ lw_all := lw_g (lw_at lw_m9 11 rfl) rfl
theorem q2074 : (Jvm.Cond.methodLink "DialMenus" (217 : Nat) ({ cls := "java/util/Collections", name := "max", desc := "(Ljava/util/Collection;)Ljava/lang/Object;" } : Jvm.MethodName)) ∈ lw_all := lw_g (lw_at lw_m9 18 rfl) rfl
theorem q2126 : (Jvm.Cond.methodLink "DialMenus" (221 : Nat) ({ cls := "java/util/ArrayDeque", name := "removeFirst", desc := "()Ljava/lang/Object;" } : Jvm.MethodName)) ∈ lw_all := lw_g (lw_at lw_m9 70 rfl) rfl
theorem q2138 : (Jvm.Cond.instanceMethod ({ cls := "DialMenus", name := "drop", desc := "(I)I" } : Jvm.MethodName)) ∈ lw_all := lw_g (lw_at lw_m9 82 rfl) rfl
theorem q2139 : (Jvm.Cond.selects "DialMenus" ({ cls := "DialMenus", name := "drop", desc := "(I)I" } : Jvm.MethodName) ({ cls := "DialMenus", name := "drop", desc := "(I)I" } : Jvm.MethodName)) ∈ lw_all := lw_g (lw_at lw_m9 83 rfl) rfl
theorem q2140 : (Jvm.Cond.code ({ cls := "DialMenus", name := "drop", desc := "(I)I" } : Jvm.MethodName) prog_1_method_11_code (4 : Nat) (Option.some Jvm.ClassFile.FieldType.int)) ∈ lw_all := lw_g (lw_at lw_m9 84 rfl) rfl
theorem q2141 : (Jvm.Cond.methodLink "DialMenus" (227 : Nat) ({ cls := "DialMenus", name := "isName", desc := "(I)Z" } : Jvm.MethodName)) ∈ lw_all := lw_g (lw_at lw_m9 85 rfl) rfl
theorem q2142 : (Jvm.Cond.privateMethod ({ cls := "DialMenus", name := "isName", desc := "(I)Z" } : Jvm.MethodName)) ∈ lw_tbl := lw_at lw_m9 86 rfl
theorem q2143 : (Jvm.Cond.instanceMethod ({ cls := "DialMenus", name := "isName", desc := "(I)Z" } : Jvm.MethodName)) ∈ lw_all := lw_g (lw_at lw_m9 87 rfl) rfl
theorem q2144 : (Jvm.Cond.code ({ cls := "DialMenus", name := "isName", desc := "(I)Z" } : Jvm.MethodName) prog_1_method_3_code (2 : Nat) (Option.some Jvm.ClassFile.FieldType.boolean)) ∈ lw_all := lw_g (lw_at lw_m9 88 rfl) rfl
theorem q2145 : (Jvm.Cond.interfaceEntry "DialMenus" (231 : Nat)) ∈ lw_tbl := lw_at lw_m9 89 rfl
theorem q2146 : (Jvm.Cond.methodLink "DialMenus" (231 : Nat) ({ cls := "java/util/Iterator", name := "remove", desc := "()V" } : Jvm.MethodName)) ∈ lw_all := lw_g (lw_at lw_m9 90 rfl) rfl
theorem q2232 : (Jvm.Cond.instanceMethod ({ cls := "DialMenus", name := "use", desc := "(II)I" } : Jvm.MethodName)) ∈ lw_all := lw_g (lw_at lw_m9 176 rfl) rfl
theorem q2233 : (Jvm.Cond.selects "DialMenus" ({ cls := "DialMenus", name := "use", desc := "(II)I" } : Jvm.MethodName) ({ cls := "DialMenus", name := "use", desc := "(II)I" } : Jvm.MethodName)) ∈ lw_all := lw_g (lw_at lw_m9 177 rfl) rfl
theorem q2234 : (Jvm.Cond.code ({ cls := "DialMenus", name := "use", desc := "(II)I" } : Jvm.MethodName) prog_1_method_12_code (4 : Nat) (Option.some Jvm.ClassFile.FieldType.int)) ∈ lw_all := lw_g (lw_at lw_m9 178 rfl) rfl
theorem q2235 : (Jvm.Cond.methodLink "DialMenus" (237 : Nat) ({ cls := "java/util/ArrayList", name := "get", desc := "(I)Ljava/lang/Object;" } : Jvm.MethodName)) ∈ lw_all := lw_g (lw_at lw_m9 179 rfl) rfl
theorem q2237 : (Jvm.Cond.instanceMethod ({ cls := "DialMenus", name := "name", desc := "(II)I" } : Jvm.MethodName)) ∈ lw_all := lw_g (lw_at lw_m9 181 rfl) rfl
theorem q2238 : (Jvm.Cond.selects "DialMenus" ({ cls := "DialMenus", name := "name", desc := "(II)I" } : Jvm.MethodName) ({ cls := "DialMenus", name := "name", desc := "(II)I" } : Jvm.MethodName)) ∈ lw_all := lw_g (lw_at lw_m9 182 rfl) rfl
theorem q2239 : (Jvm.Cond.code ({ cls := "DialMenus", name := "name", desc := "(II)I" } : Jvm.MethodName) prog_1_method_18_code (3 : Nat) (Option.some Jvm.ClassFile.FieldType.int)) ∈ lw_all := lw_g (lw_at lw_m9 183 rfl) rfl
theorem q2240 : (Jvm.Cond.methodLink "DialMenus" (295 : Nat) ({ cls := "DialMenus", name := "nameTold", desc := "(II)I" } : Jvm.MethodName)) ∈ lw_all := lw_g (lw_at lw_m9 184 rfl) rfl
theorem q2241 : (Jvm.Cond.privateMethod ({ cls := "DialMenus", name := "nameTold", desc := "(II)I" } : Jvm.MethodName)) ∈ lw_tbl := lw_at lw_m9 185 rfl
theorem q2242 : (Jvm.Cond.instanceMethod ({ cls := "DialMenus", name := "nameTold", desc := "(II)I" } : Jvm.MethodName)) ∈ lw_all := lw_g (lw_at lw_m9 186 rfl) rfl
theorem q2243 : (Jvm.Cond.code ({ cls := "DialMenus", name := "nameTold", desc := "(II)I" } : Jvm.MethodName) prog_1_method_17_code (4 : Nat) (Option.some Jvm.ClassFile.FieldType.int)) ∈ lw_all := lw_g (lw_at lw_m9 187 rfl) rfl
theorem q2244 : (Jvm.Cond.methodLink "DialMenus" (263 : Nat) ({ cls := "DialMenus$Name", name := "length", desc := "()I" } : Jvm.MethodName)) ∈ lw_all := lw_g (lw_at lw_m9 188 rfl) rfl
theorem q2249 : (Jvm.Cond.methodLink "DialMenus" (271 : Nat) ({ cls := "DialMenus", name := "twins", desc := "(I)Ljava/util/BitSet;" } : Jvm.MethodName)) ∈ lw_all := lw_g (lw_at lw_m9 193 rfl) rfl
theorem q2250 : (Jvm.Cond.privateMethod ({ cls := "DialMenus", name := "twins", desc := "(I)Ljava/util/BitSet;" } : Jvm.MethodName)) ∈ lw_tbl := lw_at lw_m9 194 rfl
theorem q2251 : (Jvm.Cond.instanceMethod ({ cls := "DialMenus", name := "twins", desc := "(I)Ljava/util/BitSet;" } : Jvm.MethodName)) ∈ lw_all := lw_g (lw_at lw_m9 195 rfl) rfl
theorem q2252 : (Jvm.Cond.code ({ cls := "DialMenus", name := "twins", desc := "(I)Ljava/util/BitSet;" } : Jvm.MethodName) prog_1_method_13_code (4 : Nat) (Option.some (Jvm.ClassFile.FieldType.object "java/util/BitSet"))) ∈ lw_all := lw_g (lw_at lw_m9 196 rfl) rfl
theorem q2253 : (Jvm.Cond.classLink "DialMenus" (243 : Nat) "java/util/BitSet") ∈ lw_all := lw_g (lw_at lw_m9 197 rfl) rfl
theorem q2255 : (Jvm.Cond.methodLink "DialMenus" (245 : Nat) ({ cls := "java/util/BitSet", name := "<init>", desc := "(I)V" } : Jvm.MethodName)) ∈ lw_all := lw_g (lw_at lw_m9 199 rfl) rfl
theorem q2277 : (Jvm.Cond.methodLink "DialMenus" (246 : Nat) ({ cls := "DialMenus$Name", name := "isTwin", desc := "(LDialMenus$Name;)Z" } : Jvm.MethodName)) ∈ lw_all := lw_g (lw_at lw_m9 221 rfl) rfl
theorem q2291 : (Jvm.Cond.methodLink "DialMenus" (250 : Nat) ({ cls := "java/util/BitSet", name := "set", desc := "(IZ)V" } : Jvm.MethodName)) ∈ lw_all := lw_g (lw_at lw_m9 235 rfl) rfl
theorem q2331 : (Jvm.Cond.methodLink "DialMenus" (275 : Nat) ({ cls := "java/util/BitSet", name := "cardinality", desc := "()I" } : Jvm.MethodName)) ∈ lw_all := lw_g (lw_at lw_m10 35 rfl) rfl
theorem q2341 : (Jvm.Cond.methodLink "DialMenus" (278 : Nat) ({ cls := "DialMenus", name := "telling", desc := "(I)I" } : Jvm.MethodName)) ∈ lw_all := lw_g (lw_at lw_m10 45 rfl) rfl
theorem q2342 : (Jvm.Cond.privateMethod ({ cls := "DialMenus", name := "telling", desc := "(I)I" } : Jvm.MethodName)) ∈ lw_tbl := lw_at lw_m10 46 rfl
theorem q2343 : (Jvm.Cond.instanceMethod ({ cls := "DialMenus", name := "telling", desc := "(I)I" } : Jvm.MethodName)) ∈ lw_all := lw_g (lw_at lw_m10 47 rfl) rfl
theorem q2344 : (Jvm.Cond.code ({ cls := "DialMenus", name := "telling", desc := "(I)I" } : Jvm.MethodName) prog_1_method_14_code (4 : Nat) (Option.some Jvm.ClassFile.FieldType.int)) ∈ lw_all := lw_g (lw_at lw_m10 48 rfl) rfl
theorem q2345 : (Jvm.Cond.methodLink "DialMenus" (254 : Nat) ({ cls := "DialMenus$Name", name := "common", desc := "(LDialMenus$Name;)I" } : Jvm.MethodName)) ∈ lw_all := lw_g (lw_at lw_m10 49 rfl) rfl
theorem q2346 : (Jvm.Cond.methodLink "DialMenus" (258 : Nat) ({ cls := "java/lang/Math", name := "max", desc := "(II)I" } : Jvm.MethodName)) ∈ lw_all := lw_g (lw_at lw_m10 50 rfl) rfl
theorem q2347 : (Jvm.Cond.methodLink "DialMenus" (282 : Nat) ({ cls := "DialMenus", name := "presses", desc := "(I)I" } : Jvm.MethodName)) ∈ lw_all := lw_g (lw_at lw_m10 51 rfl) rfl
theorem q2348 : (Jvm.Cond.privateMethod ({ cls := "DialMenus", name := "presses", desc := "(I)I" } : Jvm.MethodName)) ∈ lw_tbl := lw_at lw_m10 52 rfl
theorem q2349 : (Jvm.Cond.instanceMethod ({ cls := "DialMenus", name := "presses", desc := "(I)I" } : Jvm.MethodName)) ∈ lw_all := lw_g (lw_at lw_m10 53 rfl) rfl
theorem q2350 : (Jvm.Cond.code ({ cls := "DialMenus", name := "presses", desc := "(I)I" } : Jvm.MethodName) prog_1_method_16_code (4 : Nat) (Option.some Jvm.ClassFile.FieldType.int)) ∈ lw_all := lw_g (lw_at lw_m10 54 rfl) rfl
theorem q2351 : (Jvm.Cond.constant "DialMenus" (264 : Nat) (268435456 : Int32)) ∈ lw_all := lw_g (lw_at lw_m10 55 rfl) rfl
theorem q2352 : (Jvm.Cond.methodLink "DialMenus" (265 : Nat) ({ cls := "DialMenus", name := "ahead", desc := "(II)I" } : Jvm.MethodName)) ∈ lw_all := lw_g (lw_at lw_m10 56 rfl) rfl
theorem q2353 : (Jvm.Cond.privateMethod ({ cls := "DialMenus", name := "ahead", desc := "(II)I" } : Jvm.MethodName)) ∈ lw_tbl := lw_at lw_m10 57 rfl
theorem q2354 : (Jvm.Cond.instanceMethod ({ cls := "DialMenus", name := "ahead", desc := "(II)I" } : Jvm.MethodName)) ∈ lw_all := lw_g (lw_at lw_m10 58 rfl) rfl
theorem q2355 : (Jvm.Cond.code ({ cls := "DialMenus", name := "ahead", desc := "(II)I" } : Jvm.MethodName) prog_1_method_15_code (8 : Nat) (Option.some Jvm.ClassFile.FieldType.int)) ∈ lw_all := lw_g (lw_at lw_m10 59 rfl) rfl
theorem q2356 : (Jvm.Cond.methodLink "DialMenus" (268 : Nat) ({ cls := "java/lang/Math", name := "min", desc := "(II)I" } : Jvm.MethodName)) ∈ lw_all := lw_g (lw_at lw_m10 60 rfl) rfl
theorem q2357 : (Jvm.Cond.methodLink "DialMenus" (285 : Nat) ({ cls := "DialMenus$Menu", name := "pathTo", desc := "(I)Ljava/util/LinkedList;" } : Jvm.MethodName)) ∈ lw_all := lw_g (lw_at lw_m10 61 rfl) rfl
theorem q2404 : (Jvm.Cond.methodLink "DialMenus" (291 : Nat) ({ cls := "java/util/LinkedList", name := "size", desc := "()I" } : Jvm.MethodName)) ∈ lw_all := lw_g (lw_at lw_m10 108 rfl) rfl
theorem q2405 : (Jvm.Cond.methodLink "DialMenus" (292 : Nat) ({ cls := "DialMenus", name := "deepOf", desc := "(II)I" } : Jvm.MethodName)) ∈ lw_all := lw_g (lw_at lw_m10 109 rfl) rfl
theorem q2406 : (Jvm.Cond.privateMethod ({ cls := "DialMenus", name := "deepOf", desc := "(II)I" } : Jvm.MethodName)) ∈ lw_tbl := lw_at lw_m10 110 rfl
theorem q2407 : (Jvm.Cond.instanceMethod ({ cls := "DialMenus", name := "deepOf", desc := "(II)I" } : Jvm.MethodName)) ∈ lw_all := lw_g (lw_at lw_m10 111 rfl) rfl
theorem q2408 : (Jvm.Cond.code ({ cls := "DialMenus", name := "deepOf", desc := "(II)I" } : Jvm.MethodName) prog_1_method_49_code (9 : Nat) (Option.some Jvm.ClassFile.FieldType.int)) ∈ lw_all := lw_g (lw_at lw_m10 112 rfl) rfl
theorem q2409 : (Jvm.Cond.methodLink "DialMenus" (401 : Nat) ({ cls := "DialMenus", name := "layLeast", desc := "(I)V" } : Jvm.MethodName)) ∈ lw_all := lw_g (lw_at lw_m10 113 rfl) rfl
theorem q2410 : (Jvm.Cond.privateMethod ({ cls := "DialMenus", name := "layLeast", desc := "(I)V" } : Jvm.MethodName)) ∈ lw_tbl := lw_at lw_m10 114 rfl
theorem q2411 : (Jvm.Cond.instanceMethod ({ cls := "DialMenus", name := "layLeast", desc := "(I)V" } : Jvm.MethodName)) ∈ lw_all := lw_g (lw_at lw_m10 115 rfl) rfl
theorem q2412 : (Jvm.Cond.code ({ cls := "DialMenus", name := "layLeast", desc := "(I)V" } : Jvm.MethodName) prog_1_method_41_code (4 : Nat) (Option.none : Option Jvm.ClassFile.FieldType)) ∈ lw_all := lw_g (lw_at lw_m10 116 rfl) rfl
theorem q2413 : (Jvm.Cond.methodLink "DialMenus" (371 : Nat) ({ cls := "DialMenus", name := "layOne", desc := "(III)V" } : Jvm.MethodName)) ∈ lw_all := lw_g (lw_at lw_m10 117 rfl) rfl
theorem q2414 : (Jvm.Cond.privateMethod ({ cls := "DialMenus", name := "layOne", desc := "(III)V" } : Jvm.MethodName)) ∈ lw_tbl := lw_at lw_m10 118 rfl
theorem q2415 : (Jvm.Cond.instanceMethod ({ cls := "DialMenus", name := "layOne", desc := "(III)V" } : Jvm.MethodName)) ∈ lw_all := lw_g (lw_at lw_m10 119 rfl) rfl
theorem q2416 : (Jvm.Cond.code ({ cls := "DialMenus", name := "layOne", desc := "(III)V" } : Jvm.MethodName) prog_1_method_42_code (8 : Nat) (Option.none : Option Jvm.ClassFile.FieldType)) ∈ lw_all := lw_g (lw_at lw_m10 120 rfl) rfl
theorem q2417 : (Jvm.Cond.methodLink "DialMenus" (375 : Nat) ({ cls := "DialMenus", name := "usesOf", desc := "(II)I" } : Jvm.MethodName)) ∈ lw_all := lw_g (lw_at lw_m10 121 rfl) rfl
theorem q2418 : (Jvm.Cond.privateMethod ({ cls := "DialMenus", name := "usesOf", desc := "(II)I" } : Jvm.MethodName)) ∈ lw_tbl := lw_at lw_m10 122 rfl
theorem q2419 : (Jvm.Cond.instanceMethod ({ cls := "DialMenus", name := "usesOf", desc := "(II)I" } : Jvm.MethodName)) ∈ lw_all := lw_g (lw_at lw_m10 123 rfl) rfl
theorem q2420 : (Jvm.Cond.code ({ cls := "DialMenus", name := "usesOf", desc := "(II)I" } : Jvm.MethodName) prog_1_method_40_code (5 : Nat) (Option.some Jvm.ClassFile.FieldType.int)) ∈ lw_all := lw_g (lw_at lw_m10 124 rfl) rfl
theorem q2421 : (Jvm.Cond.methodLink "DialMenus" (378 : Nat) ({ cls := "DialMenus", name := "asPart", desc := "(II)I" } : Jvm.MethodName)) ∈ lw_all := lw_g (lw_at lw_m10 125 rfl) rfl
theorem q2422 : (Jvm.Cond.privateMethod ({ cls := "DialMenus", name := "asPart", desc := "(II)I" } : Jvm.MethodName)) ∈ lw_tbl := lw_at lw_m10 126 rfl
theorem q2423 : (Jvm.Cond.instanceMethod ({ cls := "DialMenus", name := "asPart", desc := "(II)I" } : Jvm.MethodName)) ∈ lw_all := lw_g (lw_at lw_m10 127 rfl) rfl
theorem q2424 : (Jvm.Cond.code ({ cls := "DialMenus", name := "asPart", desc := "(II)I" } : Jvm.MethodName) prog_1_method_43_code (3 : Nat) (Option.some Jvm.ClassFile.FieldType.int)) ∈ lw_all := lw_g (lw_at lw_m10 128 rfl) rfl
theorem q2425 : (Jvm.Cond.methodLink "DialMenus" (381 : Nat) ({ cls := "DialMenus", name := "partedBy", desc := "(III)I" } : Jvm.MethodName)) ∈ lw_all := lw_g (lw_at lw_m10 129 rfl) rfl
theorem q2426 : (Jvm.Cond.privateMethod ({ cls := "DialMenus", name := "partedBy", desc := "(III)I" } : Jvm.MethodName)) ∈ lw_tbl := lw_at lw_m10 130 rfl
theorem q2427 : (Jvm.Cond.instanceMethod ({ cls := "DialMenus", name := "partedBy", desc := "(III)I" } : Jvm.MethodName)) ∈ lw_all := lw_g (lw_at lw_m10 131 rfl) rfl
theorem q2428 : (Jvm.Cond.code ({ cls := "DialMenus", name := "partedBy", desc := "(III)I" } : Jvm.MethodName) prog_1_method_44_code (4 : Nat) (Option.some Jvm.ClassFile.FieldType.int)) ∈ lw_all := lw_g (lw_at lw_m10 132 rfl) rfl
theorem q2429 : (Jvm.Cond.methodLink "DialMenus" (388 : Nat) ({ cls := "DialMenus", name := "partsOf", desc := "(II)I" } : Jvm.MethodName)) ∈ lw_all := lw_g (lw_at lw_m10 133 rfl) rfl
theorem q2430 : (Jvm.Cond.privateMethod ({ cls := "DialMenus", name := "partsOf", desc := "(II)I" } : Jvm.MethodName)) ∈ lw_tbl := lw_at lw_m10 134 rfl
theorem q2431 : (Jvm.Cond.instanceMethod ({ cls := "DialMenus", name := "partsOf", desc := "(II)I" } : Jvm.MethodName)) ∈ lw_all := lw_g (lw_at lw_m10 135 rfl) rfl
theorem q2432 : (Jvm.Cond.code ({ cls := "DialMenus", name := "partsOf", desc := "(II)I" } : Jvm.MethodName) prog_1_method_45_code (4 : Nat) (Option.some Jvm.ClassFile.FieldType.int)) ∈ lw_all := lw_g (lw_at lw_m10 136 rfl) rfl
theorem q2433 : (Jvm.Cond.methodLink "DialMenus" (391 : Nat) ({ cls := "DialMenus", name := "firstPart", desc := "(III)I" } : Jvm.MethodName)) ∈ lw_all := lw_g (lw_at lw_m10 137 rfl) rfl
theorem q2434 : (Jvm.Cond.privateMethod ({ cls := "DialMenus", name := "firstPart", desc := "(III)I" } : Jvm.MethodName)) ∈ lw_tbl := lw_at lw_m10 138 rfl
theorem q2435 : (Jvm.Cond.instanceMethod ({ cls := "DialMenus", name := "firstPart", desc := "(III)I" } : Jvm.MethodName)) ∈ lw_all := lw_g (lw_at lw_m10 139 rfl) rfl
theorem q2436 : (Jvm.Cond.code ({ cls := "DialMenus", name := "firstPart", desc := "(III)I" } : Jvm.MethodName) prog_1_method_46_code (5 : Nat) (Option.some Jvm.ClassFile.FieldType.int)) ∈ lw_all := lw_g (lw_at lw_m10 140 rfl) rfl
theorem q2438 : (Jvm.Cond.instanceMethod ({ cls := "DialMenus", name := "sign", desc := "(II)I" } : Jvm.MethodName)) ∈ lw_all := lw_g (lw_at lw_m10 142 rfl) rfl
theorem q2439 : (Jvm.Cond.selects "DialMenus" ({ cls := "DialMenus", name := "sign", desc := "(II)I" } : Jvm.MethodName) ({ cls := "DialMenus", name := "sign", desc := "(II)I" } : Jvm.MethodName)) ∈ lw_all := lw_g (lw_at lw_m10 143 rfl) rfl
theorem q2440 : (Jvm.Cond.code ({ cls := "DialMenus", name := "sign", desc := "(II)I" } : Jvm.MethodName) prog_1_method_19_code (3 : Nat) (Option.some Jvm.ClassFile.FieldType.int)) ∈ lw_all := lw_g (lw_at lw_m10 144 rfl) rfl
theorem q2442 : (Jvm.Cond.instanceMethod ({ cls := "DialMenus", name := "digit", desc := "(II)I" } : Jvm.MethodName)) ∈ lw_all := lw_g (lw_at lw_m10 146 rfl) rfl
theorem q2443 : (Jvm.Cond.selects "DialMenus" ({ cls := "DialMenus", name := "digit", desc := "(II)I" } : Jvm.MethodName) ({ cls := "DialMenus", name := "digit", desc := "(II)I" } : Jvm.MethodName)) ∈ lw_all := lw_g (lw_at lw_m10 147 rfl) rfl
theorem q2444 : (Jvm.Cond.code ({ cls := "DialMenus", name := "digit", desc := "(II)I" } : Jvm.MethodName) prog_1_method_20_code (3 : Nat) (Option.some Jvm.ClassFile.FieldType.int)) ∈ lw_all := lw_g (lw_at lw_m10 148 rfl) rfl
theorem q2445 : (Jvm.Cond.methodLink "DialMenus" (298 : Nat) ({ cls := "DialMenus$Name", name := "digit", desc := "(I)I" } : Jvm.MethodName)) ∈ lw_all := lw_g (lw_at lw_m10 149 rfl) rfl
theorem q2447 : (Jvm.Cond.instanceMethod ({ cls := "DialMenus", name := "laid", desc := "(I)I" } : Jvm.MethodName)) ∈ lw_all := lw_g (lw_at lw_m10 151 rfl) rfl
theorem q2448 : (Jvm.Cond.selects "DialMenus" ({ cls := "DialMenus", name := "laid", desc := "(I)I" } : Jvm.MethodName) ({ cls := "DialMenus", name := "laid", desc := "(I)I" } : Jvm.MethodName)) ∈ lw_all := lw_g (lw_at lw_m10 152 rfl) rfl
theorem q2449 : (Jvm.Cond.code ({ cls := "DialMenus", name := "laid", desc := "(I)I" } : Jvm.MethodName) prog_1_method_21_code (2 : Nat) (Option.some Jvm.ClassFile.FieldType.int)) ∈ lw_all := lw_g (lw_at lw_m10 153 rfl) rfl
theorem q2451 : (Jvm.Cond.instanceMethod ({ cls := "DialMenus", name := "about", desc := "(I)I" } : Jvm.MethodName)) ∈ lw_all := lw_g (lw_at lw_m10 155 rfl) rfl
theorem q2452 : (Jvm.Cond.selects "DialMenus" ({ cls := "DialMenus", name := "about", desc := "(I)I" } : Jvm.MethodName) ({ cls := "DialMenus", name := "about", desc := "(I)I" } : Jvm.MethodName)) ∈ lw_all := lw_g (lw_at lw_m10 156 rfl) rfl
theorem q2453 : (Jvm.Cond.code ({ cls := "DialMenus", name := "about", desc := "(I)I" } : Jvm.MethodName) prog_1_method_26_code (2 : Nat) (Option.some Jvm.ClassFile.FieldType.int)) ∈ lw_all := lw_g (lw_at lw_m10 157 rfl) rfl
theorem q2454 : (Jvm.Cond.methodLink "DialMenus" (321 : Nat) ({ cls := "DialMenus", name := "aboutTold", desc := "(I)I" } : Jvm.MethodName)) ∈ lw_all := lw_g (lw_at lw_m10 158 rfl) rfl
theorem q2455 : (Jvm.Cond.privateMethod ({ cls := "DialMenus", name := "aboutTold", desc := "(I)I" } : Jvm.MethodName)) ∈ lw_tbl := lw_at lw_m10 159 rfl
theorem q2456 : (Jvm.Cond.instanceMethod ({ cls := "DialMenus", name := "aboutTold", desc := "(I)I" } : Jvm.MethodName)) ∈ lw_all := lw_g (lw_at lw_m10 160 rfl) rfl
theorem q2457 : (Jvm.Cond.code ({ cls := "DialMenus", name := "aboutTold", desc := "(I)I" } : Jvm.MethodName) prog_1_method_25_code (2 : Nat) (Option.some Jvm.ClassFile.FieldType.int)) ∈ lw_all := lw_g (lw_at lw_m10 161 rfl) rfl
theorem q2458 : (Jvm.Cond.methodLink "DialMenus" (312 : Nat) ({ cls := "DialMenus", name := "codes", desc := "()I" } : Jvm.MethodName)) ∈ lw_all := lw_g (lw_at lw_m10 162 rfl) rfl
theorem q2459 : (Jvm.Cond.privateMethod ({ cls := "DialMenus", name := "codes", desc := "()I" } : Jvm.MethodName)) ∈ lw_tbl := lw_at lw_m10 163 rfl
theorem q2460 : (Jvm.Cond.instanceMethod ({ cls := "DialMenus", name := "codes", desc := "()I" } : Jvm.MethodName)) ∈ lw_all := lw_g (lw_at lw_m10 164 rfl) rfl
theorem q2461 : (Jvm.Cond.code ({ cls := "DialMenus", name := "codes", desc := "()I" } : Jvm.MethodName) prog_1_method_22_code (4 : Nat) (Option.some Jvm.ClassFile.FieldType.int)) ∈ lw_all := lw_g (lw_at lw_m10 165 rfl) rfl
theorem q2462 : (Jvm.Cond.methodLink "DialMenus" (301 : Nat) ({ cls := "java/util/BitSet", name := "clear", desc := "(II)V" } : Jvm.MethodName)) ∈ lw_all := lw_g (lw_at lw_m10 166 rfl) rfl
theorem q2474 : (Jvm.Cond.methodLink "DialMenus" (305 : Nat) ({ cls := "java/util/BitSet", name := "or", desc := "(Ljava/util/BitSet;)V" } : Jvm.MethodName)) ∈ lw_all := lw_g (lw_at lw_m10 178 rfl) rfl
theorem q2480 : (Jvm.Cond.methodLink "DialMenus" (315 : Nat) ({ cls := "DialMenus", name := "greatestTelling", desc := "()I" } : Jvm.MethodName)) ∈ lw_all := lw_g (lw_at lw_m10 184 rfl) rfl
theorem q2481 : (Jvm.Cond.privateMethod ({ cls := "DialMenus", name := "greatestTelling", desc := "()I" } : Jvm.MethodName)) ∈ lw_tbl := lw_at lw_m10 185 rfl
theorem q2482 : (Jvm.Cond.instanceMethod ({ cls := "DialMenus", name := "greatestTelling", desc := "()I" } : Jvm.MethodName)) ∈ lw_all := lw_g (lw_at lw_m10 186 rfl) rfl
theorem q2483 : (Jvm.Cond.code ({ cls := "DialMenus", name := "greatestTelling", desc := "()I" } : Jvm.MethodName) prog_1_method_23_code (3 : Nat) (Option.some Jvm.ClassFile.FieldType.int)) ∈ lw_all := lw_g (lw_at lw_m10 187 rfl) rfl
theorem q2484 : (Jvm.Cond.methodLink "DialMenus" (318 : Nat) ({ cls := "DialMenus", name := "sum", desc := "(I)I" } : Jvm.MethodName)) ∈ lw_all := lw_g (lw_at lw_m10 188 rfl) rfl
theorem q2485 : (Jvm.Cond.privateMethod ({ cls := "DialMenus", name := "sum", desc := "(I)I" } : Jvm.MethodName)) ∈ lw_tbl := lw_at lw_m10 189 rfl
theorem q2486 : (Jvm.Cond.instanceMethod ({ cls := "DialMenus", name := "sum", desc := "(I)I" } : Jvm.MethodName)) ∈ lw_all := lw_g (lw_at lw_m10 190 rfl) rfl
theorem q2487 : (Jvm.Cond.code ({ cls := "DialMenus", name := "sum", desc := "(I)I" } : Jvm.MethodName) prog_1_method_24_code (5 : Nat) (Option.some Jvm.ClassFile.FieldType.int)) ∈ lw_all := lw_g (lw_at lw_m10 191 rfl) rfl
theorem q2488 : (Jvm.Cond.methodLink "DialMenus" (309 : Nat) ({ cls := "java/util/BitSet", name := "isEmpty", desc := "()Z" } : Jvm.MethodName)) ∈ lw_all := lw_g (lw_at lw_m10 192 rfl) rfl
theorem q2493 : (Jvm.Cond.instanceMethod ({ cls := "DialMenus", name := "press", desc := "(I)I" } : Jvm.MethodName)) ∈ lw_all := lw_g (lw_at lw_m10 197 rfl) rfl
theorem q2494 : (Jvm.Cond.selects "DialMenus" ({ cls := "DialMenus", name := "press", desc := "(I)I" } : Jvm.MethodName) ({ cls := "DialMenus", name := "press", desc := "(I)I" } : Jvm.MethodName)) ∈ lw_all := lw_g (lw_at lw_m10 198 rfl) rfl
theorem q2495 : (Jvm.Cond.code ({ cls := "DialMenus", name := "press", desc := "(I)I" } : Jvm.MethodName) prog_1_method_27_code (2 : Nat) (Option.some Jvm.ClassFile.FieldType.int)) ∈ lw_all := lw_g (lw_at lw_m10 199 rfl) rfl
theorem q2496 : (Jvm.Cond.methodLink "DialMenus" (324 : Nat) ({ cls := "java/util/LinkedList", name := "addLast", desc := "(Ljava/lang/Object;)V" } : Jvm.MethodName)) ∈ lw_all := lw_g (lw_at lw_m10 200 rfl) rfl
theorem q2498 : (Jvm.Cond.instanceMethod ({ cls := "DialMenus", name := "back", desc := "()I" } : Jvm.MethodName)) ∈ lw_all := lw_g (lw_at lw_m10 202 rfl) rfl
theorem q2499 : (Jvm.Cond.selects "DialMenus" ({ cls := "DialMenus", name := "back", desc := "()I" } : Jvm.MethodName) ({ cls := "DialMenus", name := "back", desc := "()I" } : Jvm.MethodName)) ∈ lw_all := lw_g (lw_at lw_m10 203 rfl) rfl
theorem q2500 : (Jvm.Cond.code ({ cls := "DialMenus", name := "back", desc := "()I" } : Jvm.MethodName) prog_1_method_28_code (1 : Nat) (Option.some Jvm.ClassFile.FieldType.int)) ∈ lw_all := lw_g (lw_at lw_m10 204 rfl) rfl
theorem q2501 : (Jvm.Cond.methodLink "DialMenus" (325 : Nat) ({ cls := "java/util/LinkedList", name := "isEmpty", desc := "()Z" } : Jvm.MethodName)) ∈ lw_all := lw_g (lw_at lw_m10 205 rfl) rfl
theorem q2518 : (Jvm.Cond.methodLink "DialMenus" (326 : Nat) ({ cls := "java/util/LinkedList", name := "removeLast", desc := "()Ljava/lang/Object;" } : Jvm.MethodName)) ∈ lw_all := lw_g (lw_at lw_m10 222 rfl) rfl
theorem q2527 : (Jvm.Cond.instanceMethod ({ cls := "DialMenus", name := "wipe", desc := "()I" } : Jvm.MethodName)) ∈ lw_all := lw_g (lw_at lw_m10 231 rfl) rfl
theorem q2528 : (Jvm.Cond.selects "DialMenus" ({ cls := "DialMenus", name := "wipe", desc := "()I" } : Jvm.MethodName) ({ cls := "DialMenus", name := "wipe", desc := "()I" } : Jvm.MethodName)) ∈ lw_all := lw_g (lw_at lw_m10 232 rfl) rfl
theorem q2529 : (Jvm.Cond.code ({ cls := "DialMenus", name := "wipe", desc := "()I" } : Jvm.MethodName) prog_1_method_29_code (2 : Nat) (Option.some Jvm.ClassFile.FieldType.int)) ∈ lw_all := lw_g (lw_at lw_m10 233 rfl) rfl
theorem q2530 : (Jvm.Cond.methodLink "DialMenus" (329 : Nat) ({ cls := "java/util/LinkedList", name := "clear", desc := "()V" } : Jvm.MethodName)) ∈ lw_all := lw_g (lw_at lw_m10 234 rfl) rfl
theorem q2535 : (Jvm.Cond.instanceMethod ({ cls := "DialMenus", name := "typed", desc := "(I)I" } : Jvm.MethodName)) ∈ lw_all := lw_g (lw_at lw_m10 239 rfl) rfl
theorem q2536 : (Jvm.Cond.selects "DialMenus" ({ cls := "DialMenus", name := "typed", desc := "(I)I" } : Jvm.MethodName) ({ cls := "DialMenus", name := "typed", desc := "(I)I" } : Jvm.MethodName)) ∈ lw_all := lw_g (lw_at lw_m11 0 rfl) rfl
theorem q2537 : (Jvm.Cond.code ({ cls := "DialMenus", name := "typed", desc := "(I)I" } : Jvm.MethodName) prog_1_method_30_code (2 : Nat) (Option.some Jvm.ClassFile.FieldType.int)) ∈ lw_all := lw_g (lw_at lw_m11 1 rfl) rfl
theorem q2538 : (Jvm.Cond.methodLink "DialMenus" (331 : Nat) ({ cls := "java/util/LinkedList", name := "get", desc := "(I)Ljava/lang/Object;" } : Jvm.MethodName)) ∈ lw_all := lw_g (lw_at lw_m11 2 rfl) rfl
theorem q2540 : (Jvm.Cond.instanceMethod ({ cls := "DialMenus", name := "choice", desc := "(I)I" } : Jvm.MethodName)) ∈ lw_all := lw_g (lw_at lw_m11 4 rfl) rfl
theorem q2541 : (Jvm.Cond.selects "DialMenus" ({ cls := "DialMenus", name := "choice", desc := "(I)I" } : Jvm.MethodName) ({ cls := "DialMenus", name := "choice", desc := "(I)I" } : Jvm.MethodName)) ∈ lw_all := lw_g (lw_at lw_m11 5 rfl) rfl
theorem q2542 : (Jvm.Cond.code ({ cls := "DialMenus", name := "choice", desc := "(I)I" } : Jvm.MethodName) prog_1_method_32_code (6 : Nat) (Option.some Jvm.ClassFile.FieldType.int)) ∈ lw_all := lw_g (lw_at lw_m11 6 rfl) rfl
theorem q2543 : (Jvm.Cond.methodLink "DialMenus" (344 : Nat) ({ cls := "DialMenus", name := "chosen", desc := "()Ljava/util/TreeSet;" } : Jvm.MethodName)) ∈ lw_all := lw_g (lw_at lw_m11 7 rfl) rfl
theorem q2544 : (Jvm.Cond.privateMethod ({ cls := "DialMenus", name := "chosen", desc := "()Ljava/util/TreeSet;" } : Jvm.MethodName)) ∈ lw_tbl := lw_at lw_m11 8 rfl
theorem q2545 : (Jvm.Cond.instanceMethod ({ cls := "DialMenus", name := "chosen", desc := "()Ljava/util/TreeSet;" } : Jvm.MethodName)) ∈ lw_all := lw_g (lw_at lw_m11 9 rfl) rfl
theorem q2546 : (Jvm.Cond.code ({ cls := "DialMenus", name := "chosen", desc := "()Ljava/util/TreeSet;" } : Jvm.MethodName) prog_1_method_31_code (3 : Nat) (Option.some (Jvm.ClassFile.FieldType.object "java/util/TreeSet"))) ∈ lw_all := lw_g (lw_at lw_m11 10 rfl) rfl
theorem q2547 : (Jvm.Cond.classLink "DialMenus" (332 : Nat) "java/util/TreeSet") ∈ lw_all := lw_g (lw_at lw_m11 11 rfl) rfl
theorem q2549 : (Jvm.Cond.methodLink "DialMenus" (334 : Nat) ({ cls := "java/util/TreeSet", name := "<init>", desc := "()V" } : Jvm.MethodName)) ∈ lw_all := lw_g (lw_at lw_m11 13 rfl) rfl
theorem q2562 : (Jvm.Cond.methodLink "DialMenus" (335 : Nat) ({ cls := "DialMenus$Name", name := "isBegunBy", desc := "(Ljava/util/List;)Z" } : Jvm.MethodName)) ∈ lw_all := lw_g (lw_at lw_m11 26 rfl) rfl
theorem q2590 : (Jvm.Cond.classLink "DialMenus" (339 : Nat) "DialMenus$Chosen") ∈ lw_all := lw_g (lw_at lw_m11 54 rfl) rfl
theorem q2592 : (Jvm.Cond.methodLink "DialMenus" (341 : Nat) ({ cls := "DialMenus$Chosen", name := "<init>", desc := "(II)V" } : Jvm.MethodName)) ∈ lw_all := lw_g (lw_at lw_m11 56 rfl) rfl
theorem q2597 : (Jvm.Cond.fieldLinkNest "DialMenus" (350 : Nat) "DialMenus$Chosen" "number" "I" "DialMenus") ∈ lw_tbl := lw_at lw_m11 61 rfl
theorem q2604 : (Jvm.Cond.methodLink "DialMenus" (343 : Nat) ({ cls := "java/util/TreeSet", name := "add", desc := "(Ljava/lang/Object;)Z" } : Jvm.MethodName)) ∈ lw_all := lw_g (lw_at lw_m11 68 rfl) rfl
theorem q2615 : (Jvm.Cond.methodLink "DialMenus" (348 : Nat) ({ cls := "java/util/TreeSet", name := "size", desc := "()I" } : Jvm.MethodName)) ∈ lw_all := lw_g (lw_at lw_m11 79 rfl) rfl
theorem q2616 : (Jvm.Cond.methodLink "DialMenus" (349 : Nat) ({ cls := "java/util/TreeSet", name := "iterator", desc := "()Ljava/util/Iterator;" } : Jvm.MethodName)) ∈ lw_all := lw_g (lw_at lw_m11 80 rfl) rfl
theorem q2618 : (Jvm.Cond.instanceMethod ({ cls := "DialMenus", name := "spelling", desc := "(I)I" } : Jvm.MethodName)) ∈ lw_all := lw_g (lw_at lw_m11 82 rfl) rfl
theorem q2619 : (Jvm.Cond.selects "DialMenus" ({ cls := "DialMenus", name := "spelling", desc := "(I)I" } : Jvm.MethodName) ({ cls := "DialMenus", name := "spelling", desc := "(I)I" } : Jvm.MethodName)) ∈ lw_all := lw_g (lw_at lw_m11 83 rfl) rfl
theorem q2620 : (Jvm.Cond.code ({ cls := "DialMenus", name := "spelling", desc := "(I)I" } : Jvm.MethodName) prog_1_method_37_code (2 : Nat) (Option.some Jvm.ClassFile.FieldType.int)) ∈ lw_all := lw_g (lw_at lw_m11 84 rfl) rfl
theorem q2621 : (Jvm.Cond.methodLink "DialMenus" (365 : Nat) ({ cls := "DialMenus", name := "spellingTold", desc := "(I)I" } : Jvm.MethodName)) ∈ lw_all := lw_g (lw_at lw_m11 85 rfl) rfl
theorem q2622 : (Jvm.Cond.privateMethod ({ cls := "DialMenus", name := "spellingTold", desc := "(I)I" } : Jvm.MethodName)) ∈ lw_tbl := lw_at lw_m11 86 rfl
theorem q2623 : (Jvm.Cond.instanceMethod ({ cls := "DialMenus", name := "spellingTold", desc := "(I)I" } : Jvm.MethodName)) ∈ lw_all := lw_g (lw_at lw_m11 87 rfl) rfl
theorem q2624 : (Jvm.Cond.code ({ cls := "DialMenus", name := "spellingTold", desc := "(I)I" } : Jvm.MethodName) prog_1_method_36_code (2 : Nat) (Option.some Jvm.ClassFile.FieldType.int)) ∈ lw_all := lw_g (lw_at lw_m11 88 rfl) rfl
theorem q2625 : (Jvm.Cond.methodLink "DialMenus" (362 : Nat) ({ cls := "DialMenus", name := "laySpellings", desc := "()V" } : Jvm.MethodName)) ∈ lw_all := lw_g (lw_at lw_m11 89 rfl) rfl
theorem q2626 : (Jvm.Cond.privateMethod ({ cls := "DialMenus", name := "laySpellings", desc := "()V" } : Jvm.MethodName)) ∈ lw_tbl := lw_at lw_m11 90 rfl
theorem q2627 : (Jvm.Cond.instanceMethod ({ cls := "DialMenus", name := "laySpellings", desc := "()V" } : Jvm.MethodName)) ∈ lw_all := lw_g (lw_at lw_m11 91 rfl) rfl
theorem q2628 : (Jvm.Cond.code ({ cls := "DialMenus", name := "laySpellings", desc := "()V" } : Jvm.MethodName) prog_1_method_35_code (4 : Nat) (Option.none : Option Jvm.ClassFile.FieldType)) ∈ lw_all := lw_g (lw_at lw_m11 92 rfl) rfl
theorem q2629 : (Jvm.Cond.methodLink "DialMenus" (354 : Nat) ({ cls := "DialMenus", name := "isPiece", desc := "(LDialMenus$Name;I)Z" } : Jvm.MethodName)) ∈ lw_all := lw_g (lw_at lw_m11 93 rfl) rfl
theorem q2630 : (Jvm.Cond.privateMethod ({ cls := "DialMenus", name := "isPiece", desc := "(LDialMenus$Name;I)Z" } : Jvm.MethodName)) ∈ lw_tbl := lw_at lw_m11 94 rfl
theorem q2631 : (Jvm.Cond.instanceMethod ({ cls := "DialMenus", name := "isPiece", desc := "(LDialMenus$Name;I)Z" } : Jvm.MethodName)) ∈ lw_all := lw_g (lw_at lw_m11 95 rfl) rfl
theorem q2632 : (Jvm.Cond.code ({ cls := "DialMenus", name := "isPiece", desc := "(LDialMenus$Name;I)Z" } : Jvm.MethodName) prog_1_method_33_code (5 : Nat) (Option.some Jvm.ClassFile.FieldType.boolean)) ∈ lw_all := lw_g (lw_at lw_m11 96 rfl) rfl
theorem q2633 : (Jvm.Cond.methodLink "DialMenus" (358 : Nat) ({ cls := "DialMenus", name := "consider", desc := "(IIII)V" } : Jvm.MethodName)) ∈ lw_all := lw_g (lw_at lw_m11 97 rfl) rfl
theorem q2634 : (Jvm.Cond.privateMethod ({ cls := "DialMenus", name := "consider", desc := "(IIII)V" } : Jvm.MethodName)) ∈ lw_tbl := lw_at lw_m11 98 rfl
theorem q2635 : (Jvm.Cond.instanceMethod ({ cls := "DialMenus", name := "consider", desc := "(IIII)V" } : Jvm.MethodName)) ∈ lw_all := lw_g (lw_at lw_m11 99 rfl) rfl
theorem q2636 : (Jvm.Cond.code ({ cls := "DialMenus", name := "consider", desc := "(IIII)V" } : Jvm.MethodName) prog_1_method_34_code (6 : Nat) (Option.none : Option Jvm.ClassFile.FieldType)) ∈ lw_all := lw_g (lw_at lw_m11 100 rfl) rfl
theorem q2637 : (Jvm.Cond.constant "DialMenus" (353 : Nat) (1000000 : Int32)) ∈ lw_all := lw_g (lw_at lw_m11 101 rfl) rfl
theorem q2639 : (Jvm.Cond.instanceMethod ({ cls := "DialMenus", name := "piece", desc := "(I)I" } : Jvm.MethodName)) ∈ lw_all := lw_g (lw_at lw_m11 103 rfl) rfl
theorem q2640 : (Jvm.Cond.selects "DialMenus" ({ cls := "DialMenus", name := "piece", desc := "(I)I" } : Jvm.MethodName) ({ cls := "DialMenus", name := "piece", desc := "(I)I" } : Jvm.MethodName)) ∈ lw_all := lw_g (lw_at lw_m11 104 rfl) rfl
theorem q2641 : (Jvm.Cond.code ({ cls := "DialMenus", name := "piece", desc := "(I)I" } : Jvm.MethodName) prog_1_method_39_code (2 : Nat) (Option.some Jvm.ClassFile.FieldType.int)) ∈ lw_all := lw_g (lw_at lw_m11 105 rfl) rfl
theorem q2642 : (Jvm.Cond.methodLink "DialMenus" (368 : Nat) ({ cls := "DialMenus", name := "pieceTold", desc := "(I)I" } : Jvm.MethodName)) ∈ lw_all := lw_g (lw_at lw_m11 106 rfl) rfl
theorem q2643 : (Jvm.Cond.privateMethod ({ cls := "DialMenus", name := "pieceTold", desc := "(I)I" } : Jvm.MethodName)) ∈ lw_tbl := lw_at lw_m11 107 rfl
theorem q2644 : (Jvm.Cond.instanceMethod ({ cls := "DialMenus", name := "pieceTold", desc := "(I)I" } : Jvm.MethodName)) ∈ lw_all := lw_g (lw_at lw_m11 108 rfl) rfl
theorem q2645 : (Jvm.Cond.code ({ cls := "DialMenus", name := "pieceTold", desc := "(I)I" } : Jvm.MethodName) prog_1_method_38_code (4 : Nat) (Option.some Jvm.ClassFile.FieldType.int)) ∈ lw_all := lw_g (lw_at lw_m11 109 rfl) rfl
theorem q2647 : (Jvm.Cond.instanceMethod ({ cls := "DialMenus", name := "build", desc := "(I)I" } : Jvm.MethodName)) ∈ lw_all := lw_g (lw_at lw_m11 111 rfl) rfl
theorem q2648 : (Jvm.Cond.selects "DialMenus" ({ cls := "DialMenus", name := "build", desc := "(I)I" } : Jvm.MethodName) ({ cls := "DialMenus", name := "build", desc := "(I)I" } : Jvm.MethodName)) ∈ lw_all := lw_g (lw_at lw_m11 112 rfl) rfl
theorem q2649 : (Jvm.Cond.code ({ cls := "DialMenus", name := "build", desc := "(I)I" } : Jvm.MethodName) prog_1_method_51_code (2 : Nat) (Option.some Jvm.ClassFile.FieldType.int)) ∈ lw_all := lw_g (lw_at lw_m11 113 rfl) rfl
theorem q2650 : (Jvm.Cond.methodLink "DialMenus" (404 : Nat) ({ cls := "java/util/ArrayList", name := "isEmpty", desc := "()Z" } : Jvm.MethodName)) ∈ lw_all := lw_g (lw_at lw_m11 114 rfl) rfl
theorem q2651 : (Jvm.Cond.methodLink "DialMenus" (405 : Nat) ({ cls := "DialMenus", name := "leastMenu", desc := "(I)LDialMenus$Menu;" } : Jvm.MethodName)) ∈ lw_all := lw_g (lw_at lw_m11 115 rfl) rfl
theorem q2652 : (Jvm.Cond.privateMethod ({ cls := "DialMenus", name := "leastMenu", desc := "(I)LDialMenus$Menu;" } : Jvm.MethodName)) ∈ lw_tbl := lw_at lw_m11 116 rfl
theorem q2653 : (Jvm.Cond.instanceMethod ({ cls := "DialMenus", name := "leastMenu", desc := "(I)LDialMenus$Menu;" } : Jvm.MethodName)) ∈ lw_all := lw_g (lw_at lw_m11 117 rfl) rfl
theorem q2654 : (Jvm.Cond.code ({ cls := "DialMenus", name := "leastMenu", desc := "(I)LDialMenus$Menu;" } : Jvm.MethodName) prog_1_method_48_code (2 : Nat) (Option.some (Jvm.ClassFile.FieldType.object "DialMenus$Menu"))) ∈ lw_all := lw_g (lw_at lw_m11 118 rfl) rfl
theorem q2655 : (Jvm.Cond.methodLink "DialMenus" (397 : Nat) ({ cls := "DialMenus", name := "made", desc := "(II)LDialMenus$Menu;" } : Jvm.MethodName)) ∈ lw_all := lw_g (lw_at lw_m11 119 rfl) rfl
theorem q2656 : (Jvm.Cond.privateMethod ({ cls := "DialMenus", name := "made", desc := "(II)LDialMenus$Menu;" } : Jvm.MethodName)) ∈ lw_tbl := lw_at lw_m11 120 rfl
theorem q2657 : (Jvm.Cond.instanceMethod ({ cls := "DialMenus", name := "made", desc := "(II)LDialMenus$Menu;" } : Jvm.MethodName)) ∈ lw_all := lw_g (lw_at lw_m11 121 rfl) rfl
theorem q2658 : (Jvm.Cond.code ({ cls := "DialMenus", name := "made", desc := "(II)LDialMenus$Menu;" } : Jvm.MethodName) prog_1_method_47_code (7 : Nat) (Option.some (Jvm.ClassFile.FieldType.object "DialMenus$Menu"))) ∈ lw_all := lw_g (lw_at lw_m11 122 rfl) rfl
theorem q2659 : (Jvm.Cond.classLink "DialMenus" (286 : Nat) "DialMenus$Menu") ∈ lw_all := lw_g (lw_at lw_m11 123 rfl) rfl
theorem q2661 : (Jvm.Cond.methodLink "DialMenus" (385 : Nat) ({ cls := "DialMenus$Menu", name := "<init>", desc := "(LDialMenus;II)V" } : Jvm.MethodName)) ∈ lw_all := lw_g (lw_at lw_m11 125 rfl) rfl
theorem q2670 : (Jvm.Cond.fieldLinkNest "DialMenus" (433 : Nat) "DialMenus$Menu" "from" "I" "DialMenus") ∈ lw_tbl := lw_at lw_m11 134 rfl
theorem q2673 : (Jvm.Cond.fieldLinkNest "DialMenus" (394 : Nat) "DialMenus$Menu" "parts" "Ljava/util/ArrayList;" "DialMenus") ∈ lw_tbl := lw_at lw_m11 137 rfl
theorem q2684 : (Jvm.Cond.methodLink "DialMenus" (415 : Nat) ({ cls := "DialMenus$Menu", name := "cost", desc := "()I" } : Jvm.MethodName)) ∈ lw_all := lw_g (lw_at lw_m11 148 rfl) rfl
theorem q2696 : (Jvm.Cond.instanceMethod ({ cls := "DialMenus", name := "tend", desc := "(I)I" } : Jvm.MethodName)) ∈ lw_all := lw_g (lw_at lw_m11 160 rfl) rfl
theorem q2697 : (Jvm.Cond.selects "DialMenus" ({ cls := "DialMenus", name := "tend", desc := "(I)I" } : Jvm.MethodName) ({ cls := "DialMenus", name := "tend", desc := "(I)I" } : Jvm.MethodName)) ∈ lw_all := lw_g (lw_at lw_m11 161 rfl) rfl
theorem q2698 : (Jvm.Cond.code ({ cls := "DialMenus", name := "tend", desc := "(I)I" } : Jvm.MethodName) prog_1_method_54_code (2 : Nat) (Option.some Jvm.ClassFile.FieldType.int)) ∈ lw_all := lw_g (lw_at lw_m11 162 rfl) rfl
theorem q2699 : (Jvm.Cond.methodLink "DialMenus" (426 : Nat) ({ cls := "DialMenus", name := "tended", desc := "(I)I" } : Jvm.MethodName)) ∈ lw_all := lw_g (lw_at lw_m11 163 rfl) rfl
theorem q2700 : (Jvm.Cond.privateMethod ({ cls := "DialMenus", name := "tended", desc := "(I)I" } : Jvm.MethodName)) ∈ lw_tbl := lw_at lw_m11 164 rfl
theorem q2701 : (Jvm.Cond.instanceMethod ({ cls := "DialMenus", name := "tended", desc := "(I)I" } : Jvm.MethodName)) ∈ lw_all := lw_g (lw_at lw_m11 165 rfl) rfl
theorem q2702 : (Jvm.Cond.code ({ cls := "DialMenus", name := "tended", desc := "(I)I" } : Jvm.MethodName) prog_1_method_53_code (4 : Nat) (Option.some Jvm.ClassFile.FieldType.int)) ∈ lw_all := lw_g (lw_at lw_m11 166 rfl) rfl
theorem q2703 : (Jvm.Cond.methodLink "DialMenus" (419 : Nat) ({ cls := "DialMenus", name := "leastCost", desc := "(I)I" } : Jvm.MethodName)) ∈ lw_all := lw_g (lw_at lw_m11 167 rfl) rfl
theorem q2704 : (Jvm.Cond.privateMethod ({ cls := "DialMenus", name := "leastCost", desc := "(I)I" } : Jvm.MethodName)) ∈ lw_tbl := lw_at lw_m11 168 rfl
theorem q2705 : (Jvm.Cond.instanceMethod ({ cls := "DialMenus", name := "leastCost", desc := "(I)I" } : Jvm.MethodName)) ∈ lw_all := lw_g (lw_at lw_m11 169 rfl) rfl
theorem q2706 : (Jvm.Cond.code ({ cls := "DialMenus", name := "leastCost", desc := "(I)I" } : Jvm.MethodName) prog_1_method_50_code (2 : Nat) (Option.some Jvm.ClassFile.FieldType.int)) ∈ lw_all := lw_g (lw_at lw_m11 170 rfl) rfl
theorem q2707 : (Jvm.Cond.methodLink "DialMenus" (422 : Nat) ({ cls := "DialMenus", name := "changes", desc := "(LDialMenus$Menu;LDialMenus$Menu;)I" } : Jvm.MethodName)) ∈ lw_all := lw_g (lw_at lw_m11 171 rfl) rfl
theorem q2708 : (Jvm.Cond.privateMethod ({ cls := "DialMenus", name := "changes", desc := "(LDialMenus$Menu;LDialMenus$Menu;)I" } : Jvm.MethodName)) ∈ lw_tbl := lw_at lw_m11 172 rfl
theorem q2709 : (Jvm.Cond.instanceMethod ({ cls := "DialMenus", name := "changes", desc := "(LDialMenus$Menu;LDialMenus$Menu;)I" } : Jvm.MethodName)) ∈ lw_all := lw_g (lw_at lw_m11 173 rfl) rfl
theorem q2710 : (Jvm.Cond.code ({ cls := "DialMenus", name := "changes", desc := "(LDialMenus$Menu;LDialMenus$Menu;)I" } : Jvm.MethodName) prog_1_method_52_code (5 : Nat) (Option.some Jvm.ClassFile.FieldType.int)) ∈ lw_all := lw_g (lw_at lw_m11 174 rfl) rfl
theorem q2711 : (Jvm.Cond.methodLink "DialMenus" (418 : Nat) ({ cls := "java/util/LinkedList", name := "equals", desc := "(Ljava/lang/Object;)Z" } : Jvm.MethodName)) ∈ lw_all := lw_g (lw_at lw_m11 175 rfl) rfl
theorem q2735 : (Jvm.Cond.selects "DialMenus" ({ cls := "java/lang/Object", name := "equals", desc := "(Ljava/lang/Object;)Z" } : Jvm.MethodName) ({ cls := "java/lang/Object", name := "equals", desc := "(Ljava/lang/Object;)Z" } : Jvm.MethodName)) ∈ lw_all := lw_g (lw_at lw_m11 199 rfl) rfl
theorem q2751 : (Jvm.Cond.instanceMethod ({ cls := "DialMenus", name := "path", desc := "(II)I" } : Jvm.MethodName)) ∈ lw_all := lw_g (lw_at lw_m11 215 rfl) rfl
theorem q2752 : (Jvm.Cond.selects "DialMenus" ({ cls := "DialMenus", name := "path", desc := "(II)I" } : Jvm.MethodName) ({ cls := "DialMenus", name := "path", desc := "(II)I" } : Jvm.MethodName)) ∈ lw_all := lw_g (lw_at lw_m11 216 rfl) rfl
theorem q2753 : (Jvm.Cond.code ({ cls := "DialMenus", name := "path", desc := "(II)I" } : Jvm.MethodName) prog_1_method_55_code (3 : Nat) (Option.some Jvm.ClassFile.FieldType.int)) ∈ lw_all := lw_g (lw_at lw_m11 217 rfl) rfl
theorem q2755 : (Jvm.Cond.instanceMethod ({ cls := "DialMenus", name := "leads", desc := "(I)I" } : Jvm.MethodName)) ∈ lw_all := lw_g (lw_at lw_m11 219 rfl) rfl
theorem q2756 : (Jvm.Cond.selects "DialMenus" ({ cls := "DialMenus", name := "leads", desc := "(I)I" } : Jvm.MethodName) ({ cls := "DialMenus", name := "leads", desc := "(I)I" } : Jvm.MethodName)) ∈ lw_all := lw_g (lw_at lw_m11 220 rfl) rfl
theorem q2757 : (Jvm.Cond.code ({ cls := "DialMenus", name := "leads", desc := "(I)I" } : Jvm.MethodName) prog_1_method_57_code (2 : Nat) (Option.some Jvm.ClassFile.FieldType.int)) ∈ lw_all := lw_g (lw_at lw_m11 221 rfl) rfl
theorem q2758 : (Jvm.Cond.methodLink "DialMenus" (436 : Nat) ({ cls := "DialMenus", name := "leadsTo", desc := "(I)I" } : Jvm.MethodName)) ∈ lw_all := lw_g (lw_at lw_m11 222 rfl) rfl
theorem q2759 : (Jvm.Cond.privateMethod ({ cls := "DialMenus", name := "leadsTo", desc := "(I)I" } : Jvm.MethodName)) ∈ lw_tbl := lw_at lw_m11 223 rfl
theorem q2760 : (Jvm.Cond.instanceMethod ({ cls := "DialMenus", name := "leadsTo", desc := "(I)I" } : Jvm.MethodName)) ∈ lw_all := lw_g (lw_at lw_m11 224 rfl) rfl
theorem q2761 : (Jvm.Cond.code ({ cls := "DialMenus", name := "leadsTo", desc := "(I)I" } : Jvm.MethodName) prog_1_method_56_code (6 : Nat) (Option.some Jvm.ClassFile.FieldType.int)) ∈ lw_all := lw_g (lw_at lw_m11 225 rfl) rfl
theorem q2762 : (Jvm.Cond.methodLink "DialMenus" (429 : Nat) ({ cls := "java/util/LinkedList", name := "addFirst", desc := "(Ljava/lang/Object;)V" } : Jvm.MethodName)) ∈ lw_all := lw_g (lw_at lw_m11 226 rfl) rfl
theorem q2770 : (Jvm.Cond.methodLink "DialMenus" (432 : Nat) ({ cls := "java/util/LinkedList", name := "iterator", desc := "()Ljava/util/Iterator;" } : Jvm.MethodName)) ∈ lw_all := lw_g (lw_at lw_m11 234 rfl) rfl
theorem q2775 : (Jvm.Cond.instanceMethod ({ cls := "DialMenus", name := "menu", desc := "(I)I" } : Jvm.MethodName)) ∈ lw_all := lw_g (lw_at lw_m11 239 rfl) rfl
theorem q2776 : (Jvm.Cond.selects "DialMenus" ({ cls := "DialMenus", name := "menu", desc := "(I)I" } : Jvm.MethodName) ({ cls := "DialMenus", name := "menu", desc := "(I)I" } : Jvm.MethodName)) ∈ lw_all := lw_g (lw_at lw_m12 0 rfl) rfl
theorem q2777 : (Jvm.Cond.code ({ cls := "DialMenus", name := "menu", desc := "(I)I" } : Jvm.MethodName) prog_1_method_59_code (2 : Nat) (Option.some Jvm.ClassFile.FieldType.int)) ∈ lw_all := lw_g (lw_at lw_m12 1 rfl) rfl
theorem q2778 : (Jvm.Cond.methodLink "DialMenus" (445 : Nat) ({ cls := "DialMenus", name := "menuTold", desc := "(I)I" } : Jvm.MethodName)) ∈ lw_all := lw_g (lw_at lw_m12 2 rfl) rfl
theorem q2779 : (Jvm.Cond.privateMethod ({ cls := "DialMenus", name := "menuTold", desc := "(I)I" } : Jvm.MethodName)) ∈ lw_tbl := lw_at lw_m12 3 rfl
theorem q2780 : (Jvm.Cond.instanceMethod ({ cls := "DialMenus", name := "menuTold", desc := "(I)I" } : Jvm.MethodName)) ∈ lw_all := lw_g (lw_at lw_m12 4 rfl) rfl
theorem q2781 : (Jvm.Cond.code ({ cls := "DialMenus", name := "menuTold", desc := "(I)I" } : Jvm.MethodName) prog_1_method_58_code (2 : Nat) (Option.some Jvm.ClassFile.FieldType.int)) ∈ lw_all := lw_g (lw_at lw_m12 5 rfl) rfl
theorem q2782 : (Jvm.Cond.methodLink "DialMenus" (439 : Nat) ({ cls := "DialMenus$Menu", name := "deep", desc := "()I" } : Jvm.MethodName)) ∈ lw_all := lw_g (lw_at lw_m12 6 rfl) rfl
theorem q2788 : (Jvm.Cond.methodLink "DialMenus" (442 : Nat) ({ cls := "DialMenus$Menu", name := "many", desc := "()I" } : Jvm.MethodName)) ∈ lw_all := lw_g (lw_at lw_m12 12 rfl) rfl
theorem q2794 : (Jvm.Cond.instanceMethod ({ cls := "DialMenus", name := "count", desc := "(I)I" } : Jvm.MethodName)) ∈ lw_all := lw_g (lw_at lw_m12 18 rfl) rfl
theorem q2795 : (Jvm.Cond.selects "DialMenus" ({ cls := "DialMenus", name := "count", desc := "(I)I" } : Jvm.MethodName) ({ cls := "DialMenus", name := "count", desc := "(I)I" } : Jvm.MethodName)) ∈ lw_all := lw_g (lw_at lw_m12 19 rfl) rfl
theorem q2796 : (Jvm.Cond.code ({ cls := "DialMenus", name := "count", desc := "(I)I" } : Jvm.MethodName) prog_1_method_61_code (2 : Nat) (Option.some Jvm.ClassFile.FieldType.int)) ∈ lw_all := lw_g (lw_at lw_m12 20 rfl) rfl
theorem q2797 : (Jvm.Cond.methodLink "DialMenus" (448 : Nat) ({ cls := "DialMenus", name := "countOf", desc := "(I)I" } : Jvm.MethodName)) ∈ lw_all := lw_g (lw_at lw_m12 21 rfl) rfl
theorem q2798 : (Jvm.Cond.privateMethod ({ cls := "DialMenus", name := "countOf", desc := "(I)I" } : Jvm.MethodName)) ∈ lw_tbl := lw_at lw_m12 22 rfl
theorem q2799 : (Jvm.Cond.instanceMethod ({ cls := "DialMenus", name := "countOf", desc := "(I)I" } : Jvm.MethodName)) ∈ lw_all := lw_g (lw_at lw_m12 23 rfl) rfl
theorem q2800 : (Jvm.Cond.code ({ cls := "DialMenus", name := "countOf", desc := "(I)I" } : Jvm.MethodName) prog_1_method_60_code (2 : Nat) (Option.some Jvm.ClassFile.FieldType.int)) ∈ lw_all := lw_g (lw_at lw_m12 24 rfl) rfl
theorem q2802 : (Jvm.Cond.instanceMethod ({ cls := "DialMenus", name := "digest", desc := "()J" } : Jvm.MethodName)) ∈ lw_all := lw_g (lw_at lw_m12 26 rfl) rfl
theorem q2803 : (Jvm.Cond.selects "DialMenus" ({ cls := "DialMenus", name := "digest", desc := "()J" } : Jvm.MethodName) ({ cls := "DialMenus", name := "digest", desc := "()J" } : Jvm.MethodName)) ∈ lw_all := lw_g (lw_at lw_m12 27 rfl) rfl
theorem q2804 : (Jvm.Cond.code ({ cls := "DialMenus", name := "digest", desc := "()J" } : Jvm.MethodName) prog_1_method_66_code (4 : Nat) (Option.some Jvm.ClassFile.FieldType.long)) ∈ lw_all := lw_g (lw_at lw_m12 28 rfl) rfl
theorem q2805 : (Jvm.Cond.constantLong "DialMenus" (457 : Nat) (1571 : Int64)) ∈ lw_all := lw_g (lw_at lw_m12 29 rfl) rfl
theorem q2806 : (Jvm.Cond.methodLink "DialMenus" (453 : Nat) ({ cls := "DialMenus", name := "mixed", desc := "(JJ)J" } : Jvm.MethodName)) ∈ lw_all := lw_g (lw_at lw_m12 30 rfl) rfl
theorem q2807 : (Jvm.Cond.static ({ cls := "DialMenus", name := "mixed", desc := "(JJ)J" } : Jvm.MethodName)) ∈ lw_all := lw_g (lw_at lw_m12 31 rfl) rfl
theorem q2808 : (Jvm.Cond.code ({ cls := "DialMenus", name := "mixed", desc := "(JJ)J" } : Jvm.MethodName) prog_1_method_62_code (4 : Nat) (Option.some Jvm.ClassFile.FieldType.long)) ∈ lw_all := lw_g (lw_at lw_m12 32 rfl) rfl
theorem q2809 : (Jvm.Cond.constantLong "DialMenus" (451 : Nat) (31 : Int64)) ∈ lw_all := lw_g (lw_at lw_m12 33 rfl) rfl
theorem q2810 : (Jvm.Cond.methodLink "DialMenus" (459 : Nat) ({ cls := "DialMenus", name := "mixedNames", desc := "(J)J" } : Jvm.MethodName)) ∈ lw_all := lw_g (lw_at lw_m12 34 rfl) rfl
theorem q2811 : (Jvm.Cond.privateMethod ({ cls := "DialMenus", name := "mixedNames", desc := "(J)J" } : Jvm.MethodName)) ∈ lw_tbl := lw_at lw_m12 35 rfl
theorem q2812 : (Jvm.Cond.instanceMethod ({ cls := "DialMenus", name := "mixedNames", desc := "(J)J" } : Jvm.MethodName)) ∈ lw_all := lw_g (lw_at lw_m12 36 rfl) rfl
theorem q2813 : (Jvm.Cond.code ({ cls := "DialMenus", name := "mixedNames", desc := "(J)J" } : Jvm.MethodName) prog_1_method_63_code (8 : Nat) (Option.some Jvm.ClassFile.FieldType.long)) ∈ lw_all := lw_g (lw_at lw_m12 37 rfl) rfl
theorem q2814 : (Jvm.Cond.methodLink "DialMenus" (463 : Nat) ({ cls := "DialMenus", name := "mixedTyped", desc := "(J)J" } : Jvm.MethodName)) ∈ lw_all := lw_g (lw_at lw_m12 38 rfl) rfl
theorem q2815 : (Jvm.Cond.privateMethod ({ cls := "DialMenus", name := "mixedTyped", desc := "(J)J" } : Jvm.MethodName)) ∈ lw_tbl := lw_at lw_m12 39 rfl
theorem q2816 : (Jvm.Cond.instanceMethod ({ cls := "DialMenus", name := "mixedTyped", desc := "(J)J" } : Jvm.MethodName)) ∈ lw_all := lw_g (lw_at lw_m12 40 rfl) rfl
theorem q2817 : (Jvm.Cond.code ({ cls := "DialMenus", name := "mixedTyped", desc := "(J)J" } : Jvm.MethodName) prog_1_method_64_code (7 : Nat) (Option.some Jvm.ClassFile.FieldType.long)) ∈ lw_all := lw_g (lw_at lw_m12 41 rfl) rfl
theorem q2818 : (Jvm.Cond.methodLink "DialMenus" (466 : Nat) ({ cls := "DialMenus", name := "mixedMenu", desc := "(J)J" } : Jvm.MethodName)) ∈ lw_all := lw_g (lw_at lw_m12 42 rfl) rfl
theorem q2819 : (Jvm.Cond.privateMethod ({ cls := "DialMenus", name := "mixedMenu", desc := "(J)J" } : Jvm.MethodName)) ∈ lw_tbl := lw_at lw_m12 43 rfl
theorem q2820 : (Jvm.Cond.instanceMethod ({ cls := "DialMenus", name := "mixedMenu", desc := "(J)J" } : Jvm.MethodName)) ∈ lw_all := lw_g (lw_at lw_m12 44 rfl) rfl
theorem q2821 : (Jvm.Cond.code ({ cls := "DialMenus", name := "mixedMenu", desc := "(J)J" } : Jvm.MethodName) prog_1_method_65_code (8 : Nat) (Option.some Jvm.ClassFile.FieldType.long)) ∈ lw_all := lw_g (lw_at lw_m12 45 rfl) rfl
theorem q3323 : (Jvm.Cond.castable "DialMenus" "java/lang/Object") ∈ lw_tbl := lw_at lw_m14 67 rfl
theorem in_X0 : ∀ w ∈ wsX00, w ∈ lw_all := lw_in wsX00 [1037, 1039, 1041, 1043, 1045, 1047, 1049, 1051, 1053, 1055, 1057, 1059, 1061, 1063, 1065, 1067, 1069, 1071] (by decide +kernel) (by decide +kernel)
abbrev cX2_init : ByteArray := prog_5_method_1_code
def yX2_init : MethodName := ⟨RX2, "<init>", "(LDialMenus;)V"⟩
def dkwX2_init_1 : List UInt8 := [181, 0, 22, 177]
abbrev dktX2_init_1 : List UInt8 := dkwX2_init_1 ++ []
def dkwX2_init_0 : List UInt8 := [42, 43, 181, 0, 3, 42, 183, 0, 9, 42, 4, 181, 0, 15, 42, 187, 0, 19, 89, 183, 0, 21]
abbrev dktX2_init_0 : List UInt8 := dkwX2_init_0 ++ dktX2_init_1
theorem dksX2_init_0 : cX2_init.data.toList.drop 0 = dktX2_init_0 := by decide +kernel
theorem dksX2_init_1 : cX2_init.data.toList.drop 22 = dktX2_init_1 := dk_seg dksX2_init_0 22 rfl rfl
theorem dX2_init_0 : decode cX2_init 0 = .ok (.aload_n 0, 1) := dk_42 (dk_at dksX2_init_0 0 rfl rfl)
theorem dX2_init_1 : decode cX2_init 1 = .ok (.aload_n 1, 1) := dk_43 (dk_at dksX2_init_0 1 rfl rfl)
theorem dX2_init_2 : decode cX2_init 2 = .ok (.putfield 3, 3) := dk_181 0 3 (dk_at dksX2_init_0 2 rfl rfl)
theorem dX2_init_5 : decode cX2_init 5 = .ok (.aload_n 0, 1) := dk_42 (dk_at dksX2_init_0 5 rfl rfl)
theorem dX2_init_6 : decode cX2_init 6 = .ok (.invokespecial 9, 3) := dk_183 0 9 (dk_at dksX2_init_0 6 rfl rfl)
theorem dX2_init_9 : decode cX2_init 9 = .ok (.aload_n 0, 1) := dk_42 (dk_at dksX2_init_0 9 rfl rfl)
theorem dX2_init_10 : decode cX2_init 10 = .ok (.iconst 1, 1) := dk_4 (dk_at dksX2_init_0 10 rfl rfl)
theorem dX2_init_11 : decode cX2_init 11 = .ok (.putfield 15, 3) := dk_181 0 15 (dk_at dksX2_init_0 11 rfl rfl)
theorem dX2_init_14 : decode cX2_init 14 = .ok (.aload_n 0, 1) := dk_42 (dk_at dksX2_init_0 14 rfl rfl)
theorem dX2_init_15 : decode cX2_init 15 = .ok (.new 19, 3) := dk_187 0 19 (dk_at dksX2_init_0 15 rfl rfl)
theorem dX2_init_18 : decode cX2_init 18 = .ok (.dup, 1) := dk_89 (dk_at dksX2_init_0 18 rfl rfl)
theorem dX2_init_19 : decode cX2_init 19 = .ok (.invokespecial 21, 3) := dk_183 0 21 (dk_at dksX2_init_0 19 rfl rfl)
theorem dX2_init_22 : decode cX2_init 22 = .ok (.putfield 22, 3) := dk_181 0 22 (dk_at dksX2_init_1 0 rfl rfl)
theorem dX2_init_25 : decode cX2_init 25 = .ok (.return_, 1) := dk_177 (dk_at dksX2_init_1 3 rfl rfl)
abbrev cX2_all : ByteArray := prog_5_method_5_code
def yX2_all : MethodName := ⟨RX2, "all", "()LDialMenus$Reader;"⟩
def dkwX2_all_2 : List UInt8 := [42, 180, 0, 3, 180, 0, 30, 182, 0, 34, 160, 0, 7, 4, 167, 0, 4, 3, 126, 181, 0, 15, 42, 176]
abbrev dktX2_all_2 : List UInt8 := dkwX2_all_2 ++ []
def dkwX2_all_1 : List UInt8 := [180, 0, 26, 4, 96, 181, 0, 26, 42, 182, 0, 73, 167, 255, 226, 42, 89, 180, 0, 15, 42, 180, 0, 26]
abbrev dktX2_all_1 : List UInt8 := dkwX2_all_1 ++ dktX2_all_2
def dkwX2_all_0 : List UInt8 := [42, 182, 0, 73, 42, 180, 0, 15, 153, 0, 29, 42, 182, 0, 44, 16, 59, 160, 0, 20, 42, 89]
abbrev dktX2_all_0 : List UInt8 := dkwX2_all_0 ++ dktX2_all_1
theorem dksX2_all_0 : cX2_all.data.toList.drop 0 = dktX2_all_0 := by decide +kernel
theorem dksX2_all_1 : cX2_all.data.toList.drop 22 = dktX2_all_1 := dk_seg dksX2_all_0 22 rfl rfl
theorem dksX2_all_2 : cX2_all.data.toList.drop 46 = dktX2_all_2 := dk_seg dksX2_all_1 24 rfl rfl
theorem dX2_all_0 : decode cX2_all 0 = .ok (.aload_n 0, 1) := dk_42 (dk_at dksX2_all_0 0 rfl rfl)
theorem dX2_all_1 : decode cX2_all 1 = .ok (.invokevirtual 73, 3) := dk_182 0 73 (dk_at dksX2_all_0 1 rfl rfl)
theorem dX2_all_4 : decode cX2_all 4 = .ok (.aload_n 0, 1) := dk_42 (dk_at dksX2_all_0 4 rfl rfl)
theorem dX2_all_5 : decode cX2_all 5 = .ok (.getfield 15, 3) := dk_180 0 15 (dk_at dksX2_all_0 5 rfl rfl)
theorem dX2_all_8 : decode cX2_all 8 = .ok (.ifCond .eq 29, 3) := dk_153 0 29 (dk_at dksX2_all_0 8 rfl rfl)
theorem dX2_all_11 : decode cX2_all 11 = .ok (.aload_n 0, 1) := dk_42 (dk_at dksX2_all_0 11 rfl rfl)
theorem dX2_all_12 : decode cX2_all 12 = .ok (.invokevirtual 44, 3) := dk_182 0 44 (dk_at dksX2_all_0 12 rfl rfl)
theorem dX2_all_15 : decode cX2_all 15 = .ok (.bipush 59, 2) := dk_16 59 (dk_at dksX2_all_0 15 rfl rfl)
theorem dX2_all_17 : decode cX2_all 17 = .ok (.if_icmp .ne 20, 3) := dk_160 0 20 (dk_at dksX2_all_0 17 rfl rfl)
theorem dX2_all_20 : decode cX2_all 20 = .ok (.aload_n 0, 1) := dk_42 (dk_at dksX2_all_0 20 rfl rfl)
theorem dX2_all_21 : decode cX2_all 21 = .ok (.dup, 1) := dk_89 (dk_at dksX2_all_0 21 rfl rfl)
theorem dX2_all_22 : decode cX2_all 22 = .ok (.getfield 26, 3) := dk_180 0 26 (dk_at dksX2_all_1 0 rfl rfl)
theorem dX2_all_25 : decode cX2_all 25 = .ok (.iconst 1, 1) := dk_4 (dk_at dksX2_all_1 3 rfl rfl)
theorem dX2_all_26 : decode cX2_all 26 = .ok (.iadd, 1) := dk_96 (dk_at dksX2_all_1 4 rfl rfl)
theorem dX2_all_27 : decode cX2_all 27 = .ok (.putfield 26, 3) := dk_181 0 26 (dk_at dksX2_all_1 5 rfl rfl)
theorem dX2_all_30 : decode cX2_all 30 = .ok (.aload_n 0, 1) := dk_42 (dk_at dksX2_all_1 8 rfl rfl)
theorem dX2_all_31 : decode cX2_all 31 = .ok (.invokevirtual 73, 3) := dk_182 0 73 (dk_at dksX2_all_1 9 rfl rfl)
theorem dX2_all_34 : decode cX2_all 34 = .ok (.goto (-30), 3) := dk_167 255 226 (dk_at dksX2_all_1 12 rfl rfl)
theorem dX2_all_37 : decode cX2_all 37 = .ok (.aload_n 0, 1) := dk_42 (dk_at dksX2_all_1 15 rfl rfl)
theorem dX2_all_38 : decode cX2_all 38 = .ok (.dup, 1) := dk_89 (dk_at dksX2_all_1 16 rfl rfl)
theorem dX2_all_39 : decode cX2_all 39 = .ok (.getfield 15, 3) := dk_180 0 15 (dk_at dksX2_all_1 17 rfl rfl)
theorem dX2_all_42 : decode cX2_all 42 = .ok (.aload_n 0, 1) := dk_42 (dk_at dksX2_all_1 20 rfl rfl)
theorem dX2_all_43 : decode cX2_all 43 = .ok (.getfield 26, 3) := dk_180 0 26 (dk_at dksX2_all_1 21 rfl rfl)
theorem dX2_all_46 : decode cX2_all 46 = .ok (.aload_n 0, 1) := dk_42 (dk_at dksX2_all_2 0 rfl rfl)
theorem dX2_all_47 : decode cX2_all 47 = .ok (.getfield 3, 3) := dk_180 0 3 (dk_at dksX2_all_2 1 rfl rfl)
theorem dX2_all_50 : decode cX2_all 50 = .ok (.getfield 30, 3) := dk_180 0 30 (dk_at dksX2_all_2 4 rfl rfl)
theorem dX2_all_53 : decode cX2_all 53 = .ok (.invokevirtual 34, 3) := dk_182 0 34 (dk_at dksX2_all_2 7 rfl rfl)
theorem dX2_all_56 : decode cX2_all 56 = .ok (.if_icmp .ne 7, 3) := dk_160 0 7 (dk_at dksX2_all_2 10 rfl rfl)
theorem dX2_all_59 : decode cX2_all 59 = .ok (.iconst 1, 1) := dk_4 (dk_at dksX2_all_2 13 rfl rfl)
theorem dX2_all_60 : decode cX2_all 60 = .ok (.goto 4, 3) := dk_167 0 4 (dk_at dksX2_all_2 14 rfl rfl)
theorem dX2_all_63 : decode cX2_all 63 = .ok (.iconst 0, 1) := dk_3 (dk_at dksX2_all_2 17 rfl rfl)
theorem dX2_all_64 : decode cX2_all 64 = .ok (.iand, 1) := dk_126 (dk_at dksX2_all_2 18 rfl rfl)
theorem dX2_all_65 : decode cX2_all 65 = .ok (.putfield 15, 3) := dk_181 0 15 (dk_at dksX2_all_2 19 rfl rfl)
theorem dX2_all_68 : decode cX2_all 68 = .ok (.aload_n 0, 1) := dk_42 (dk_at dksX2_all_2 22 rfl rfl)
theorem dX2_all_69 : decode cX2_all 69 = .ok (.areturn, 1) := dk_176 (dk_at dksX2_all_2 23 rfl rfl)
abbrev cX2_one : ByteArray := prog_5_method_4_code
def yX2_one : MethodName := ⟨RX2, "one", "()V"⟩
def dkwX2_one_7 : List UInt8 := [153, 0, 16, 42, 180, 0, 22, 44, 29, 184, 0, 63, 182, 0, 69, 87, 177]
abbrev dktX2_one_7 : List UInt8 := dkwX2_one_7 ++ []
def dkwX2_one_6 : List UInt8 := [42, 182, 0, 44, 96, 16, 48, 100, 62, 42, 89, 180, 0, 26, 4, 96, 181, 0, 26, 42, 180, 0, 15]
abbrev dktX2_one_6 : List UInt8 := dkwX2_one_6 ++ dktX2_one_7
def dkwX2_one_5 : List UInt8 := [180, 0, 15, 153, 0, 40, 42, 182, 0, 44, 16, 48, 16, 57, 184, 0, 47, 153, 0, 26, 16, 10, 29, 104]
abbrev dktX2_one_5 : List UInt8 := dkwX2_one_5 ++ dktX2_one_6
def dkwX2_one_4 : List UInt8 := [182, 0, 51, 42, 182, 0, 44, 16, 48, 100, 62, 42, 29, 4, 16, 9, 184, 0, 47, 182, 0, 51, 42]
abbrev dktX2_one_4 : List UInt8 := dkwX2_one_4 ++ dktX2_one_5
def dkwX2_one_3 : List UInt8 := [182, 0, 44, 16, 58, 160, 0, 18, 42, 180, 0, 22, 44, 182, 0, 59, 154, 0, 7, 4, 167, 0, 4, 3]
abbrev dktX2_one_3 : List UInt8 := dkwX2_one_3 ++ dktX2_one_4
def dkwX2_one_2 : List UInt8 := [16, 8, 161, 255, 212, 42, 180, 0, 3, 180, 0, 30, 27, 42, 180, 0, 26, 182, 0, 55, 77, 42, 42]
abbrev dktX2_one_2 : List UInt8 := dkwX2_one_2 ++ dktX2_one_3
def dkwX2_one_1 : List UInt8 := [153, 0, 28, 42, 182, 0, 44, 16, 97, 16, 122, 184, 0, 47, 153, 0, 14, 42, 180, 0, 26, 27, 100]
abbrev dktX2_one_1 : List UInt8 := dkwX2_one_1 ++ dktX2_one_2
def dkwX2_one_0 : List UInt8 := [42, 180, 0, 26, 60, 42, 42, 182, 0, 44, 16, 97, 16, 122, 184, 0, 47, 182, 0, 51, 42, 180, 0, 15]
abbrev dktX2_one_0 : List UInt8 := dkwX2_one_0 ++ dktX2_one_1
theorem dksX2_one_0 : cX2_one.data.toList.drop 0 = dktX2_one_0 := by decide +kernel
theorem dksX2_one_1 : cX2_one.data.toList.drop 24 = dktX2_one_1 := dk_seg dksX2_one_0 24 rfl rfl
theorem dksX2_one_2 : cX2_one.data.toList.drop 47 = dktX2_one_2 := dk_seg dksX2_one_1 23 rfl rfl
theorem dksX2_one_3 : cX2_one.data.toList.drop 70 = dktX2_one_3 := dk_seg dksX2_one_2 23 rfl rfl
theorem dksX2_one_4 : cX2_one.data.toList.drop 94 = dktX2_one_4 := dk_seg dksX2_one_3 24 rfl rfl
theorem dksX2_one_5 : cX2_one.data.toList.drop 117 = dktX2_one_5 := dk_seg dksX2_one_4 23 rfl rfl
theorem dksX2_one_6 : cX2_one.data.toList.drop 141 = dktX2_one_6 := dk_seg dksX2_one_5 24 rfl rfl
theorem dksX2_one_7 : cX2_one.data.toList.drop 164 = dktX2_one_7 := dk_seg dksX2_one_6 23 rfl rfl
theorem dX2_one_0 : decode cX2_one 0 = .ok (.aload_n 0, 1) := dk_42 (dk_at dksX2_one_0 0 rfl rfl)
theorem dX2_one_1 : decode cX2_one 1 = .ok (.getfield 26, 3) := dk_180 0 26 (dk_at dksX2_one_0 1 rfl rfl)
theorem dX2_one_4 : decode cX2_one 4 = .ok (.istore_n 1, 1) := dk_60 (dk_at dksX2_one_0 4 rfl rfl)
theorem dX2_one_5 : decode cX2_one 5 = .ok (.aload_n 0, 1) := dk_42 (dk_at dksX2_one_0 5 rfl rfl)
theorem dX2_one_6 : decode cX2_one 6 = .ok (.aload_n 0, 1) := dk_42 (dk_at dksX2_one_0 6 rfl rfl)
theorem dX2_one_7 : decode cX2_one 7 = .ok (.invokevirtual 44, 3) := dk_182 0 44 (dk_at dksX2_one_0 7 rfl rfl)
theorem dX2_one_10 : decode cX2_one 10 = .ok (.bipush 97, 2) := dk_16 97 (dk_at dksX2_one_0 10 rfl rfl)
theorem dX2_one_12 : decode cX2_one 12 = .ok (.bipush 122, 2) := dk_16 122 (dk_at dksX2_one_0 12 rfl rfl)
theorem dX2_one_14 : decode cX2_one 14 = .ok (.invokestatic 47, 3) := dk_184 0 47 (dk_at dksX2_one_0 14 rfl rfl)
theorem dX2_one_17 : decode cX2_one 17 = .ok (.invokevirtual 51, 3) := dk_182 0 51 (dk_at dksX2_one_0 17 rfl rfl)
theorem dX2_one_20 : decode cX2_one 20 = .ok (.aload_n 0, 1) := dk_42 (dk_at dksX2_one_0 20 rfl rfl)
theorem dX2_one_21 : decode cX2_one 21 = .ok (.getfield 15, 3) := dk_180 0 15 (dk_at dksX2_one_0 21 rfl rfl)
theorem dX2_one_24 : decode cX2_one 24 = .ok (.ifCond .eq 28, 3) := dk_153 0 28 (dk_at dksX2_one_1 0 rfl rfl)
theorem dX2_one_27 : decode cX2_one 27 = .ok (.aload_n 0, 1) := dk_42 (dk_at dksX2_one_1 3 rfl rfl)
theorem dX2_one_28 : decode cX2_one 28 = .ok (.invokevirtual 44, 3) := dk_182 0 44 (dk_at dksX2_one_1 4 rfl rfl)
theorem dX2_one_31 : decode cX2_one 31 = .ok (.bipush 97, 2) := dk_16 97 (dk_at dksX2_one_1 7 rfl rfl)
theorem dX2_one_33 : decode cX2_one 33 = .ok (.bipush 122, 2) := dk_16 122 (dk_at dksX2_one_1 9 rfl rfl)
theorem dX2_one_35 : decode cX2_one 35 = .ok (.invokestatic 47, 3) := dk_184 0 47 (dk_at dksX2_one_1 11 rfl rfl)
theorem dX2_one_38 : decode cX2_one 38 = .ok (.ifCond .eq 14, 3) := dk_153 0 14 (dk_at dksX2_one_1 14 rfl rfl)
theorem dX2_one_41 : decode cX2_one 41 = .ok (.aload_n 0, 1) := dk_42 (dk_at dksX2_one_1 17 rfl rfl)
theorem dX2_one_42 : decode cX2_one 42 = .ok (.getfield 26, 3) := dk_180 0 26 (dk_at dksX2_one_1 18 rfl rfl)
theorem dX2_one_45 : decode cX2_one 45 = .ok (.iload_n 1, 1) := dk_27 (dk_at dksX2_one_1 21 rfl rfl)
theorem dX2_one_46 : decode cX2_one 46 = .ok (.isub, 1) := dk_100 (dk_at dksX2_one_1 22 rfl rfl)
theorem dX2_one_47 : decode cX2_one 47 = .ok (.bipush 8, 2) := dk_16 8 (dk_at dksX2_one_2 0 rfl rfl)
theorem dX2_one_49 : decode cX2_one 49 = .ok (.if_icmp .lt (-44), 3) := dk_161 255 212 (dk_at dksX2_one_2 2 rfl rfl)
theorem dX2_one_52 : decode cX2_one 52 = .ok (.aload_n 0, 1) := dk_42 (dk_at dksX2_one_2 5 rfl rfl)
theorem dX2_one_53 : decode cX2_one 53 = .ok (.getfield 3, 3) := dk_180 0 3 (dk_at dksX2_one_2 6 rfl rfl)
theorem dX2_one_56 : decode cX2_one 56 = .ok (.getfield 30, 3) := dk_180 0 30 (dk_at dksX2_one_2 9 rfl rfl)
theorem dX2_one_59 : decode cX2_one 59 = .ok (.iload_n 1, 1) := dk_27 (dk_at dksX2_one_2 12 rfl rfl)
theorem dX2_one_60 : decode cX2_one 60 = .ok (.aload_n 0, 1) := dk_42 (dk_at dksX2_one_2 13 rfl rfl)
theorem dX2_one_61 : decode cX2_one 61 = .ok (.getfield 26, 3) := dk_180 0 26 (dk_at dksX2_one_2 14 rfl rfl)
theorem dX2_one_64 : decode cX2_one 64 = .ok (.invokevirtual 55, 3) := dk_182 0 55 (dk_at dksX2_one_2 17 rfl rfl)
theorem dX2_one_67 : decode cX2_one 67 = .ok (.astore_n 2, 1) := dk_77 (dk_at dksX2_one_2 20 rfl rfl)
theorem dX2_one_68 : decode cX2_one 68 = .ok (.aload_n 0, 1) := dk_42 (dk_at dksX2_one_2 21 rfl rfl)
theorem dX2_one_69 : decode cX2_one 69 = .ok (.aload_n 0, 1) := dk_42 (dk_at dksX2_one_2 22 rfl rfl)
theorem dX2_one_70 : decode cX2_one 70 = .ok (.invokevirtual 44, 3) := dk_182 0 44 (dk_at dksX2_one_3 0 rfl rfl)
theorem dX2_one_73 : decode cX2_one 73 = .ok (.bipush 58, 2) := dk_16 58 (dk_at dksX2_one_3 3 rfl rfl)
theorem dX2_one_75 : decode cX2_one 75 = .ok (.if_icmp .ne 18, 3) := dk_160 0 18 (dk_at dksX2_one_3 5 rfl rfl)
theorem dX2_one_78 : decode cX2_one 78 = .ok (.aload_n 0, 1) := dk_42 (dk_at dksX2_one_3 8 rfl rfl)
theorem dX2_one_79 : decode cX2_one 79 = .ok (.getfield 22, 3) := dk_180 0 22 (dk_at dksX2_one_3 9 rfl rfl)
theorem dX2_one_82 : decode cX2_one 82 = .ok (.aload_n 2, 1) := dk_44 (dk_at dksX2_one_3 12 rfl rfl)
theorem dX2_one_83 : decode cX2_one 83 = .ok (.invokevirtual 59, 3) := dk_182 0 59 (dk_at dksX2_one_3 13 rfl rfl)
theorem dX2_one_86 : decode cX2_one 86 = .ok (.ifCond .ne 7, 3) := dk_154 0 7 (dk_at dksX2_one_3 16 rfl rfl)
theorem dX2_one_89 : decode cX2_one 89 = .ok (.iconst 1, 1) := dk_4 (dk_at dksX2_one_3 19 rfl rfl)
theorem dX2_one_90 : decode cX2_one 90 = .ok (.goto 4, 3) := dk_167 0 4 (dk_at dksX2_one_3 20 rfl rfl)
theorem dX2_one_93 : decode cX2_one 93 = .ok (.iconst 0, 1) := dk_3 (dk_at dksX2_one_3 23 rfl rfl)
theorem dX2_one_94 : decode cX2_one 94 = .ok (.invokevirtual 51, 3) := dk_182 0 51 (dk_at dksX2_one_4 0 rfl rfl)
theorem dX2_one_97 : decode cX2_one 97 = .ok (.aload_n 0, 1) := dk_42 (dk_at dksX2_one_4 3 rfl rfl)
theorem dX2_one_98 : decode cX2_one 98 = .ok (.invokevirtual 44, 3) := dk_182 0 44 (dk_at dksX2_one_4 4 rfl rfl)
theorem dX2_one_101 : decode cX2_one 101 = .ok (.bipush 48, 2) := dk_16 48 (dk_at dksX2_one_4 7 rfl rfl)
theorem dX2_one_103 : decode cX2_one 103 = .ok (.isub, 1) := dk_100 (dk_at dksX2_one_4 9 rfl rfl)
theorem dX2_one_104 : decode cX2_one 104 = .ok (.istore_n 3, 1) := dk_62 (dk_at dksX2_one_4 10 rfl rfl)
theorem dX2_one_105 : decode cX2_one 105 = .ok (.aload_n 0, 1) := dk_42 (dk_at dksX2_one_4 11 rfl rfl)
theorem dX2_one_106 : decode cX2_one 106 = .ok (.iload_n 3, 1) := dk_29 (dk_at dksX2_one_4 12 rfl rfl)
theorem dX2_one_107 : decode cX2_one 107 = .ok (.iconst 1, 1) := dk_4 (dk_at dksX2_one_4 13 rfl rfl)
theorem dX2_one_108 : decode cX2_one 108 = .ok (.bipush 9, 2) := dk_16 9 (dk_at dksX2_one_4 14 rfl rfl)
theorem dX2_one_110 : decode cX2_one 110 = .ok (.invokestatic 47, 3) := dk_184 0 47 (dk_at dksX2_one_4 16 rfl rfl)
theorem dX2_one_113 : decode cX2_one 113 = .ok (.invokevirtual 51, 3) := dk_182 0 51 (dk_at dksX2_one_4 19 rfl rfl)
theorem dX2_one_116 : decode cX2_one 116 = .ok (.aload_n 0, 1) := dk_42 (dk_at dksX2_one_4 22 rfl rfl)
theorem dX2_one_117 : decode cX2_one 117 = .ok (.getfield 15, 3) := dk_180 0 15 (dk_at dksX2_one_5 0 rfl rfl)
theorem dX2_one_120 : decode cX2_one 120 = .ok (.ifCond .eq 40, 3) := dk_153 0 40 (dk_at dksX2_one_5 3 rfl rfl)
theorem dX2_one_123 : decode cX2_one 123 = .ok (.aload_n 0, 1) := dk_42 (dk_at dksX2_one_5 6 rfl rfl)
theorem dX2_one_124 : decode cX2_one 124 = .ok (.invokevirtual 44, 3) := dk_182 0 44 (dk_at dksX2_one_5 7 rfl rfl)
theorem dX2_one_127 : decode cX2_one 127 = .ok (.bipush 48, 2) := dk_16 48 (dk_at dksX2_one_5 10 rfl rfl)
theorem dX2_one_129 : decode cX2_one 129 = .ok (.bipush 57, 2) := dk_16 57 (dk_at dksX2_one_5 12 rfl rfl)
theorem dX2_one_131 : decode cX2_one 131 = .ok (.invokestatic 47, 3) := dk_184 0 47 (dk_at dksX2_one_5 14 rfl rfl)
theorem dX2_one_134 : decode cX2_one 134 = .ok (.ifCond .eq 26, 3) := dk_153 0 26 (dk_at dksX2_one_5 17 rfl rfl)
theorem dX2_one_137 : decode cX2_one 137 = .ok (.bipush 10, 2) := dk_16 10 (dk_at dksX2_one_5 20 rfl rfl)
theorem dX2_one_139 : decode cX2_one 139 = .ok (.iload_n 3, 1) := dk_29 (dk_at dksX2_one_5 22 rfl rfl)
theorem dX2_one_140 : decode cX2_one 140 = .ok (.imul, 1) := dk_104 (dk_at dksX2_one_5 23 rfl rfl)
theorem dX2_one_141 : decode cX2_one 141 = .ok (.aload_n 0, 1) := dk_42 (dk_at dksX2_one_6 0 rfl rfl)
theorem dX2_one_142 : decode cX2_one 142 = .ok (.invokevirtual 44, 3) := dk_182 0 44 (dk_at dksX2_one_6 1 rfl rfl)
theorem dX2_one_145 : decode cX2_one 145 = .ok (.iadd, 1) := dk_96 (dk_at dksX2_one_6 4 rfl rfl)
theorem dX2_one_146 : decode cX2_one 146 = .ok (.bipush 48, 2) := dk_16 48 (dk_at dksX2_one_6 5 rfl rfl)
theorem dX2_one_148 : decode cX2_one 148 = .ok (.isub, 1) := dk_100 (dk_at dksX2_one_6 7 rfl rfl)
theorem dX2_one_149 : decode cX2_one 149 = .ok (.istore_n 3, 1) := dk_62 (dk_at dksX2_one_6 8 rfl rfl)
theorem dX2_one_150 : decode cX2_one 150 = .ok (.aload_n 0, 1) := dk_42 (dk_at dksX2_one_6 9 rfl rfl)
theorem dX2_one_151 : decode cX2_one 151 = .ok (.dup, 1) := dk_89 (dk_at dksX2_one_6 10 rfl rfl)
theorem dX2_one_152 : decode cX2_one 152 = .ok (.getfield 26, 3) := dk_180 0 26 (dk_at dksX2_one_6 11 rfl rfl)
theorem dX2_one_155 : decode cX2_one 155 = .ok (.iconst 1, 1) := dk_4 (dk_at dksX2_one_6 14 rfl rfl)
theorem dX2_one_156 : decode cX2_one 156 = .ok (.iadd, 1) := dk_96 (dk_at dksX2_one_6 15 rfl rfl)
theorem dX2_one_157 : decode cX2_one 157 = .ok (.putfield 26, 3) := dk_181 0 26 (dk_at dksX2_one_6 16 rfl rfl)
theorem dX2_one_160 : decode cX2_one 160 = .ok (.aload_n 0, 1) := dk_42 (dk_at dksX2_one_6 19 rfl rfl)
theorem dX2_one_161 : decode cX2_one 161 = .ok (.getfield 15, 3) := dk_180 0 15 (dk_at dksX2_one_6 20 rfl rfl)
theorem dX2_one_164 : decode cX2_one 164 = .ok (.ifCond .eq 16, 3) := dk_153 0 16 (dk_at dksX2_one_7 0 rfl rfl)
theorem dX2_one_167 : decode cX2_one 167 = .ok (.aload_n 0, 1) := dk_42 (dk_at dksX2_one_7 3 rfl rfl)
theorem dX2_one_168 : decode cX2_one 168 = .ok (.getfield 22, 3) := dk_180 0 22 (dk_at dksX2_one_7 4 rfl rfl)
theorem dX2_one_171 : decode cX2_one 171 = .ok (.aload_n 2, 1) := dk_44 (dk_at dksX2_one_7 7 rfl rfl)
theorem dX2_one_172 : decode cX2_one 172 = .ok (.iload_n 3, 1) := dk_29 (dk_at dksX2_one_7 8 rfl rfl)
theorem dX2_one_173 : decode cX2_one 173 = .ok (.invokestatic 63, 3) := dk_184 0 63 (dk_at dksX2_one_7 9 rfl rfl)
theorem dX2_one_176 : decode cX2_one 176 = .ok (.invokevirtual 69, 3) := dk_182 0 69 (dk_at dksX2_one_7 12 rfl rfl)
theorem dX2_one_179 : decode cX2_one 179 = .ok (.pop, 1) := dk_87 (dk_at dksX2_one_7 15 rfl rfl)
theorem dX2_one_180 : decode cX2_one 180 = .ok (.return_, 1) := dk_177 (dk_at dksX2_one_7 16 rfl rfl)
abbrev cX2_next : ByteArray := prog_5_method_2_code
def yX2_next : MethodName := ⟨RX2, "next", "()I"⟩
def dkwX2_next_1 : List UInt8 := [42, 180, 0, 26, 182, 0, 40, 167, 0, 4, 3, 172]
abbrev dktX2_next_1 : List UInt8 := dkwX2_next_1 ++ []
def dkwX2_next_0 : List UInt8 := [42, 180, 0, 26, 42, 180, 0, 3, 180, 0, 30, 182, 0, 34, 162, 0, 20, 42, 180, 0, 3, 180, 0, 30]
abbrev dktX2_next_0 : List UInt8 := dkwX2_next_0 ++ dktX2_next_1
theorem dksX2_next_0 : cX2_next.data.toList.drop 0 = dktX2_next_0 := by decide +kernel
theorem dksX2_next_1 : cX2_next.data.toList.drop 24 = dktX2_next_1 := dk_seg dksX2_next_0 24 rfl rfl
theorem dX2_next_0 : decode cX2_next 0 = .ok (.aload_n 0, 1) := dk_42 (dk_at dksX2_next_0 0 rfl rfl)
theorem dX2_next_1 : decode cX2_next 1 = .ok (.getfield 26, 3) := dk_180 0 26 (dk_at dksX2_next_0 1 rfl rfl)
theorem dX2_next_4 : decode cX2_next 4 = .ok (.aload_n 0, 1) := dk_42 (dk_at dksX2_next_0 4 rfl rfl)
theorem dX2_next_5 : decode cX2_next 5 = .ok (.getfield 3, 3) := dk_180 0 3 (dk_at dksX2_next_0 5 rfl rfl)
theorem dX2_next_8 : decode cX2_next 8 = .ok (.getfield 30, 3) := dk_180 0 30 (dk_at dksX2_next_0 8 rfl rfl)
theorem dX2_next_11 : decode cX2_next 11 = .ok (.invokevirtual 34, 3) := dk_182 0 34 (dk_at dksX2_next_0 11 rfl rfl)
theorem dX2_next_14 : decode cX2_next 14 = .ok (.if_icmp .ge 20, 3) := dk_162 0 20 (dk_at dksX2_next_0 14 rfl rfl)
theorem dX2_next_17 : decode cX2_next 17 = .ok (.aload_n 0, 1) := dk_42 (dk_at dksX2_next_0 17 rfl rfl)
theorem dX2_next_18 : decode cX2_next 18 = .ok (.getfield 3, 3) := dk_180 0 3 (dk_at dksX2_next_0 18 rfl rfl)
theorem dX2_next_21 : decode cX2_next 21 = .ok (.getfield 30, 3) := dk_180 0 30 (dk_at dksX2_next_0 21 rfl rfl)
theorem dX2_next_24 : decode cX2_next 24 = .ok (.aload_n 0, 1) := dk_42 (dk_at dksX2_next_1 0 rfl rfl)
theorem dX2_next_25 : decode cX2_next 25 = .ok (.getfield 26, 3) := dk_180 0 26 (dk_at dksX2_next_1 1 rfl rfl)
theorem dX2_next_28 : decode cX2_next 28 = .ok (.invokevirtual 40, 3) := dk_182 0 40 (dk_at dksX2_next_1 4 rfl rfl)
theorem dX2_next_31 : decode cX2_next 31 = .ok (.goto 4, 3) := dk_167 0 4 (dk_at dksX2_next_1 7 rfl rfl)
theorem dX2_next_34 : decode cX2_next 34 = .ok (.iconst 0, 1) := dk_3 (dk_at dksX2_next_1 10 rfl rfl)
theorem dX2_next_35 : decode cX2_next 35 = .ok (.ireturn, 1) := dk_172 (dk_at dksX2_next_1 11 rfl rfl)
abbrev cX2_want : ByteArray := prog_5_method_3_code
def yX2_want : MethodName := ⟨RX2, "want", "(Z)V"⟩
def dkwX2_want_1 : List UInt8 := [167, 0, 4, 3, 96, 181, 0, 26, 177]
abbrev dktX2_want_1 : List UInt8 := dkwX2_want_1 ++ []
def dkwX2_want_0 : List UInt8 := [42, 89, 180, 0, 15, 27, 126, 181, 0, 15, 42, 89, 180, 0, 26, 42, 180, 0, 15, 153, 0, 7, 4]
abbrev dktX2_want_0 : List UInt8 := dkwX2_want_0 ++ dktX2_want_1
theorem dksX2_want_0 : cX2_want.data.toList.drop 0 = dktX2_want_0 := by decide +kernel
theorem dksX2_want_1 : cX2_want.data.toList.drop 23 = dktX2_want_1 := dk_seg dksX2_want_0 23 rfl rfl
theorem dX2_want_0 : decode cX2_want 0 = .ok (.aload_n 0, 1) := dk_42 (dk_at dksX2_want_0 0 rfl rfl)
theorem dX2_want_1 : decode cX2_want 1 = .ok (.dup, 1) := dk_89 (dk_at dksX2_want_0 1 rfl rfl)
theorem dX2_want_2 : decode cX2_want 2 = .ok (.getfield 15, 3) := dk_180 0 15 (dk_at dksX2_want_0 2 rfl rfl)
theorem dX2_want_5 : decode cX2_want 5 = .ok (.iload_n 1, 1) := dk_27 (dk_at dksX2_want_0 5 rfl rfl)
theorem dX2_want_6 : decode cX2_want 6 = .ok (.iand, 1) := dk_126 (dk_at dksX2_want_0 6 rfl rfl)
theorem dX2_want_7 : decode cX2_want 7 = .ok (.putfield 15, 3) := dk_181 0 15 (dk_at dksX2_want_0 7 rfl rfl)
theorem dX2_want_10 : decode cX2_want 10 = .ok (.aload_n 0, 1) := dk_42 (dk_at dksX2_want_0 10 rfl rfl)
theorem dX2_want_11 : decode cX2_want 11 = .ok (.dup, 1) := dk_89 (dk_at dksX2_want_0 11 rfl rfl)
theorem dX2_want_12 : decode cX2_want 12 = .ok (.getfield 26, 3) := dk_180 0 26 (dk_at dksX2_want_0 12 rfl rfl)
theorem dX2_want_15 : decode cX2_want 15 = .ok (.aload_n 0, 1) := dk_42 (dk_at dksX2_want_0 15 rfl rfl)
theorem dX2_want_16 : decode cX2_want 16 = .ok (.getfield 15, 3) := dk_180 0 15 (dk_at dksX2_want_0 16 rfl rfl)
theorem dX2_want_19 : decode cX2_want 19 = .ok (.ifCond .eq 7, 3) := dk_153 0 7 (dk_at dksX2_want_0 19 rfl rfl)
theorem dX2_want_22 : decode cX2_want 22 = .ok (.iconst 1, 1) := dk_4 (dk_at dksX2_want_0 22 rfl rfl)
theorem dX2_want_23 : decode cX2_want 23 = .ok (.goto 4, 3) := dk_167 0 4 (dk_at dksX2_want_1 0 rfl rfl)
theorem dX2_want_26 : decode cX2_want 26 = .ok (.iconst 0, 1) := dk_3 (dk_at dksX2_want_1 3 rfl rfl)
theorem dX2_want_27 : decode cX2_want 27 = .ok (.iadd, 1) := dk_96 (dk_at dksX2_want_1 4 rfl rfl)
theorem dX2_want_28 : decode cX2_want 28 = .ok (.putfield 26, 3) := dk_181 0 26 (dk_at dksX2_want_1 5 rfl rfl)
theorem dX2_want_31 : decode cX2_want 31 = .ok (.return_, 1) := dk_177 (dk_at dksX2_want_1 8 rfl rfl)
theorem q174 : (Jvm.Cond.initialized "DialMenus$Reader") ∈ lw_all := lw_g (lw_at lw_m1 38 rfl) rfl
theorem q268 : (Jvm.Cond.selects "DialMenus$Reader" ({ cls := "java/lang/Object", name := "getClass", desc := "()Ljava/lang/Class;" } : Jvm.MethodName) ({ cls := "java/lang/Object", name := "getClass", desc := "()Ljava/lang/Class;" } : Jvm.MethodName)) ∈ lw_all := lw_g (lw_at lw_m1 132 rfl) rfl
theorem q1024 : (Jvm.Cond.fieldLinkNest "DialMenus$Reader" (30 : Nat) "DialMenus" "page" "Ljava/lang/StringBuilder;" "DialMenus") ∈ lw_tbl := lw_at lw_m4 168 rfl
theorem q1124 : (Jvm.Cond.instantiable "DialMenus$Reader" (4 : Nat)) ∈ lw_all := lw_g (lw_at lw_m5 28 rfl) rfl
theorem q1126 : (Jvm.Cond.instanceMethod ({ cls := "DialMenus$Reader", name := "<init>", desc := "(LDialMenus;)V" } : Jvm.MethodName)) ∈ lw_all := lw_g (lw_at lw_m5 30 rfl) rfl
theorem q1127 : (Jvm.Cond.code ({ cls := "DialMenus$Reader", name := "<init>", desc := "(LDialMenus;)V" } : Jvm.MethodName) prog_5_method_1_code (2 : Nat) (Option.none : Option Jvm.ClassFile.FieldType)) ∈ lw_all := lw_g (lw_at lw_m5 31 rfl) rfl
theorem q1128 : (Jvm.Cond.methodLink "DialMenus$Reader" (9 : Nat) ({ cls := "java/lang/Object", name := "<init>", desc := "()V" } : Jvm.MethodName)) ∈ lw_all := lw_g (lw_at lw_m5 32 rfl) rfl
theorem q1129 : (Jvm.Cond.classLink "DialMenus$Reader" (19 : Nat) "java/util/TreeMap") ∈ lw_all := lw_g (lw_at lw_m5 33 rfl) rfl
theorem q1131 : (Jvm.Cond.methodLink "DialMenus$Reader" (21 : Nat) ({ cls := "java/util/TreeMap", name := "<init>", desc := "()V" } : Jvm.MethodName)) ∈ lw_all := lw_g (lw_at lw_m5 35 rfl) rfl
theorem q1163 : (Jvm.Cond.fieldLink "DialMenus$Reader" (26 : Nat) "DialMenus$Reader" "place" "I") ∈ lw_all := lw_g (lw_at lw_m5 67 rfl) rfl
theorem q1165 : (Jvm.Cond.fieldLink "DialMenus$Reader" (15 : Nat) "DialMenus$Reader" "isGood" "Z") ∈ lw_all := lw_g (lw_at lw_m5 69 rfl) rfl
theorem q1167 : (Jvm.Cond.fieldLink "DialMenus$Reader" (22 : Nat) "DialMenus$Reader" "read" "Ljava/util/TreeMap;") ∈ lw_all := lw_g (lw_at lw_m5 71 rfl) rfl
theorem q1169 : (Jvm.Cond.fieldLink "DialMenus$Reader" (3 : Nat) "DialMenus$Reader" "this$0" "LDialMenus;") ∈ lw_all := lw_g (lw_at lw_m5 73 rfl) rfl
theorem q1170 : (Jvm.Cond.lays "DialMenus$Reader" "DialMenus$Reader" "place" "I") ∈ lw_all := lw_g (lw_at lw_m5 74 rfl) rfl
theorem q1171 : (Jvm.Cond.soleField "DialMenus$Reader" "place") ∈ lw_all := lw_g (lw_at lw_m5 75 rfl) rfl
theorem q1172 : (Jvm.Cond.lays "DialMenus$Reader" "DialMenus$Reader" "isGood" "Z") ∈ lw_all := lw_g (lw_at lw_m5 76 rfl) rfl
theorem q1173 : (Jvm.Cond.soleField "DialMenus$Reader" "isGood") ∈ lw_all := lw_g (lw_at lw_m5 77 rfl) rfl
theorem q1174 : (Jvm.Cond.laysFinal "DialMenus$Reader" "DialMenus$Reader" "read" "Ljava/util/TreeMap;") ∈ lw_all := lw_g (lw_at lw_m5 78 rfl) rfl
theorem q1175 : (Jvm.Cond.soleField "DialMenus$Reader" "read") ∈ lw_all := lw_g (lw_at lw_m5 79 rfl) rfl
theorem q1176 : (Jvm.Cond.laysFinal "DialMenus$Reader" "DialMenus$Reader" "this$0" "LDialMenus;") ∈ lw_all := lw_g (lw_at lw_m5 80 rfl) rfl
theorem q1177 : (Jvm.Cond.soleField "DialMenus$Reader" "this$0") ∈ lw_all := lw_g (lw_at lw_m5 81 rfl) rfl
theorem q1178 : (Jvm.Cond.superclass "DialMenus$Reader" "java/lang/Object") ∈ lw_all := lw_g (lw_at lw_m5 82 rfl) rfl
theorem q1180 : (Jvm.Cond.instanceMethod ({ cls := "DialMenus$Reader", name := "all", desc := "()LDialMenus$Reader;" } : Jvm.MethodName)) ∈ lw_all := lw_g (lw_at lw_m5 84 rfl) rfl
theorem q1181 : (Jvm.Cond.selects "DialMenus$Reader" ({ cls := "DialMenus$Reader", name := "all", desc := "()LDialMenus$Reader;" } : Jvm.MethodName) ({ cls := "DialMenus$Reader", name := "all", desc := "()LDialMenus$Reader;" } : Jvm.MethodName)) ∈ lw_all := lw_g (lw_at lw_m5 85 rfl) rfl
theorem q1182 : (Jvm.Cond.code ({ cls := "DialMenus$Reader", name := "all", desc := "()LDialMenus$Reader;" } : Jvm.MethodName) prog_5_method_5_code (1 : Nat) (Option.some (Jvm.ClassFile.FieldType.object "DialMenus$Reader"))) ∈ lw_all := lw_g (lw_at lw_m5 86 rfl) rfl
theorem q1183 : (Jvm.Cond.methodLink "DialMenus$Reader" (73 : Nat) ({ cls := "DialMenus$Reader", name := "one", desc := "()V" } : Jvm.MethodName)) ∈ lw_all := lw_g (lw_at lw_m5 87 rfl) rfl
theorem q1184 : (Jvm.Cond.privateMethod ({ cls := "DialMenus$Reader", name := "one", desc := "()V" } : Jvm.MethodName)) ∈ lw_tbl := lw_at lw_m5 88 rfl
theorem q1185 : (Jvm.Cond.instanceMethod ({ cls := "DialMenus$Reader", name := "one", desc := "()V" } : Jvm.MethodName)) ∈ lw_all := lw_g (lw_at lw_m5 89 rfl) rfl
theorem q1186 : (Jvm.Cond.code ({ cls := "DialMenus$Reader", name := "one", desc := "()V" } : Jvm.MethodName) prog_5_method_4_code (4 : Nat) (Option.none : Option Jvm.ClassFile.FieldType)) ∈ lw_all := lw_g (lw_at lw_m5 90 rfl) rfl
theorem q1187 : (Jvm.Cond.methodLink "DialMenus$Reader" (44 : Nat) ({ cls := "DialMenus$Reader", name := "next", desc := "()I" } : Jvm.MethodName)) ∈ lw_all := lw_g (lw_at lw_m5 91 rfl) rfl
theorem q1188 : (Jvm.Cond.privateMethod ({ cls := "DialMenus$Reader", name := "next", desc := "()I" } : Jvm.MethodName)) ∈ lw_tbl := lw_at lw_m5 92 rfl
theorem q1189 : (Jvm.Cond.instanceMethod ({ cls := "DialMenus$Reader", name := "next", desc := "()I" } : Jvm.MethodName)) ∈ lw_all := lw_g (lw_at lw_m5 93 rfl) rfl
theorem q1190 : (Jvm.Cond.code ({ cls := "DialMenus$Reader", name := "next", desc := "()I" } : Jvm.MethodName) prog_5_method_2_code (1 : Nat) (Option.some Jvm.ClassFile.FieldType.int)) ∈ lw_all := lw_g (lw_at lw_m5 94 rfl) rfl
theorem q1191 : (Jvm.Cond.methodLink "DialMenus$Reader" (34 : Nat) ({ cls := "java/lang/StringBuilder", name := "length", desc := "()I" } : Jvm.MethodName)) ∈ lw_all := lw_g (lw_at lw_m5 95 rfl) rfl
theorem q1192 : (Jvm.Cond.methodLink "DialMenus$Reader" (40 : Nat) ({ cls := "java/lang/StringBuilder", name := "charAt", desc := "(I)C" } : Jvm.MethodName)) ∈ lw_all := lw_g (lw_at lw_m5 96 rfl) rfl
theorem q1202 : (Jvm.Cond.methodLinkNest "DialMenus$Reader" (47 : Nat) ({ cls := "DialMenus", name := "in", desc := "(III)Z" } : Jvm.MethodName) "DialMenus") ∈ lw_tbl := lw_at lw_m5 106 rfl
theorem q1203 : (Jvm.Cond.methodLink "DialMenus$Reader" (51 : Nat) ({ cls := "DialMenus$Reader", name := "want", desc := "(Z)V" } : Jvm.MethodName)) ∈ lw_all := lw_g (lw_at lw_m5 107 rfl) rfl
theorem q1204 : (Jvm.Cond.privateMethod ({ cls := "DialMenus$Reader", name := "want", desc := "(Z)V" } : Jvm.MethodName)) ∈ lw_tbl := lw_at lw_m5 108 rfl
theorem q1205 : (Jvm.Cond.instanceMethod ({ cls := "DialMenus$Reader", name := "want", desc := "(Z)V" } : Jvm.MethodName)) ∈ lw_all := lw_g (lw_at lw_m5 109 rfl) rfl
theorem q1206 : (Jvm.Cond.code ({ cls := "DialMenus$Reader", name := "want", desc := "(Z)V" } : Jvm.MethodName) prog_5_method_3_code (2 : Nat) (Option.none : Option Jvm.ClassFile.FieldType)) ∈ lw_all := lw_g (lw_at lw_m5 110 rfl) rfl
theorem q1207 : (Jvm.Cond.methodLink "DialMenus$Reader" (55 : Nat) ({ cls := "java/lang/StringBuilder", name := "substring", desc := "(II)Ljava/lang/String;" } : Jvm.MethodName)) ∈ lw_all := lw_g (lw_at lw_m5 111 rfl) rfl
theorem q1234 : (Jvm.Cond.methodLink "DialMenus$Reader" (59 : Nat) ({ cls := "java/util/TreeMap", name := "containsKey", desc := "(Ljava/lang/Object;)Z" } : Jvm.MethodName)) ∈ lw_all := lw_g (lw_at lw_m5 138 rfl) rfl
theorem q1472 : (Jvm.Cond.methodLink "DialMenus$Reader" (63 : Nat) ({ cls := "java/lang/Integer", name := "valueOf", desc := "(I)Ljava/lang/Integer;" } : Jvm.MethodName)) ∈ lw_all := lw_g (lw_at lw_m6 136 rfl) rfl
theorem q1491 : (Jvm.Cond.methodLink "DialMenus$Reader" (69 : Nat) ({ cls := "java/util/TreeMap", name := "put", desc := "(Ljava/lang/Object;Ljava/lang/Object;)Ljava/lang/Object;" } : Jvm.MethodName)) ∈ lw_all := lw_g (lw_at lw_m6 155 rfl) rfl
theorem q2739 : (Jvm.Cond.selects "DialMenus$Reader" ({ cls := "java/lang/Object", name := "equals", desc := "(Ljava/lang/Object;)Z" } : Jvm.MethodName) ({ cls := "java/lang/Object", name := "equals", desc := "(Ljava/lang/Object;)Z" } : Jvm.MethodName)) ∈ lw_all := lw_g (lw_at lw_m11 203 rfl) rfl
theorem q3337 : (Jvm.Cond.castable "DialMenus$Reader" "java/lang/Object") ∈ lw_tbl := lw_at lw_m14 81 rfl
theorem in_X2 : ∀ w ∈ wsX20, w ∈ lw_all := lw_in wsX20 [1170, 1172, 1174, 1176] (by decide +kernel) (by decide +kernel)
abbrev cX3_compareTo : ByteArray := prog_4_method_8_code
def yX3_compareTo : MethodName := ⟨RX3, "compareTo", "(Ljava/lang/Object;)I"⟩
def dkwX3_compareTo_0 : List UInt8 := [42, 43, 192, 0, 2, 182, 0, 74, 172]
abbrev dktX3_compareTo_0 : List UInt8 := dkwX3_compareTo_0 ++ []
theorem dksX3_compareTo_0 : cX3_compareTo.data.toList.drop 0 = dktX3_compareTo_0 := by decide +kernel
theorem dX3_compareTo_0 : decode cX3_compareTo 0 = .ok (.aload_n 0, 1) := dk_42 (dk_at dksX3_compareTo_0 0 rfl rfl)
theorem dX3_compareTo_1 : decode cX3_compareTo 1 = .ok (.aload_n 1, 1) := dk_43 (dk_at dksX3_compareTo_0 1 rfl rfl)
theorem dX3_compareTo_2 : decode cX3_compareTo 2 = .ok (.checkcast 2, 3) := dk_192 0 2 (dk_at dksX3_compareTo_0 2 rfl rfl)
theorem dX3_compareTo_5 : decode cX3_compareTo 5 = .ok (.invokevirtual 74, 3) := dk_182 0 74 (dk_at dksX3_compareTo_0 5 rfl rfl)
theorem dX3_compareTo_8 : decode cX3_compareTo 8 = .ok (.ireturn, 1) := dk_172 (dk_at dksX3_compareTo_0 8 rfl rfl)
abbrev cX3_compareTo_2 : ByteArray := prog_4_method_7_code
def yX3_compareTo_2 : MethodName := ⟨RX3, "compareTo", "(LDialMenus$Name;)I"⟩
def dkwX3_compareTo_2_0 : List UInt8 := [42, 180, 0, 13, 43, 180, 0, 13, 182, 0, 70, 172]
abbrev dktX3_compareTo_2_0 : List UInt8 := dkwX3_compareTo_2_0 ++ []
theorem dksX3_compareTo_2_0 : cX3_compareTo_2.data.toList.drop 0 = dktX3_compareTo_2_0 := by decide +kernel
theorem dX3_compareTo_2_0 : decode cX3_compareTo_2 0 = .ok (.aload_n 0, 1) := dk_42 (dk_at dksX3_compareTo_2_0 0 rfl rfl)
theorem dX3_compareTo_2_1 : decode cX3_compareTo_2 1 = .ok (.getfield 13, 3) := dk_180 0 13 (dk_at dksX3_compareTo_2_0 1 rfl rfl)
theorem dX3_compareTo_2_4 : decode cX3_compareTo_2 4 = .ok (.aload_n 1, 1) := dk_43 (dk_at dksX3_compareTo_2_0 4 rfl rfl)
theorem dX3_compareTo_2_5 : decode cX3_compareTo_2 5 = .ok (.getfield 13, 3) := dk_180 0 13 (dk_at dksX3_compareTo_2_0 5 rfl rfl)
theorem dX3_compareTo_2_8 : decode cX3_compareTo_2 8 = .ok (.invokevirtual 70, 3) := dk_182 0 70 (dk_at dksX3_compareTo_2_0 8 rfl rfl)
theorem dX3_compareTo_2_11 : decode cX3_compareTo_2 11 = .ok (.ireturn, 1) := dk_172 (dk_at dksX3_compareTo_2_0 11 rfl rfl)
abbrev cX3_init : ByteArray := prog_4_method_1_code
def yX3_init : MethodName := ⟨RX3, "<init>", "(LDialMenus;Ljava/lang/String;I)V"⟩
def dkwX3_init_0 : List UInt8 := [42, 43, 181, 0, 1, 42, 183, 0, 7, 42, 44, 181, 0, 13, 42, 29, 181, 0, 17, 177]
abbrev dktX3_init_0 : List UInt8 := dkwX3_init_0 ++ []
theorem dksX3_init_0 : cX3_init.data.toList.drop 0 = dktX3_init_0 := by decide +kernel
theorem dX3_init_0 : decode cX3_init 0 = .ok (.aload_n 0, 1) := dk_42 (dk_at dksX3_init_0 0 rfl rfl)
theorem dX3_init_1 : decode cX3_init 1 = .ok (.aload_n 1, 1) := dk_43 (dk_at dksX3_init_0 1 rfl rfl)
theorem dX3_init_2 : decode cX3_init 2 = .ok (.putfield 1, 3) := dk_181 0 1 (dk_at dksX3_init_0 2 rfl rfl)
theorem dX3_init_5 : decode cX3_init 5 = .ok (.aload_n 0, 1) := dk_42 (dk_at dksX3_init_0 5 rfl rfl)
theorem dX3_init_6 : decode cX3_init 6 = .ok (.invokespecial 7, 3) := dk_183 0 7 (dk_at dksX3_init_0 6 rfl rfl)
theorem dX3_init_9 : decode cX3_init 9 = .ok (.aload_n 0, 1) := dk_42 (dk_at dksX3_init_0 9 rfl rfl)
theorem dX3_init_10 : decode cX3_init 10 = .ok (.aload_n 2, 1) := dk_44 (dk_at dksX3_init_0 10 rfl rfl)
theorem dX3_init_11 : decode cX3_init 11 = .ok (.putfield 13, 3) := dk_181 0 13 (dk_at dksX3_init_0 11 rfl rfl)
theorem dX3_init_14 : decode cX3_init 14 = .ok (.aload_n 0, 1) := dk_42 (dk_at dksX3_init_0 14 rfl rfl)
theorem dX3_init_15 : decode cX3_init 15 = .ok (.iload_n 3, 1) := dk_29 (dk_at dksX3_init_0 15 rfl rfl)
theorem dX3_init_16 : decode cX3_init 16 = .ok (.putfield 17, 3) := dk_181 0 17 (dk_at dksX3_init_0 16 rfl rfl)
theorem dX3_init_19 : decode cX3_init 19 = .ok (.return_, 1) := dk_177 (dk_at dksX3_init_0 19 rfl rfl)
abbrev cX3_length : ByteArray := prog_4_method_2_code
def yX3_length : MethodName := ⟨RX3, "length", "()I"⟩
def dkwX3_length_0 : List UInt8 := [42, 180, 0, 13, 182, 0, 21, 172]
abbrev dktX3_length_0 : List UInt8 := dkwX3_length_0 ++ []
theorem dksX3_length_0 : cX3_length.data.toList.drop 0 = dktX3_length_0 := by decide +kernel
theorem dX3_length_0 : decode cX3_length 0 = .ok (.aload_n 0, 1) := dk_42 (dk_at dksX3_length_0 0 rfl rfl)
theorem dX3_length_1 : decode cX3_length 1 = .ok (.getfield 13, 3) := dk_180 0 13 (dk_at dksX3_length_0 1 rfl rfl)
theorem dX3_length_4 : decode cX3_length 4 = .ok (.invokevirtual 21, 3) := dk_182 0 21 (dk_at dksX3_length_0 4 rfl rfl)
theorem dX3_length_7 : decode cX3_length 7 = .ok (.ireturn, 1) := dk_172 (dk_at dksX3_length_0 7 rfl rfl)
abbrev cX3_isTwin : ByteArray := prog_4_method_6_code
def yX3_isTwin : MethodName := ⟨RX3, "isTwin", "(LDialMenus$Name;)Z"⟩
def dkwX3_isTwin_1 : List UInt8 := [167, 0, 4, 3, 172]
abbrev dktX3_isTwin_1 : List UInt8 := dkwX3_isTwin_1 ++ []
def dkwX3_isTwin_0 : List UInt8 := [42, 182, 0, 42, 43, 182, 0, 42, 160, 0, 19, 42, 43, 182, 0, 66, 42, 182, 0, 42, 160, 0, 7, 4]
abbrev dktX3_isTwin_0 : List UInt8 := dkwX3_isTwin_0 ++ dktX3_isTwin_1
theorem dksX3_isTwin_0 : cX3_isTwin.data.toList.drop 0 = dktX3_isTwin_0 := by decide +kernel
theorem dksX3_isTwin_1 : cX3_isTwin.data.toList.drop 24 = dktX3_isTwin_1 := dk_seg dksX3_isTwin_0 24 rfl rfl
theorem dX3_isTwin_0 : decode cX3_isTwin 0 = .ok (.aload_n 0, 1) := dk_42 (dk_at dksX3_isTwin_0 0 rfl rfl)
theorem dX3_isTwin_1 : decode cX3_isTwin 1 = .ok (.invokevirtual 42, 3) := dk_182 0 42 (dk_at dksX3_isTwin_0 1 rfl rfl)
theorem dX3_isTwin_4 : decode cX3_isTwin 4 = .ok (.aload_n 1, 1) := dk_43 (dk_at dksX3_isTwin_0 4 rfl rfl)
theorem dX3_isTwin_5 : decode cX3_isTwin 5 = .ok (.invokevirtual 42, 3) := dk_182 0 42 (dk_at dksX3_isTwin_0 5 rfl rfl)
theorem dX3_isTwin_8 : decode cX3_isTwin 8 = .ok (.if_icmp .ne 19, 3) := dk_160 0 19 (dk_at dksX3_isTwin_0 8 rfl rfl)
theorem dX3_isTwin_11 : decode cX3_isTwin 11 = .ok (.aload_n 0, 1) := dk_42 (dk_at dksX3_isTwin_0 11 rfl rfl)
theorem dX3_isTwin_12 : decode cX3_isTwin 12 = .ok (.aload_n 1, 1) := dk_43 (dk_at dksX3_isTwin_0 12 rfl rfl)
theorem dX3_isTwin_13 : decode cX3_isTwin 13 = .ok (.invokevirtual 66, 3) := dk_182 0 66 (dk_at dksX3_isTwin_0 13 rfl rfl)
theorem dX3_isTwin_16 : decode cX3_isTwin 16 = .ok (.aload_n 0, 1) := dk_42 (dk_at dksX3_isTwin_0 16 rfl rfl)
theorem dX3_isTwin_17 : decode cX3_isTwin 17 = .ok (.invokevirtual 42, 3) := dk_182 0 42 (dk_at dksX3_isTwin_0 17 rfl rfl)
theorem dX3_isTwin_20 : decode cX3_isTwin 20 = .ok (.if_icmp .ne 7, 3) := dk_160 0 7 (dk_at dksX3_isTwin_0 20 rfl rfl)
theorem dX3_isTwin_23 : decode cX3_isTwin 23 = .ok (.iconst 1, 1) := dk_4 (dk_at dksX3_isTwin_0 23 rfl rfl)
theorem dX3_isTwin_24 : decode cX3_isTwin 24 = .ok (.goto 4, 3) := dk_167 0 4 (dk_at dksX3_isTwin_1 0 rfl rfl)
theorem dX3_isTwin_27 : decode cX3_isTwin 27 = .ok (.iconst 0, 1) := dk_3 (dk_at dksX3_isTwin_1 3 rfl rfl)
theorem dX3_isTwin_28 : decode cX3_isTwin 28 = .ok (.ireturn, 1) := dk_172 (dk_at dksX3_isTwin_1 4 rfl rfl)
abbrev cX3_common : ByteArray := prog_4_method_5_code
def yX3_common : MethodName := ⟨RX3, "common", "(LDialMenus$Name;)I"⟩
def dkwX3_common_1 : List UInt8 := [28, 182, 0, 62, 160, 0, 9, 132, 2, 1, 167, 255, 224, 28, 172]
abbrev dktX3_common_1 : List UInt8 := dkwX3_common_1 ++ []
def dkwX3_common_0 : List UInt8 := [3, 61, 28, 42, 182, 0, 42, 162, 0, 30, 28, 43, 182, 0, 42, 162, 0, 22, 42, 28, 182, 0, 62, 43]
abbrev dktX3_common_0 : List UInt8 := dkwX3_common_0 ++ dktX3_common_1
theorem dksX3_common_0 : cX3_common.data.toList.drop 0 = dktX3_common_0 := by decide +kernel
theorem dksX3_common_1 : cX3_common.data.toList.drop 24 = dktX3_common_1 := dk_seg dksX3_common_0 24 rfl rfl
theorem dX3_common_0 : decode cX3_common 0 = .ok (.iconst 0, 1) := dk_3 (dk_at dksX3_common_0 0 rfl rfl)
theorem dX3_common_1 : decode cX3_common 1 = .ok (.istore_n 2, 1) := dk_61 (dk_at dksX3_common_0 1 rfl rfl)
theorem dX3_common_2 : decode cX3_common 2 = .ok (.iload_n 2, 1) := dk_28 (dk_at dksX3_common_0 2 rfl rfl)
theorem dX3_common_3 : decode cX3_common 3 = .ok (.aload_n 0, 1) := dk_42 (dk_at dksX3_common_0 3 rfl rfl)
theorem dX3_common_4 : decode cX3_common 4 = .ok (.invokevirtual 42, 3) := dk_182 0 42 (dk_at dksX3_common_0 4 rfl rfl)
theorem dX3_common_7 : decode cX3_common 7 = .ok (.if_icmp .ge 30, 3) := dk_162 0 30 (dk_at dksX3_common_0 7 rfl rfl)
theorem dX3_common_10 : decode cX3_common 10 = .ok (.iload_n 2, 1) := dk_28 (dk_at dksX3_common_0 10 rfl rfl)
theorem dX3_common_11 : decode cX3_common 11 = .ok (.aload_n 1, 1) := dk_43 (dk_at dksX3_common_0 11 rfl rfl)
theorem dX3_common_12 : decode cX3_common 12 = .ok (.invokevirtual 42, 3) := dk_182 0 42 (dk_at dksX3_common_0 12 rfl rfl)
theorem dX3_common_15 : decode cX3_common 15 = .ok (.if_icmp .ge 22, 3) := dk_162 0 22 (dk_at dksX3_common_0 15 rfl rfl)
theorem dX3_common_18 : decode cX3_common 18 = .ok (.aload_n 0, 1) := dk_42 (dk_at dksX3_common_0 18 rfl rfl)
theorem dX3_common_19 : decode cX3_common 19 = .ok (.iload_n 2, 1) := dk_28 (dk_at dksX3_common_0 19 rfl rfl)
theorem dX3_common_20 : decode cX3_common 20 = .ok (.invokevirtual 62, 3) := dk_182 0 62 (dk_at dksX3_common_0 20 rfl rfl)
theorem dX3_common_23 : decode cX3_common 23 = .ok (.aload_n 1, 1) := dk_43 (dk_at dksX3_common_0 23 rfl rfl)
theorem dX3_common_24 : decode cX3_common 24 = .ok (.iload_n 2, 1) := dk_28 (dk_at dksX3_common_1 0 rfl rfl)
theorem dX3_common_25 : decode cX3_common 25 = .ok (.invokevirtual 62, 3) := dk_182 0 62 (dk_at dksX3_common_1 1 rfl rfl)
theorem dX3_common_28 : decode cX3_common 28 = .ok (.if_icmp .ne 9, 3) := dk_160 0 9 (dk_at dksX3_common_1 4 rfl rfl)
theorem dX3_common_31 : decode cX3_common 31 = .ok (.iinc 2 1, 3) := dk_132 2 1 (dk_at dksX3_common_1 7 rfl rfl)
theorem dX3_common_34 : decode cX3_common 34 = .ok (.goto (-32), 3) := dk_167 255 224 (dk_at dksX3_common_1 10 rfl rfl)
theorem dX3_common_37 : decode cX3_common 37 = .ok (.iload_n 2, 1) := dk_28 (dk_at dksX3_common_1 13 rfl rfl)
theorem dX3_common_38 : decode cX3_common 38 = .ok (.ireturn, 1) := dk_172 (dk_at dksX3_common_1 14 rfl rfl)
abbrev cX3_digit : ByteArray := prog_4_method_3_code
def yX3_digit : MethodName := ⟨RX3, "digit", "(I)I"⟩
def dkwX3_digit_0 : List UInt8 := [42, 180, 0, 1, 180, 0, 27, 42, 180, 0, 13, 27, 182, 0, 33, 16, 97, 100, 46, 172]
abbrev dktX3_digit_0 : List UInt8 := dkwX3_digit_0 ++ []
theorem dksX3_digit_0 : cX3_digit.data.toList.drop 0 = dktX3_digit_0 := by decide +kernel
theorem dX3_digit_0 : decode cX3_digit 0 = .ok (.aload_n 0, 1) := dk_42 (dk_at dksX3_digit_0 0 rfl rfl)
theorem dX3_digit_1 : decode cX3_digit 1 = .ok (.getfield 1, 3) := dk_180 0 1 (dk_at dksX3_digit_0 1 rfl rfl)
theorem dX3_digit_4 : decode cX3_digit 4 = .ok (.getfield 27, 3) := dk_180 0 27 (dk_at dksX3_digit_0 4 rfl rfl)
theorem dX3_digit_7 : decode cX3_digit 7 = .ok (.aload_n 0, 1) := dk_42 (dk_at dksX3_digit_0 7 rfl rfl)
theorem dX3_digit_8 : decode cX3_digit 8 = .ok (.getfield 13, 3) := dk_180 0 13 (dk_at dksX3_digit_0 8 rfl rfl)
theorem dX3_digit_11 : decode cX3_digit 11 = .ok (.iload_n 1, 1) := dk_27 (dk_at dksX3_digit_0 11 rfl rfl)
theorem dX3_digit_12 : decode cX3_digit 12 = .ok (.invokevirtual 33, 3) := dk_182 0 33 (dk_at dksX3_digit_0 12 rfl rfl)
theorem dX3_digit_15 : decode cX3_digit 15 = .ok (.bipush 97, 2) := dk_16 97 (dk_at dksX3_digit_0 15 rfl rfl)
theorem dX3_digit_17 : decode cX3_digit 17 = .ok (.isub, 1) := dk_100 (dk_at dksX3_digit_0 17 rfl rfl)
theorem dX3_digit_18 : decode cX3_digit 18 = .ok (.iaload, 1) := dk_46 (dk_at dksX3_digit_0 18 rfl rfl)
theorem dX3_digit_19 : decode cX3_digit 19 = .ok (.ireturn, 1) := dk_172 (dk_at dksX3_digit_0 19 rfl rfl)
abbrev cX3_isBegunBy : ByteArray := prog_4_method_4_code
def yX3_isBegunBy : MethodName := ⟨RX3, "isBegunBy", "(Ljava/util/List;)Z"⟩
def dkwX3_isBegunBy_3 : List UInt8 := [167, 0, 4, 3, 61, 132, 3, 1, 167, 255, 208, 28, 172]
abbrev dktX3_isBegunBy_3 : List UInt8 := dkwX3_isBegunBy_3 ++ []
def dkwX3_isBegunBy_2 : List UInt8 := [192, 0, 57, 182, 0, 59, 54, 5, 28, 153, 0, 17, 42, 29, 182, 0, 62, 21, 5, 160, 0, 7, 4]
abbrev dktX3_isBegunBy_2 : List UInt8 := dkwX3_isBegunBy_2 ++ dktX3_isBegunBy_3
def dkwX3_isBegunBy_1 : List UInt8 := [185, 0, 43, 1, 0, 58, 4, 25, 4, 185, 0, 47, 1, 0, 153, 0, 44, 25, 4, 185, 0, 53, 1, 0]
abbrev dktX3_isBegunBy_1 : List UInt8 := dkwX3_isBegunBy_1 ++ dktX3_isBegunBy_2
def dkwX3_isBegunBy_0 : List UInt8 := [43, 185, 0, 37, 1, 0, 42, 182, 0, 42, 163, 0, 7, 4, 167, 0, 4, 3, 61, 3, 62, 43]
abbrev dktX3_isBegunBy_0 : List UInt8 := dkwX3_isBegunBy_0 ++ dktX3_isBegunBy_1
theorem dksX3_isBegunBy_0 : cX3_isBegunBy.data.toList.drop 0 = dktX3_isBegunBy_0 := by decide +kernel
theorem dksX3_isBegunBy_1 : cX3_isBegunBy.data.toList.drop 22 = dktX3_isBegunBy_1 := dk_seg dksX3_isBegunBy_0 22 rfl rfl
theorem dksX3_isBegunBy_2 : cX3_isBegunBy.data.toList.drop 46 = dktX3_isBegunBy_2 := dk_seg dksX3_isBegunBy_1 24 rfl rfl
theorem dksX3_isBegunBy_3 : cX3_isBegunBy.data.toList.drop 69 = dktX3_isBegunBy_3 := dk_seg dksX3_isBegunBy_2 23 rfl rfl
theorem dX3_isBegunBy_0 : decode cX3_isBegunBy 0 = .ok (.aload_n 1, 1) := dk_43 (dk_at dksX3_isBegunBy_0 0 rfl rfl)
theorem dX3_isBegunBy_1 : decode cX3_isBegunBy 1 = .ok (.invokeinterface 37 1, 5) := by decide +kernel
theorem dX3_isBegunBy_6 : decode cX3_isBegunBy 6 = .ok (.aload_n 0, 1) := dk_42 (dk_at dksX3_isBegunBy_0 6 rfl rfl)
theorem dX3_isBegunBy_7 : decode cX3_isBegunBy 7 = .ok (.invokevirtual 42, 3) := dk_182 0 42 (dk_at dksX3_isBegunBy_0 7 rfl rfl)
theorem dX3_isBegunBy_10 : decode cX3_isBegunBy 10 = .ok (.if_icmp .gt 7, 3) := dk_163 0 7 (dk_at dksX3_isBegunBy_0 10 rfl rfl)
theorem dX3_isBegunBy_13 : decode cX3_isBegunBy 13 = .ok (.iconst 1, 1) := dk_4 (dk_at dksX3_isBegunBy_0 13 rfl rfl)
theorem dX3_isBegunBy_14 : decode cX3_isBegunBy 14 = .ok (.goto 4, 3) := dk_167 0 4 (dk_at dksX3_isBegunBy_0 14 rfl rfl)
theorem dX3_isBegunBy_17 : decode cX3_isBegunBy 17 = .ok (.iconst 0, 1) := dk_3 (dk_at dksX3_isBegunBy_0 17 rfl rfl)
theorem dX3_isBegunBy_18 : decode cX3_isBegunBy 18 = .ok (.istore_n 2, 1) := dk_61 (dk_at dksX3_isBegunBy_0 18 rfl rfl)
theorem dX3_isBegunBy_19 : decode cX3_isBegunBy 19 = .ok (.iconst 0, 1) := dk_3 (dk_at dksX3_isBegunBy_0 19 rfl rfl)
theorem dX3_isBegunBy_20 : decode cX3_isBegunBy 20 = .ok (.istore_n 3, 1) := dk_62 (dk_at dksX3_isBegunBy_0 20 rfl rfl)
theorem dX3_isBegunBy_21 : decode cX3_isBegunBy 21 = .ok (.aload_n 1, 1) := dk_43 (dk_at dksX3_isBegunBy_0 21 rfl rfl)
theorem dX3_isBegunBy_22 : decode cX3_isBegunBy 22 = .ok (.invokeinterface 43 1, 5) := by decide +kernel
theorem dX3_isBegunBy_27 : decode cX3_isBegunBy 27 = .ok (.astore 4, 2) := dk_58 4 (dk_at dksX3_isBegunBy_1 5 rfl rfl)
theorem dX3_isBegunBy_29 : decode cX3_isBegunBy 29 = .ok (.aload 4, 2) := dk_25 4 (dk_at dksX3_isBegunBy_1 7 rfl rfl)
theorem dX3_isBegunBy_31 : decode cX3_isBegunBy 31 = .ok (.invokeinterface 47 1, 5) := by decide +kernel
theorem dX3_isBegunBy_36 : decode cX3_isBegunBy 36 = .ok (.ifCond .eq 44, 3) := dk_153 0 44 (dk_at dksX3_isBegunBy_1 14 rfl rfl)
theorem dX3_isBegunBy_39 : decode cX3_isBegunBy 39 = .ok (.aload 4, 2) := dk_25 4 (dk_at dksX3_isBegunBy_1 17 rfl rfl)
theorem dX3_isBegunBy_41 : decode cX3_isBegunBy 41 = .ok (.invokeinterface 53 1, 5) := by decide +kernel
theorem dX3_isBegunBy_46 : decode cX3_isBegunBy 46 = .ok (.checkcast 57, 3) := dk_192 0 57 (dk_at dksX3_isBegunBy_2 0 rfl rfl)
theorem dX3_isBegunBy_49 : decode cX3_isBegunBy 49 = .ok (.invokevirtual 59, 3) := dk_182 0 59 (dk_at dksX3_isBegunBy_2 3 rfl rfl)
theorem dX3_isBegunBy_52 : decode cX3_isBegunBy 52 = .ok (.istore 5, 2) := dk_54 5 (dk_at dksX3_isBegunBy_2 6 rfl rfl)
theorem dX3_isBegunBy_54 : decode cX3_isBegunBy 54 = .ok (.iload_n 2, 1) := dk_28 (dk_at dksX3_isBegunBy_2 8 rfl rfl)
theorem dX3_isBegunBy_55 : decode cX3_isBegunBy 55 = .ok (.ifCond .eq 17, 3) := dk_153 0 17 (dk_at dksX3_isBegunBy_2 9 rfl rfl)
theorem dX3_isBegunBy_58 : decode cX3_isBegunBy 58 = .ok (.aload_n 0, 1) := dk_42 (dk_at dksX3_isBegunBy_2 12 rfl rfl)
theorem dX3_isBegunBy_59 : decode cX3_isBegunBy 59 = .ok (.iload_n 3, 1) := dk_29 (dk_at dksX3_isBegunBy_2 13 rfl rfl)
theorem dX3_isBegunBy_60 : decode cX3_isBegunBy 60 = .ok (.invokevirtual 62, 3) := dk_182 0 62 (dk_at dksX3_isBegunBy_2 14 rfl rfl)
theorem dX3_isBegunBy_63 : decode cX3_isBegunBy 63 = .ok (.iload 5, 2) := dk_21 5 (dk_at dksX3_isBegunBy_2 17 rfl rfl)
theorem dX3_isBegunBy_65 : decode cX3_isBegunBy 65 = .ok (.if_icmp .ne 7, 3) := dk_160 0 7 (dk_at dksX3_isBegunBy_2 19 rfl rfl)
theorem dX3_isBegunBy_68 : decode cX3_isBegunBy 68 = .ok (.iconst 1, 1) := dk_4 (dk_at dksX3_isBegunBy_2 22 rfl rfl)
theorem dX3_isBegunBy_69 : decode cX3_isBegunBy 69 = .ok (.goto 4, 3) := dk_167 0 4 (dk_at dksX3_isBegunBy_3 0 rfl rfl)
theorem dX3_isBegunBy_72 : decode cX3_isBegunBy 72 = .ok (.iconst 0, 1) := dk_3 (dk_at dksX3_isBegunBy_3 3 rfl rfl)
theorem dX3_isBegunBy_73 : decode cX3_isBegunBy 73 = .ok (.istore_n 2, 1) := dk_61 (dk_at dksX3_isBegunBy_3 4 rfl rfl)
theorem dX3_isBegunBy_74 : decode cX3_isBegunBy 74 = .ok (.iinc 3 1, 3) := dk_132 3 1 (dk_at dksX3_isBegunBy_3 5 rfl rfl)
theorem dX3_isBegunBy_77 : decode cX3_isBegunBy 77 = .ok (.goto (-48), 3) := dk_167 255 208 (dk_at dksX3_isBegunBy_3 8 rfl rfl)
theorem dX3_isBegunBy_80 : decode cX3_isBegunBy 80 = .ok (.iload_n 2, 1) := dk_28 (dk_at dksX3_isBegunBy_3 11 rfl rfl)
theorem dX3_isBegunBy_81 : decode cX3_isBegunBy 81 = .ok (.ireturn, 1) := dk_172 (dk_at dksX3_isBegunBy_3 12 rfl rfl)
theorem q186 : (Jvm.Cond.initialized "DialMenus$Name") ∈ lw_all := lw_g (lw_at lw_m1 50 rfl) rfl
theorem q267 : (Jvm.Cond.selects "DialMenus$Name" ({ cls := "java/lang/Object", name := "getClass", desc := "()Ljava/lang/Class;" } : Jvm.MethodName) ({ cls := "java/lang/Object", name := "getClass", desc := "()Ljava/lang/Class;" } : Jvm.MethodName)) ∈ lw_all := lw_g (lw_at lw_m1 131 rfl) rfl
theorem q1018 : (Jvm.Cond.fieldLinkNest "DialMenus$Name" (27 : Nat) "DialMenus" "digitOf" "[I" "DialMenus") ∈ lw_tbl := lw_at lw_m4 162 rfl
theorem q1267 : (Jvm.Cond.castable "DialMenus$Name" "java/lang/Comparable") ∈ lw_tbl := lw_at lw_m5 171 rfl
theorem q1268 : (Jvm.Cond.selects "DialMenus$Name" ({ cls := "java/lang/Comparable", name := "compareTo", desc := "(Ljava/lang/Object;)I" } : Jvm.MethodName) ({ cls := "DialMenus$Name", name := "compareTo", desc := "(Ljava/lang/Object;)I" } : Jvm.MethodName)) ∈ lw_all := lw_g (lw_at lw_m5 172 rfl) rfl
theorem q1269 : (Jvm.Cond.unhidden "DialMenus$Name" "compareTo" "(Ljava/lang/Object;)I") ∈ lw_tbl := lw_at lw_m5 173 rfl
theorem q1270 : (Jvm.Cond.instanceMethod ({ cls := "DialMenus$Name", name := "compareTo", desc := "(Ljava/lang/Object;)I" } : Jvm.MethodName)) ∈ lw_all := lw_g (lw_at lw_m5 174 rfl) rfl
theorem q1271 : (Jvm.Cond.publicMethod ({ cls := "DialMenus$Name", name := "compareTo", desc := "(Ljava/lang/Object;)I" } : Jvm.MethodName)) ∈ lw_tbl := lw_at lw_m5 175 rfl
theorem q1272 : (Jvm.Cond.code ({ cls := "DialMenus$Name", name := "compareTo", desc := "(Ljava/lang/Object;)I" } : Jvm.MethodName) prog_4_method_8_code (2 : Nat) (Option.some Jvm.ClassFile.FieldType.int)) ∈ lw_all := lw_g (lw_at lw_m5 176 rfl) rfl
theorem q1273 : (Jvm.Cond.classLink "DialMenus$Name" (2 : Nat) "DialMenus$Name") ∈ lw_all := lw_g (lw_at lw_m5 177 rfl) rfl
theorem q1274 : (Jvm.Cond.methodLink "DialMenus$Name" (74 : Nat) ({ cls := "DialMenus$Name", name := "compareTo", desc := "(LDialMenus$Name;)I" } : Jvm.MethodName)) ∈ lw_all := lw_g (lw_at lw_m5 178 rfl) rfl
theorem q1275 : (Jvm.Cond.instanceMethod ({ cls := "DialMenus$Name", name := "compareTo", desc := "(LDialMenus$Name;)I" } : Jvm.MethodName)) ∈ lw_all := lw_g (lw_at lw_m5 179 rfl) rfl
theorem q1276 : (Jvm.Cond.selects "DialMenus$Name" ({ cls := "DialMenus$Name", name := "compareTo", desc := "(LDialMenus$Name;)I" } : Jvm.MethodName) ({ cls := "DialMenus$Name", name := "compareTo", desc := "(LDialMenus$Name;)I" } : Jvm.MethodName)) ∈ lw_all := lw_g (lw_at lw_m5 180 rfl) rfl
theorem q1277 : (Jvm.Cond.code ({ cls := "DialMenus$Name", name := "compareTo", desc := "(LDialMenus$Name;)I" } : Jvm.MethodName) prog_4_method_7_code (2 : Nat) (Option.some Jvm.ClassFile.FieldType.int)) ∈ lw_all := lw_g (lw_at lw_m5 181 rfl) rfl
theorem q1278 : (Jvm.Cond.methodLink "DialMenus$Name" (70 : Nat) ({ cls := "java/lang/String", name := "compareTo", desc := "(Ljava/lang/String;)I" } : Jvm.MethodName)) ∈ lw_all := lw_g (lw_at lw_m5 182 rfl) rfl
theorem q1680 : (Jvm.Cond.instantiable "DialMenus$Name" (3 : Nat)) ∈ lw_all := lw_g (lw_at lw_m7 104 rfl) rfl
theorem q1691 : (Jvm.Cond.instanceMethod ({ cls := "DialMenus$Name", name := "<init>", desc := "(LDialMenus;Ljava/lang/String;I)V" } : Jvm.MethodName)) ∈ lw_all := lw_g (lw_at lw_m7 115 rfl) rfl
theorem q1692 : (Jvm.Cond.code ({ cls := "DialMenus$Name", name := "<init>", desc := "(LDialMenus;Ljava/lang/String;I)V" } : Jvm.MethodName) prog_4_method_1_code (4 : Nat) (Option.none : Option Jvm.ClassFile.FieldType)) ∈ lw_all := lw_g (lw_at lw_m7 116 rfl) rfl
theorem q1693 : (Jvm.Cond.methodLink "DialMenus$Name" (7 : Nat) ({ cls := "java/lang/Object", name := "<init>", desc := "()V" } : Jvm.MethodName)) ∈ lw_all := lw_g (lw_at lw_m7 117 rfl) rfl
theorem q1694 : (Jvm.Cond.fieldLink "DialMenus$Name" (13 : Nat) "DialMenus$Name" "text" "Ljava/lang/String;") ∈ lw_all := lw_g (lw_at lw_m7 118 rfl) rfl
theorem q1696 : (Jvm.Cond.fieldLink "DialMenus$Name" (17 : Nat) "DialMenus$Name" "use" "I") ∈ lw_all := lw_g (lw_at lw_m7 120 rfl) rfl
theorem q1698 : (Jvm.Cond.fieldLink "DialMenus$Name" (1 : Nat) "DialMenus$Name" "this$0" "LDialMenus;") ∈ lw_all := lw_g (lw_at lw_m7 122 rfl) rfl
theorem q1699 : (Jvm.Cond.laysFinal "DialMenus$Name" "DialMenus$Name" "text" "Ljava/lang/String;") ∈ lw_all := lw_g (lw_at lw_m7 123 rfl) rfl
theorem q1700 : (Jvm.Cond.soleField "DialMenus$Name" "text") ∈ lw_all := lw_g (lw_at lw_m7 124 rfl) rfl
theorem q1701 : (Jvm.Cond.lays "DialMenus$Name" "DialMenus$Name" "use" "I") ∈ lw_all := lw_g (lw_at lw_m7 125 rfl) rfl
theorem q1702 : (Jvm.Cond.soleField "DialMenus$Name" "use") ∈ lw_all := lw_g (lw_at lw_m7 126 rfl) rfl
theorem q1703 : (Jvm.Cond.laysFinal "DialMenus$Name" "DialMenus$Name" "this$0" "LDialMenus;") ∈ lw_all := lw_g (lw_at lw_m7 127 rfl) rfl
theorem q1704 : (Jvm.Cond.soleField "DialMenus$Name" "this$0") ∈ lw_all := lw_g (lw_at lw_m7 128 rfl) rfl
theorem q1705 : (Jvm.Cond.superclass "DialMenus$Name" "java/lang/Object") ∈ lw_all := lw_g (lw_at lw_m7 129 rfl) rfl
theorem q2245 : (Jvm.Cond.instanceMethod ({ cls := "DialMenus$Name", name := "length", desc := "()I" } : Jvm.MethodName)) ∈ lw_all := lw_g (lw_at lw_m9 189 rfl) rfl
theorem q2246 : (Jvm.Cond.selects "DialMenus$Name" ({ cls := "DialMenus$Name", name := "length", desc := "()I" } : Jvm.MethodName) ({ cls := "DialMenus$Name", name := "length", desc := "()I" } : Jvm.MethodName)) ∈ lw_all := lw_g (lw_at lw_m9 190 rfl) rfl
theorem q2247 : (Jvm.Cond.code ({ cls := "DialMenus$Name", name := "length", desc := "()I" } : Jvm.MethodName) prog_4_method_2_code (1 : Nat) (Option.some Jvm.ClassFile.FieldType.int)) ∈ lw_all := lw_g (lw_at lw_m9 191 rfl) rfl
theorem q2248 : (Jvm.Cond.methodLink "DialMenus$Name" (21 : Nat) ({ cls := "java/lang/String", name := "length", desc := "()I" } : Jvm.MethodName)) ∈ lw_all := lw_g (lw_at lw_m9 192 rfl) rfl
theorem q2278 : (Jvm.Cond.instanceMethod ({ cls := "DialMenus$Name", name := "isTwin", desc := "(LDialMenus$Name;)Z" } : Jvm.MethodName)) ∈ lw_all := lw_g (lw_at lw_m9 222 rfl) rfl
theorem q2279 : (Jvm.Cond.selects "DialMenus$Name" ({ cls := "DialMenus$Name", name := "isTwin", desc := "(LDialMenus$Name;)Z" } : Jvm.MethodName) ({ cls := "DialMenus$Name", name := "isTwin", desc := "(LDialMenus$Name;)Z" } : Jvm.MethodName)) ∈ lw_all := lw_g (lw_at lw_m9 223 rfl) rfl
theorem q2280 : (Jvm.Cond.code ({ cls := "DialMenus$Name", name := "isTwin", desc := "(LDialMenus$Name;)Z" } : Jvm.MethodName) prog_4_method_6_code (2 : Nat) (Option.some Jvm.ClassFile.FieldType.boolean)) ∈ lw_all := lw_g (lw_at lw_m9 224 rfl) rfl
theorem q2281 : (Jvm.Cond.methodLink "DialMenus$Name" (42 : Nat) ({ cls := "DialMenus$Name", name := "length", desc := "()I" } : Jvm.MethodName)) ∈ lw_all := lw_g (lw_at lw_m9 225 rfl) rfl
theorem q2282 : (Jvm.Cond.methodLink "DialMenus$Name" (66 : Nat) ({ cls := "DialMenus$Name", name := "common", desc := "(LDialMenus$Name;)I" } : Jvm.MethodName)) ∈ lw_all := lw_g (lw_at lw_m9 226 rfl) rfl
theorem q2283 : (Jvm.Cond.instanceMethod ({ cls := "DialMenus$Name", name := "common", desc := "(LDialMenus$Name;)I" } : Jvm.MethodName)) ∈ lw_all := lw_g (lw_at lw_m9 227 rfl) rfl
theorem q2284 : (Jvm.Cond.selects "DialMenus$Name" ({ cls := "DialMenus$Name", name := "common", desc := "(LDialMenus$Name;)I" } : Jvm.MethodName) ({ cls := "DialMenus$Name", name := "common", desc := "(LDialMenus$Name;)I" } : Jvm.MethodName)) ∈ lw_all := lw_g (lw_at lw_m9 228 rfl) rfl
theorem q2285 : (Jvm.Cond.code ({ cls := "DialMenus$Name", name := "common", desc := "(LDialMenus$Name;)I" } : Jvm.MethodName) prog_4_method_5_code (3 : Nat) (Option.some Jvm.ClassFile.FieldType.int)) ∈ lw_all := lw_g (lw_at lw_m9 229 rfl) rfl
theorem q2286 : (Jvm.Cond.methodLink "DialMenus$Name" (62 : Nat) ({ cls := "DialMenus$Name", name := "digit", desc := "(I)I" } : Jvm.MethodName)) ∈ lw_all := lw_g (lw_at lw_m9 230 rfl) rfl
theorem q2287 : (Jvm.Cond.instanceMethod ({ cls := "DialMenus$Name", name := "digit", desc := "(I)I" } : Jvm.MethodName)) ∈ lw_all := lw_g (lw_at lw_m9 231 rfl) rfl
theorem q2288 : (Jvm.Cond.selects "DialMenus$Name" ({ cls := "DialMenus$Name", name := "digit", desc := "(I)I" } : Jvm.MethodName) ({ cls := "DialMenus$Name", name := "digit", desc := "(I)I" } : Jvm.MethodName)) ∈ lw_all := lw_g (lw_at lw_m9 232 rfl) rfl
theorem q2289 : (Jvm.Cond.code ({ cls := "DialMenus$Name", name := "digit", desc := "(I)I" } : Jvm.MethodName) prog_4_method_3_code (2 : Nat) (Option.some Jvm.ClassFile.FieldType.int)) ∈ lw_all := lw_g (lw_at lw_m9 233 rfl) rfl
theorem q2290 : (Jvm.Cond.methodLink "DialMenus$Name" (33 : Nat) ({ cls := "java/lang/String", name := "charAt", desc := "(I)C" } : Jvm.MethodName)) ∈ lw_all := lw_g (lw_at lw_m9 234 rfl) rfl
theorem q2563 : (Jvm.Cond.instanceMethod ({ cls := "DialMenus$Name", name := "isBegunBy", desc := "(Ljava/util/List;)Z" } : Jvm.MethodName)) ∈ lw_all := lw_g (lw_at lw_m11 27 rfl) rfl
theorem q2564 : (Jvm.Cond.selects "DialMenus$Name" ({ cls := "DialMenus$Name", name := "isBegunBy", desc := "(Ljava/util/List;)Z" } : Jvm.MethodName) ({ cls := "DialMenus$Name", name := "isBegunBy", desc := "(Ljava/util/List;)Z" } : Jvm.MethodName)) ∈ lw_all := lw_g (lw_at lw_m11 28 rfl) rfl
theorem q2565 : (Jvm.Cond.code ({ cls := "DialMenus$Name", name := "isBegunBy", desc := "(Ljava/util/List;)Z" } : Jvm.MethodName) prog_4_method_4_code (6 : Nat) (Option.some Jvm.ClassFile.FieldType.boolean)) ∈ lw_all := lw_g (lw_at lw_m11 29 rfl) rfl
theorem q2566 : (Jvm.Cond.interfaceEntry "DialMenus$Name" (37 : Nat)) ∈ lw_tbl := lw_at lw_m11 30 rfl
theorem q2567 : (Jvm.Cond.methodLink "DialMenus$Name" (37 : Nat) ({ cls := "java/util/List", name := "size", desc := "()I" } : Jvm.MethodName)) ∈ lw_all := lw_g (lw_at lw_m11 31 rfl) rfl
theorem q2582 : (Jvm.Cond.interfaceEntry "DialMenus$Name" (43 : Nat)) ∈ lw_tbl := lw_at lw_m11 46 rfl
theorem q2583 : (Jvm.Cond.methodLink "DialMenus$Name" (43 : Nat) ({ cls := "java/util/List", name := "iterator", desc := "()Ljava/util/Iterator;" } : Jvm.MethodName)) ∈ lw_all := lw_g (lw_at lw_m11 47 rfl) rfl
theorem q2584 : (Jvm.Cond.interfaceEntry "DialMenus$Name" (47 : Nat)) ∈ lw_tbl := lw_at lw_m11 48 rfl
theorem q2585 : (Jvm.Cond.methodLink "DialMenus$Name" (47 : Nat) ({ cls := "java/util/Iterator", name := "hasNext", desc := "()Z" } : Jvm.MethodName)) ∈ lw_all := lw_g (lw_at lw_m11 49 rfl) rfl
theorem q2586 : (Jvm.Cond.interfaceEntry "DialMenus$Name" (53 : Nat)) ∈ lw_tbl := lw_at lw_m11 50 rfl
theorem q2587 : (Jvm.Cond.methodLink "DialMenus$Name" (53 : Nat) ({ cls := "java/util/Iterator", name := "next", desc := "()Ljava/lang/Object;" } : Jvm.MethodName)) ∈ lw_all := lw_g (lw_at lw_m11 51 rfl) rfl
theorem q2588 : (Jvm.Cond.classLink "DialMenus$Name" (57 : Nat) "java/lang/Integer") ∈ lw_all := lw_g (lw_at lw_m11 52 rfl) rfl
theorem q2589 : (Jvm.Cond.methodLink "DialMenus$Name" (59 : Nat) ({ cls := "java/lang/Integer", name := "intValue", desc := "()I" } : Jvm.MethodName)) ∈ lw_all := lw_g (lw_at lw_m11 53 rfl) rfl
theorem q2738 : (Jvm.Cond.selects "DialMenus$Name" ({ cls := "java/lang/Object", name := "equals", desc := "(Ljava/lang/Object;)Z" } : Jvm.MethodName) ({ cls := "java/lang/Object", name := "equals", desc := "(Ljava/lang/Object;)Z" } : Jvm.MethodName)) ∈ lw_all := lw_g (lw_at lw_m11 202 rfl) rfl
theorem q3344 : (Jvm.Cond.castable "DialMenus$Name" "java/lang/Object") ∈ lw_tbl := lw_at lw_m14 88 rfl
theorem in_X3 : ∀ w ∈ wsX30, w ∈ lw_all := lw_in wsX30 [1699, 1701, 1703] (by decide +kernel) (by decide +kernel)
abbrev cX4_compareTo : ByteArray := prog_2_method_3_code
def yX4_compareTo : MethodName := ⟨RX4, "compareTo", "(Ljava/lang/Object;)I"⟩
def dkwX4_compareTo_0 : List UInt8 := [42, 43, 192, 0, 8, 182, 0, 16, 172]
abbrev dktX4_compareTo_0 : List UInt8 := dkwX4_compareTo_0 ++ []
theorem dksX4_compareTo_0 : cX4_compareTo.data.toList.drop 0 = dktX4_compareTo_0 := by decide +kernel
theorem dX4_compareTo_0 : decode cX4_compareTo 0 = .ok (.aload_n 0, 1) := dk_42 (dk_at dksX4_compareTo_0 0 rfl rfl)
theorem dX4_compareTo_1 : decode cX4_compareTo 1 = .ok (.aload_n 1, 1) := dk_43 (dk_at dksX4_compareTo_0 1 rfl rfl)
theorem dX4_compareTo_2 : decode cX4_compareTo 2 = .ok (.checkcast 8, 3) := dk_192 0 8 (dk_at dksX4_compareTo_0 2 rfl rfl)
theorem dX4_compareTo_5 : decode cX4_compareTo 5 = .ok (.invokevirtual 16, 3) := dk_182 0 16 (dk_at dksX4_compareTo_0 5 rfl rfl)
theorem dX4_compareTo_8 : decode cX4_compareTo 8 = .ok (.ireturn, 1) := dk_172 (dk_at dksX4_compareTo_0 8 rfl rfl)
abbrev cX4_compareTo_2 : ByteArray := prog_2_method_2_code
def yX4_compareTo_2 : MethodName := ⟨RX4, "compareTo", "(LDialMenus$Chosen;)I"⟩
def dkwX4_compareTo_2_1 : List UInt8 := [180, 0, 7, 43, 180, 0, 7, 100, 172]
abbrev dktX4_compareTo_2_1 : List UInt8 := dkwX4_compareTo_2_1 ++ []
def dkwX4_compareTo_2_0 : List UInt8 := [42, 180, 0, 13, 43, 180, 0, 13, 159, 0, 15, 43, 180, 0, 13, 42, 180, 0, 13, 100, 167, 0, 12, 42]
abbrev dktX4_compareTo_2_0 : List UInt8 := dkwX4_compareTo_2_0 ++ dktX4_compareTo_2_1
theorem dksX4_compareTo_2_0 : cX4_compareTo_2.data.toList.drop 0 = dktX4_compareTo_2_0 := by decide +kernel
theorem dksX4_compareTo_2_1 : cX4_compareTo_2.data.toList.drop 24 = dktX4_compareTo_2_1 := dk_seg dksX4_compareTo_2_0 24 rfl rfl
theorem dX4_compareTo_2_0 : decode cX4_compareTo_2 0 = .ok (.aload_n 0, 1) := dk_42 (dk_at dksX4_compareTo_2_0 0 rfl rfl)
theorem dX4_compareTo_2_1 : decode cX4_compareTo_2 1 = .ok (.getfield 13, 3) := dk_180 0 13 (dk_at dksX4_compareTo_2_0 1 rfl rfl)
theorem dX4_compareTo_2_4 : decode cX4_compareTo_2 4 = .ok (.aload_n 1, 1) := dk_43 (dk_at dksX4_compareTo_2_0 4 rfl rfl)
theorem dX4_compareTo_2_5 : decode cX4_compareTo_2 5 = .ok (.getfield 13, 3) := dk_180 0 13 (dk_at dksX4_compareTo_2_0 5 rfl rfl)
theorem dX4_compareTo_2_8 : decode cX4_compareTo_2 8 = .ok (.if_icmp .eq 15, 3) := dk_159 0 15 (dk_at dksX4_compareTo_2_0 8 rfl rfl)
theorem dX4_compareTo_2_11 : decode cX4_compareTo_2 11 = .ok (.aload_n 1, 1) := dk_43 (dk_at dksX4_compareTo_2_0 11 rfl rfl)
theorem dX4_compareTo_2_12 : decode cX4_compareTo_2 12 = .ok (.getfield 13, 3) := dk_180 0 13 (dk_at dksX4_compareTo_2_0 12 rfl rfl)
theorem dX4_compareTo_2_15 : decode cX4_compareTo_2 15 = .ok (.aload_n 0, 1) := dk_42 (dk_at dksX4_compareTo_2_0 15 rfl rfl)
theorem dX4_compareTo_2_16 : decode cX4_compareTo_2 16 = .ok (.getfield 13, 3) := dk_180 0 13 (dk_at dksX4_compareTo_2_0 16 rfl rfl)
theorem dX4_compareTo_2_19 : decode cX4_compareTo_2 19 = .ok (.isub, 1) := dk_100 (dk_at dksX4_compareTo_2_0 19 rfl rfl)
theorem dX4_compareTo_2_20 : decode cX4_compareTo_2 20 = .ok (.goto 12, 3) := dk_167 0 12 (dk_at dksX4_compareTo_2_0 20 rfl rfl)
theorem dX4_compareTo_2_23 : decode cX4_compareTo_2 23 = .ok (.aload_n 0, 1) := dk_42 (dk_at dksX4_compareTo_2_0 23 rfl rfl)
theorem dX4_compareTo_2_24 : decode cX4_compareTo_2 24 = .ok (.getfield 7, 3) := dk_180 0 7 (dk_at dksX4_compareTo_2_1 0 rfl rfl)
theorem dX4_compareTo_2_27 : decode cX4_compareTo_2 27 = .ok (.aload_n 1, 1) := dk_43 (dk_at dksX4_compareTo_2_1 3 rfl rfl)
theorem dX4_compareTo_2_28 : decode cX4_compareTo_2 28 = .ok (.getfield 7, 3) := dk_180 0 7 (dk_at dksX4_compareTo_2_1 4 rfl rfl)
theorem dX4_compareTo_2_31 : decode cX4_compareTo_2 31 = .ok (.isub, 1) := dk_100 (dk_at dksX4_compareTo_2_1 7 rfl rfl)
theorem dX4_compareTo_2_32 : decode cX4_compareTo_2 32 = .ok (.ireturn, 1) := dk_172 (dk_at dksX4_compareTo_2_1 8 rfl rfl)
abbrev cX4_init : ByteArray := prog_2_method_1_code
def yX4_init : MethodName := ⟨RX4, "<init>", "(II)V"⟩
def dkwX4_init_0 : List UInt8 := [42, 183, 0, 1, 42, 27, 181, 0, 7, 42, 28, 181, 0, 13, 177]
abbrev dktX4_init_0 : List UInt8 := dkwX4_init_0 ++ []
theorem dksX4_init_0 : cX4_init.data.toList.drop 0 = dktX4_init_0 := by decide +kernel
theorem dX4_init_0 : decode cX4_init 0 = .ok (.aload_n 0, 1) := dk_42 (dk_at dksX4_init_0 0 rfl rfl)
theorem dX4_init_1 : decode cX4_init 1 = .ok (.invokespecial 1, 3) := dk_183 0 1 (dk_at dksX4_init_0 1 rfl rfl)
theorem dX4_init_4 : decode cX4_init 4 = .ok (.aload_n 0, 1) := dk_42 (dk_at dksX4_init_0 4 rfl rfl)
theorem dX4_init_5 : decode cX4_init 5 = .ok (.iload_n 1, 1) := dk_27 (dk_at dksX4_init_0 5 rfl rfl)
theorem dX4_init_6 : decode cX4_init 6 = .ok (.putfield 7, 3) := dk_181 0 7 (dk_at dksX4_init_0 6 rfl rfl)
theorem dX4_init_9 : decode cX4_init 9 = .ok (.aload_n 0, 1) := dk_42 (dk_at dksX4_init_0 9 rfl rfl)
theorem dX4_init_10 : decode cX4_init 10 = .ok (.iload_n 2, 1) := dk_28 (dk_at dksX4_init_0 10 rfl rfl)
theorem dX4_init_11 : decode cX4_init 11 = .ok (.putfield 13, 3) := dk_181 0 13 (dk_at dksX4_init_0 11 rfl rfl)
theorem dX4_init_14 : decode cX4_init 14 = .ok (.return_, 1) := dk_177 (dk_at dksX4_init_0 14 rfl rfl)
theorem q197 : (Jvm.Cond.initialized "DialMenus$Chosen") ∈ lw_all := lw_g (lw_at lw_m1 61 rfl) rfl
theorem q265 : (Jvm.Cond.selects "DialMenus$Chosen" ({ cls := "java/lang/Object", name := "getClass", desc := "()Ljava/lang/Class;" } : Jvm.MethodName) ({ cls := "java/lang/Object", name := "getClass", desc := "()Ljava/lang/Class;" } : Jvm.MethodName)) ∈ lw_all := lw_g (lw_at lw_m1 129 rfl) rfl
theorem q1256 : (Jvm.Cond.castable "DialMenus$Chosen" "java/lang/Comparable") ∈ lw_tbl := lw_at lw_m5 160 rfl
theorem q1257 : (Jvm.Cond.selects "DialMenus$Chosen" ({ cls := "java/lang/Comparable", name := "compareTo", desc := "(Ljava/lang/Object;)I" } : Jvm.MethodName) ({ cls := "DialMenus$Chosen", name := "compareTo", desc := "(Ljava/lang/Object;)I" } : Jvm.MethodName)) ∈ lw_all := lw_g (lw_at lw_m5 161 rfl) rfl
theorem q1258 : (Jvm.Cond.unhidden "DialMenus$Chosen" "compareTo" "(Ljava/lang/Object;)I") ∈ lw_tbl := lw_at lw_m5 162 rfl
theorem q1259 : (Jvm.Cond.instanceMethod ({ cls := "DialMenus$Chosen", name := "compareTo", desc := "(Ljava/lang/Object;)I" } : Jvm.MethodName)) ∈ lw_all := lw_g (lw_at lw_m5 163 rfl) rfl
theorem q1260 : (Jvm.Cond.publicMethod ({ cls := "DialMenus$Chosen", name := "compareTo", desc := "(Ljava/lang/Object;)I" } : Jvm.MethodName)) ∈ lw_tbl := lw_at lw_m5 164 rfl
theorem q1261 : (Jvm.Cond.code ({ cls := "DialMenus$Chosen", name := "compareTo", desc := "(Ljava/lang/Object;)I" } : Jvm.MethodName) prog_2_method_3_code (2 : Nat) (Option.some Jvm.ClassFile.FieldType.int)) ∈ lw_all := lw_g (lw_at lw_m5 165 rfl) rfl
theorem q1262 : (Jvm.Cond.classLink "DialMenus$Chosen" (8 : Nat) "DialMenus$Chosen") ∈ lw_all := lw_g (lw_at lw_m5 166 rfl) rfl
theorem q1263 : (Jvm.Cond.methodLink "DialMenus$Chosen" (16 : Nat) ({ cls := "DialMenus$Chosen", name := "compareTo", desc := "(LDialMenus$Chosen;)I" } : Jvm.MethodName)) ∈ lw_all := lw_g (lw_at lw_m5 167 rfl) rfl
theorem q1264 : (Jvm.Cond.instanceMethod ({ cls := "DialMenus$Chosen", name := "compareTo", desc := "(LDialMenus$Chosen;)I" } : Jvm.MethodName)) ∈ lw_all := lw_g (lw_at lw_m5 168 rfl) rfl
theorem q1265 : (Jvm.Cond.selects "DialMenus$Chosen" ({ cls := "DialMenus$Chosen", name := "compareTo", desc := "(LDialMenus$Chosen;)I" } : Jvm.MethodName) ({ cls := "DialMenus$Chosen", name := "compareTo", desc := "(LDialMenus$Chosen;)I" } : Jvm.MethodName)) ∈ lw_all := lw_g (lw_at lw_m5 169 rfl) rfl
theorem q1266 : (Jvm.Cond.code ({ cls := "DialMenus$Chosen", name := "compareTo", desc := "(LDialMenus$Chosen;)I" } : Jvm.MethodName) prog_2_method_2_code (2 : Nat) (Option.some Jvm.ClassFile.FieldType.int)) ∈ lw_all := lw_g (lw_at lw_m5 170 rfl) rfl
theorem q2591 : (Jvm.Cond.instantiable "DialMenus$Chosen" (2 : Nat)) ∈ lw_all := lw_g (lw_at lw_m11 55 rfl) rfl
theorem q2593 : (Jvm.Cond.instanceMethod ({ cls := "DialMenus$Chosen", name := "<init>", desc := "(II)V" } : Jvm.MethodName)) ∈ lw_all := lw_g (lw_at lw_m11 57 rfl) rfl
theorem q2594 : (Jvm.Cond.code ({ cls := "DialMenus$Chosen", name := "<init>", desc := "(II)V" } : Jvm.MethodName) prog_2_method_1_code (3 : Nat) (Option.none : Option Jvm.ClassFile.FieldType)) ∈ lw_all := lw_g (lw_at lw_m11 58 rfl) rfl
theorem q2595 : (Jvm.Cond.methodLink "DialMenus$Chosen" (1 : Nat) ({ cls := "java/lang/Object", name := "<init>", desc := "()V" } : Jvm.MethodName)) ∈ lw_all := lw_g (lw_at lw_m11 59 rfl) rfl
theorem q2596 : (Jvm.Cond.fieldLink "DialMenus$Chosen" (7 : Nat) "DialMenus$Chosen" "number" "I") ∈ lw_all := lw_g (lw_at lw_m11 60 rfl) rfl
theorem q2598 : (Jvm.Cond.fieldLink "DialMenus$Chosen" (13 : Nat) "DialMenus$Chosen" "use" "I") ∈ lw_all := lw_g (lw_at lw_m11 62 rfl) rfl
theorem q2599 : (Jvm.Cond.laysFinal "DialMenus$Chosen" "DialMenus$Chosen" "number" "I") ∈ lw_all := lw_g (lw_at lw_m11 63 rfl) rfl
theorem q2600 : (Jvm.Cond.soleField "DialMenus$Chosen" "number") ∈ lw_all := lw_g (lw_at lw_m11 64 rfl) rfl
theorem q2601 : (Jvm.Cond.laysFinal "DialMenus$Chosen" "DialMenus$Chosen" "use" "I") ∈ lw_all := lw_g (lw_at lw_m11 65 rfl) rfl
theorem q2602 : (Jvm.Cond.soleField "DialMenus$Chosen" "use") ∈ lw_all := lw_g (lw_at lw_m11 66 rfl) rfl
theorem q2603 : (Jvm.Cond.superclass "DialMenus$Chosen" "java/lang/Object") ∈ lw_all := lw_g (lw_at lw_m11 67 rfl) rfl
theorem q2736 : (Jvm.Cond.selects "DialMenus$Chosen" ({ cls := "java/lang/Object", name := "equals", desc := "(Ljava/lang/Object;)Z" } : Jvm.MethodName) ({ cls := "java/lang/Object", name := "equals", desc := "(Ljava/lang/Object;)Z" } : Jvm.MethodName)) ∈ lw_all := lw_g (lw_at lw_m11 200 rfl) rfl
theorem q3353 : (Jvm.Cond.castable "DialMenus$Chosen" "java/lang/Object") ∈ lw_tbl := lw_at lw_m14 97 rfl
theorem in_X4 : ∀ w ∈ wsX40, w ∈ lw_all := lw_in wsX40 [2599, 2601] (by decide +kernel) (by decide +kernel)
abbrev cX5_pathTo : ByteArray := prog_3_method_3_code
def yX5_pathTo : MethodName := ⟨RX5, "pathTo", "(I)Ljava/util/LinkedList;"⟩
def dkwX5_pathTo_3 : List UInt8 := [167, 255, 194, 44, 176]
abbrev dktX5_pathTo_3 : List UInt8 := dkwX5_pathTo_3 ++ []
def dkwX5_pathTo_2 : List UInt8 := [44, 21, 4, 4, 96, 184, 0, 48, 182, 0, 54, 45, 180, 0, 16, 21, 4, 182, 0, 40, 192, 0, 2, 78]
abbrev dktX5_pathTo_2 : List UInt8 := dkwX5_pathTo_2 ++ dktX5_pathTo_3
def dkwX5_pathTo_1 : List UInt8 := [180, 0, 16, 21, 4, 182, 0, 40, 192, 0, 2, 27, 182, 0, 44, 154, 0, 9, 132, 4, 1, 167, 255, 234]
abbrev dktX5_pathTo_1 : List UInt8 := dkwX5_pathTo_1 ++ dktX5_pathTo_2
def dkwX5_pathTo_0 : List UInt8 := [187, 0, 33, 89, 183, 0, 35, 77, 42, 78, 45, 180, 0, 16, 182, 0, 36, 154, 0, 58, 3, 54, 4, 45]
abbrev dktX5_pathTo_0 : List UInt8 := dkwX5_pathTo_0 ++ dktX5_pathTo_1
theorem dksX5_pathTo_0 : cX5_pathTo.data.toList.drop 0 = dktX5_pathTo_0 := by decide +kernel
theorem dksX5_pathTo_1 : cX5_pathTo.data.toList.drop 24 = dktX5_pathTo_1 := dk_seg dksX5_pathTo_0 24 rfl rfl
theorem dksX5_pathTo_2 : cX5_pathTo.data.toList.drop 48 = dktX5_pathTo_2 := dk_seg dksX5_pathTo_1 24 rfl rfl
theorem dksX5_pathTo_3 : cX5_pathTo.data.toList.drop 72 = dktX5_pathTo_3 := dk_seg dksX5_pathTo_2 24 rfl rfl
theorem dX5_pathTo_0 : decode cX5_pathTo 0 = .ok (.new 33, 3) := dk_187 0 33 (dk_at dksX5_pathTo_0 0 rfl rfl)
theorem dX5_pathTo_3 : decode cX5_pathTo 3 = .ok (.dup, 1) := dk_89 (dk_at dksX5_pathTo_0 3 rfl rfl)
theorem dX5_pathTo_4 : decode cX5_pathTo 4 = .ok (.invokespecial 35, 3) := dk_183 0 35 (dk_at dksX5_pathTo_0 4 rfl rfl)
theorem dX5_pathTo_7 : decode cX5_pathTo 7 = .ok (.astore_n 2, 1) := dk_77 (dk_at dksX5_pathTo_0 7 rfl rfl)
theorem dX5_pathTo_8 : decode cX5_pathTo 8 = .ok (.aload_n 0, 1) := dk_42 (dk_at dksX5_pathTo_0 8 rfl rfl)
theorem dX5_pathTo_9 : decode cX5_pathTo 9 = .ok (.astore_n 3, 1) := dk_78 (dk_at dksX5_pathTo_0 9 rfl rfl)
theorem dX5_pathTo_10 : decode cX5_pathTo 10 = .ok (.aload_n 3, 1) := dk_45 (dk_at dksX5_pathTo_0 10 rfl rfl)
theorem dX5_pathTo_11 : decode cX5_pathTo 11 = .ok (.getfield 16, 3) := dk_180 0 16 (dk_at dksX5_pathTo_0 11 rfl rfl)
theorem dX5_pathTo_14 : decode cX5_pathTo 14 = .ok (.invokevirtual 36, 3) := dk_182 0 36 (dk_at dksX5_pathTo_0 14 rfl rfl)
theorem dX5_pathTo_17 : decode cX5_pathTo 17 = .ok (.ifCond .ne 58, 3) := dk_154 0 58 (dk_at dksX5_pathTo_0 17 rfl rfl)
theorem dX5_pathTo_20 : decode cX5_pathTo 20 = .ok (.iconst 0, 1) := dk_3 (dk_at dksX5_pathTo_0 20 rfl rfl)
theorem dX5_pathTo_21 : decode cX5_pathTo 21 = .ok (.istore 4, 2) := dk_54 4 (dk_at dksX5_pathTo_0 21 rfl rfl)
theorem dX5_pathTo_23 : decode cX5_pathTo 23 = .ok (.aload_n 3, 1) := dk_45 (dk_at dksX5_pathTo_0 23 rfl rfl)
theorem dX5_pathTo_24 : decode cX5_pathTo 24 = .ok (.getfield 16, 3) := dk_180 0 16 (dk_at dksX5_pathTo_1 0 rfl rfl)
theorem dX5_pathTo_27 : decode cX5_pathTo 27 = .ok (.iload 4, 2) := dk_21 4 (dk_at dksX5_pathTo_1 3 rfl rfl)
theorem dX5_pathTo_29 : decode cX5_pathTo 29 = .ok (.invokevirtual 40, 3) := dk_182 0 40 (dk_at dksX5_pathTo_1 5 rfl rfl)
theorem dX5_pathTo_32 : decode cX5_pathTo 32 = .ok (.checkcast 2, 3) := dk_192 0 2 (dk_at dksX5_pathTo_1 8 rfl rfl)
theorem dX5_pathTo_35 : decode cX5_pathTo 35 = .ok (.iload_n 1, 1) := dk_27 (dk_at dksX5_pathTo_1 11 rfl rfl)
theorem dX5_pathTo_36 : decode cX5_pathTo 36 = .ok (.invokevirtual 44, 3) := dk_182 0 44 (dk_at dksX5_pathTo_1 12 rfl rfl)
theorem dX5_pathTo_39 : decode cX5_pathTo 39 = .ok (.ifCond .ne 9, 3) := dk_154 0 9 (dk_at dksX5_pathTo_1 15 rfl rfl)
theorem dX5_pathTo_42 : decode cX5_pathTo 42 = .ok (.iinc 4 1, 3) := dk_132 4 1 (dk_at dksX5_pathTo_1 18 rfl rfl)
theorem dX5_pathTo_45 : decode cX5_pathTo 45 = .ok (.goto (-22), 3) := dk_167 255 234 (dk_at dksX5_pathTo_1 21 rfl rfl)
theorem dX5_pathTo_48 : decode cX5_pathTo 48 = .ok (.aload_n 2, 1) := dk_44 (dk_at dksX5_pathTo_2 0 rfl rfl)
theorem dX5_pathTo_49 : decode cX5_pathTo 49 = .ok (.iload 4, 2) := dk_21 4 (dk_at dksX5_pathTo_2 1 rfl rfl)
theorem dX5_pathTo_51 : decode cX5_pathTo 51 = .ok (.iconst 1, 1) := dk_4 (dk_at dksX5_pathTo_2 3 rfl rfl)
theorem dX5_pathTo_52 : decode cX5_pathTo 52 = .ok (.iadd, 1) := dk_96 (dk_at dksX5_pathTo_2 4 rfl rfl)
theorem dX5_pathTo_53 : decode cX5_pathTo 53 = .ok (.invokestatic 48, 3) := dk_184 0 48 (dk_at dksX5_pathTo_2 5 rfl rfl)
theorem dX5_pathTo_56 : decode cX5_pathTo 56 = .ok (.invokevirtual 54, 3) := dk_182 0 54 (dk_at dksX5_pathTo_2 8 rfl rfl)
theorem dX5_pathTo_59 : decode cX5_pathTo 59 = .ok (.aload_n 3, 1) := dk_45 (dk_at dksX5_pathTo_2 11 rfl rfl)
theorem dX5_pathTo_60 : decode cX5_pathTo 60 = .ok (.getfield 16, 3) := dk_180 0 16 (dk_at dksX5_pathTo_2 12 rfl rfl)
theorem dX5_pathTo_63 : decode cX5_pathTo 63 = .ok (.iload 4, 2) := dk_21 4 (dk_at dksX5_pathTo_2 15 rfl rfl)
theorem dX5_pathTo_65 : decode cX5_pathTo 65 = .ok (.invokevirtual 40, 3) := dk_182 0 40 (dk_at dksX5_pathTo_2 17 rfl rfl)
theorem dX5_pathTo_68 : decode cX5_pathTo 68 = .ok (.checkcast 2, 3) := dk_192 0 2 (dk_at dksX5_pathTo_2 20 rfl rfl)
theorem dX5_pathTo_71 : decode cX5_pathTo 71 = .ok (.astore_n 3, 1) := dk_78 (dk_at dksX5_pathTo_2 23 rfl rfl)
theorem dX5_pathTo_72 : decode cX5_pathTo 72 = .ok (.goto (-62), 3) := dk_167 255 194 (dk_at dksX5_pathTo_3 0 rfl rfl)
theorem dX5_pathTo_75 : decode cX5_pathTo 75 = .ok (.aload_n 2, 1) := dk_44 (dk_at dksX5_pathTo_3 3 rfl rfl)
theorem dX5_pathTo_76 : decode cX5_pathTo 76 = .ok (.areturn, 1) := dk_176 (dk_at dksX5_pathTo_3 4 rfl rfl)
abbrev cX5_has : ByteArray := prog_3_method_2_code
def yX5_has : MethodName := ⟨RX5, "has", "(I)Z"⟩
def dkwX5_has_0 : List UInt8 := [27, 42, 180, 0, 20, 42, 180, 0, 24, 4, 100, 184, 0, 27, 172]
abbrev dktX5_has_0 : List UInt8 := dkwX5_has_0 ++ []
theorem dksX5_has_0 : cX5_has.data.toList.drop 0 = dktX5_has_0 := by decide +kernel
theorem dX5_has_0 : decode cX5_has 0 = .ok (.iload_n 1, 1) := dk_27 (dk_at dksX5_has_0 0 rfl rfl)
theorem dX5_has_1 : decode cX5_has 1 = .ok (.aload_n 0, 1) := dk_42 (dk_at dksX5_has_0 1 rfl rfl)
theorem dX5_has_2 : decode cX5_has 2 = .ok (.getfield 20, 3) := dk_180 0 20 (dk_at dksX5_has_0 2 rfl rfl)
theorem dX5_has_5 : decode cX5_has 5 = .ok (.aload_n 0, 1) := dk_42 (dk_at dksX5_has_0 5 rfl rfl)
theorem dX5_has_6 : decode cX5_has 6 = .ok (.getfield 24, 3) := dk_180 0 24 (dk_at dksX5_has_0 6 rfl rfl)
theorem dX5_has_9 : decode cX5_has 9 = .ok (.iconst 1, 1) := dk_4 (dk_at dksX5_has_0 9 rfl rfl)
theorem dX5_has_10 : decode cX5_has 10 = .ok (.isub, 1) := dk_100 (dk_at dksX5_has_0 10 rfl rfl)
theorem dX5_has_11 : decode cX5_has 11 = .ok (.invokestatic 27, 3) := dk_184 0 27 (dk_at dksX5_has_0 11 rfl rfl)
theorem dX5_has_14 : decode cX5_has 14 = .ok (.ireturn, 1) := dk_172 (dk_at dksX5_has_0 14 rfl rfl)
abbrev cX5_init : ByteArray := prog_3_method_1_code
def yX5_init : MethodName := ⟨RX5, "<init>", "(LDialMenus;II)V"⟩
def dkwX5_init_1 : List UInt8 := [181, 0, 20, 42, 29, 181, 0, 24, 177]
abbrev dktX5_init_1 : List UInt8 := dkwX5_init_1 ++ []
def dkwX5_init_0 : List UInt8 := [42, 43, 181, 0, 1, 42, 183, 0, 7, 42, 187, 0, 13, 89, 183, 0, 15, 181, 0, 16, 42, 28]
abbrev dktX5_init_0 : List UInt8 := dkwX5_init_0 ++ dktX5_init_1
theorem dksX5_init_0 : cX5_init.data.toList.drop 0 = dktX5_init_0 := by decide +kernel
theorem dksX5_init_1 : cX5_init.data.toList.drop 22 = dktX5_init_1 := dk_seg dksX5_init_0 22 rfl rfl
theorem dX5_init_0 : decode cX5_init 0 = .ok (.aload_n 0, 1) := dk_42 (dk_at dksX5_init_0 0 rfl rfl)
theorem dX5_init_1 : decode cX5_init 1 = .ok (.aload_n 1, 1) := dk_43 (dk_at dksX5_init_0 1 rfl rfl)
theorem dX5_init_2 : decode cX5_init 2 = .ok (.putfield 1, 3) := dk_181 0 1 (dk_at dksX5_init_0 2 rfl rfl)
theorem dX5_init_5 : decode cX5_init 5 = .ok (.aload_n 0, 1) := dk_42 (dk_at dksX5_init_0 5 rfl rfl)
theorem dX5_init_6 : decode cX5_init 6 = .ok (.invokespecial 7, 3) := dk_183 0 7 (dk_at dksX5_init_0 6 rfl rfl)
theorem dX5_init_9 : decode cX5_init 9 = .ok (.aload_n 0, 1) := dk_42 (dk_at dksX5_init_0 9 rfl rfl)
theorem dX5_init_10 : decode cX5_init 10 = .ok (.new 13, 3) := dk_187 0 13 (dk_at dksX5_init_0 10 rfl rfl)
theorem dX5_init_13 : decode cX5_init 13 = .ok (.dup, 1) := dk_89 (dk_at dksX5_init_0 13 rfl rfl)
theorem dX5_init_14 : decode cX5_init 14 = .ok (.invokespecial 15, 3) := dk_183 0 15 (dk_at dksX5_init_0 14 rfl rfl)
theorem dX5_init_17 : decode cX5_init 17 = .ok (.putfield 16, 3) := dk_181 0 16 (dk_at dksX5_init_0 17 rfl rfl)
theorem dX5_init_20 : decode cX5_init 20 = .ok (.aload_n 0, 1) := dk_42 (dk_at dksX5_init_0 20 rfl rfl)
theorem dX5_init_21 : decode cX5_init 21 = .ok (.iload_n 2, 1) := dk_28 (dk_at dksX5_init_0 21 rfl rfl)
theorem dX5_init_22 : decode cX5_init 22 = .ok (.putfield 20, 3) := dk_181 0 20 (dk_at dksX5_init_1 0 rfl rfl)
theorem dX5_init_25 : decode cX5_init 25 = .ok (.aload_n 0, 1) := dk_42 (dk_at dksX5_init_1 3 rfl rfl)
theorem dX5_init_26 : decode cX5_init 26 = .ok (.iload_n 3, 1) := dk_29 (dk_at dksX5_init_1 4 rfl rfl)
theorem dX5_init_27 : decode cX5_init 27 = .ok (.putfield 24, 3) := dk_181 0 24 (dk_at dksX5_init_1 5 rfl rfl)
theorem dX5_init_30 : decode cX5_init 30 = .ok (.return_, 1) := dk_177 (dk_at dksX5_init_1 8 rfl rfl)
abbrev cX5_cost : ByteArray := prog_3_method_4_code
def yX5_cost : MethodName := ⟨RX5, "cost", "()I"⟩
def dkwX5_cost_2 : List UInt8 := [180, 0, 24, 182, 0, 75, 96, 96, 60, 167, 255, 214, 27, 172]
abbrev dktX5_cost_2 : List UInt8 := dkwX5_cost_2 ++ []
def dkwX5_cost_1 : List UInt8 := [185, 0, 67, 1, 0, 192, 0, 2, 78, 27, 45, 182, 0, 71, 42, 180, 0, 1, 45, 180, 0, 20, 45]
abbrev dktX5_cost_1 : List UInt8 := dkwX5_cost_1 ++ dktX5_cost_2
def dkwX5_cost_0 : List UInt8 := [3, 60, 42, 180, 0, 16, 182, 0, 58, 77, 44, 185, 0, 62, 1, 0, 153, 0, 39, 44]
abbrev dktX5_cost_0 : List UInt8 := dkwX5_cost_0 ++ dktX5_cost_1
theorem dksX5_cost_0 : cX5_cost.data.toList.drop 0 = dktX5_cost_0 := by decide +kernel
theorem dksX5_cost_1 : cX5_cost.data.toList.drop 20 = dktX5_cost_1 := dk_seg dksX5_cost_0 20 rfl rfl
theorem dksX5_cost_2 : cX5_cost.data.toList.drop 43 = dktX5_cost_2 := dk_seg dksX5_cost_1 23 rfl rfl
theorem dX5_cost_0 : decode cX5_cost 0 = .ok (.iconst 0, 1) := dk_3 (dk_at dksX5_cost_0 0 rfl rfl)
theorem dX5_cost_1 : decode cX5_cost 1 = .ok (.istore_n 1, 1) := dk_60 (dk_at dksX5_cost_0 1 rfl rfl)
theorem dX5_cost_2 : decode cX5_cost 2 = .ok (.aload_n 0, 1) := dk_42 (dk_at dksX5_cost_0 2 rfl rfl)
theorem dX5_cost_3 : decode cX5_cost 3 = .ok (.getfield 16, 3) := dk_180 0 16 (dk_at dksX5_cost_0 3 rfl rfl)
theorem dX5_cost_6 : decode cX5_cost 6 = .ok (.invokevirtual 58, 3) := dk_182 0 58 (dk_at dksX5_cost_0 6 rfl rfl)
theorem dX5_cost_9 : decode cX5_cost 9 = .ok (.astore_n 2, 1) := dk_77 (dk_at dksX5_cost_0 9 rfl rfl)
theorem dX5_cost_10 : decode cX5_cost 10 = .ok (.aload_n 2, 1) := dk_44 (dk_at dksX5_cost_0 10 rfl rfl)
theorem dX5_cost_11 : decode cX5_cost 11 = .ok (.invokeinterface 62 1, 5) := by decide +kernel
theorem dX5_cost_16 : decode cX5_cost 16 = .ok (.ifCond .eq 39, 3) := dk_153 0 39 (dk_at dksX5_cost_0 16 rfl rfl)
theorem dX5_cost_19 : decode cX5_cost 19 = .ok (.aload_n 2, 1) := dk_44 (dk_at dksX5_cost_0 19 rfl rfl)
theorem dX5_cost_20 : decode cX5_cost 20 = .ok (.invokeinterface 67 1, 5) := by decide +kernel
theorem dX5_cost_25 : decode cX5_cost 25 = .ok (.checkcast 2, 3) := dk_192 0 2 (dk_at dksX5_cost_1 5 rfl rfl)
theorem dX5_cost_28 : decode cX5_cost 28 = .ok (.astore_n 3, 1) := dk_78 (dk_at dksX5_cost_1 8 rfl rfl)
theorem dX5_cost_29 : decode cX5_cost 29 = .ok (.iload_n 1, 1) := dk_27 (dk_at dksX5_cost_1 9 rfl rfl)
theorem dX5_cost_30 : decode cX5_cost 30 = .ok (.aload_n 3, 1) := dk_45 (dk_at dksX5_cost_1 10 rfl rfl)
theorem dX5_cost_31 : decode cX5_cost 31 = .ok (.invokevirtual 71, 3) := dk_182 0 71 (dk_at dksX5_cost_1 11 rfl rfl)
theorem dX5_cost_34 : decode cX5_cost 34 = .ok (.aload_n 0, 1) := dk_42 (dk_at dksX5_cost_1 14 rfl rfl)
theorem dX5_cost_35 : decode cX5_cost 35 = .ok (.getfield 1, 3) := dk_180 0 1 (dk_at dksX5_cost_1 15 rfl rfl)
theorem dX5_cost_38 : decode cX5_cost 38 = .ok (.aload_n 3, 1) := dk_45 (dk_at dksX5_cost_1 18 rfl rfl)
theorem dX5_cost_39 : decode cX5_cost 39 = .ok (.getfield 20, 3) := dk_180 0 20 (dk_at dksX5_cost_1 19 rfl rfl)
theorem dX5_cost_42 : decode cX5_cost 42 = .ok (.aload_n 3, 1) := dk_45 (dk_at dksX5_cost_1 22 rfl rfl)
theorem dX5_cost_43 : decode cX5_cost 43 = .ok (.getfield 24, 3) := dk_180 0 24 (dk_at dksX5_cost_2 0 rfl rfl)
theorem dX5_cost_46 : decode cX5_cost 46 = .ok (.invokevirtual 75, 3) := dk_182 0 75 (dk_at dksX5_cost_2 3 rfl rfl)
theorem dX5_cost_49 : decode cX5_cost 49 = .ok (.iadd, 1) := dk_96 (dk_at dksX5_cost_2 6 rfl rfl)
theorem dX5_cost_50 : decode cX5_cost 50 = .ok (.iadd, 1) := dk_96 (dk_at dksX5_cost_2 7 rfl rfl)
theorem dX5_cost_51 : decode cX5_cost 51 = .ok (.istore_n 1, 1) := dk_60 (dk_at dksX5_cost_2 8 rfl rfl)
theorem dX5_cost_52 : decode cX5_cost 52 = .ok (.goto (-42), 3) := dk_167 255 214 (dk_at dksX5_cost_2 9 rfl rfl)
theorem dX5_cost_55 : decode cX5_cost 55 = .ok (.iload_n 1, 1) := dk_27 (dk_at dksX5_cost_2 12 rfl rfl)
theorem dX5_cost_56 : decode cX5_cost 56 = .ok (.ireturn, 1) := dk_172 (dk_at dksX5_cost_2 13 rfl rfl)
abbrev cX5_deep : ByteArray := prog_3_method_5_code
def yX5_deep : MethodName := ⟨RX5, "deep", "()I"⟩
def dkwX5_deep_2 : List UInt8 := [172]
abbrev dktX5_deep_2 : List UInt8 := dkwX5_deep_2 ++ []
def dkwX5_deep_1 : List UInt8 := [185, 0, 67, 1, 0, 192, 0, 2, 78, 27, 45, 182, 0, 79, 4, 96, 184, 0, 82, 60, 167, 255, 226, 27]
abbrev dktX5_deep_1 : List UInt8 := dkwX5_deep_1 ++ dktX5_deep_2
def dkwX5_deep_0 : List UInt8 := [3, 60, 42, 180, 0, 16, 182, 0, 58, 77, 44, 185, 0, 62, 1, 0, 153, 0, 27, 44]
abbrev dktX5_deep_0 : List UInt8 := dkwX5_deep_0 ++ dktX5_deep_1
theorem dksX5_deep_0 : cX5_deep.data.toList.drop 0 = dktX5_deep_0 := by decide +kernel
theorem dksX5_deep_1 : cX5_deep.data.toList.drop 20 = dktX5_deep_1 := dk_seg dksX5_deep_0 20 rfl rfl
theorem dksX5_deep_2 : cX5_deep.data.toList.drop 44 = dktX5_deep_2 := dk_seg dksX5_deep_1 24 rfl rfl
theorem dX5_deep_0 : decode cX5_deep 0 = .ok (.iconst 0, 1) := dk_3 (dk_at dksX5_deep_0 0 rfl rfl)
theorem dX5_deep_1 : decode cX5_deep 1 = .ok (.istore_n 1, 1) := dk_60 (dk_at dksX5_deep_0 1 rfl rfl)
theorem dX5_deep_2 : decode cX5_deep 2 = .ok (.aload_n 0, 1) := dk_42 (dk_at dksX5_deep_0 2 rfl rfl)
theorem dX5_deep_3 : decode cX5_deep 3 = .ok (.getfield 16, 3) := dk_180 0 16 (dk_at dksX5_deep_0 3 rfl rfl)
theorem dX5_deep_6 : decode cX5_deep 6 = .ok (.invokevirtual 58, 3) := dk_182 0 58 (dk_at dksX5_deep_0 6 rfl rfl)
theorem dX5_deep_9 : decode cX5_deep 9 = .ok (.astore_n 2, 1) := dk_77 (dk_at dksX5_deep_0 9 rfl rfl)
theorem dX5_deep_10 : decode cX5_deep 10 = .ok (.aload_n 2, 1) := dk_44 (dk_at dksX5_deep_0 10 rfl rfl)
theorem dX5_deep_11 : decode cX5_deep 11 = .ok (.invokeinterface 62 1, 5) := by decide +kernel
theorem dX5_deep_16 : decode cX5_deep 16 = .ok (.ifCond .eq 27, 3) := dk_153 0 27 (dk_at dksX5_deep_0 16 rfl rfl)
theorem dX5_deep_19 : decode cX5_deep 19 = .ok (.aload_n 2, 1) := dk_44 (dk_at dksX5_deep_0 19 rfl rfl)
theorem dX5_deep_20 : decode cX5_deep 20 = .ok (.invokeinterface 67 1, 5) := by decide +kernel
theorem dX5_deep_25 : decode cX5_deep 25 = .ok (.checkcast 2, 3) := dk_192 0 2 (dk_at dksX5_deep_1 5 rfl rfl)
theorem dX5_deep_28 : decode cX5_deep 28 = .ok (.astore_n 3, 1) := dk_78 (dk_at dksX5_deep_1 8 rfl rfl)
theorem dX5_deep_29 : decode cX5_deep 29 = .ok (.iload_n 1, 1) := dk_27 (dk_at dksX5_deep_1 9 rfl rfl)
theorem dX5_deep_30 : decode cX5_deep 30 = .ok (.aload_n 3, 1) := dk_45 (dk_at dksX5_deep_1 10 rfl rfl)
theorem dX5_deep_31 : decode cX5_deep 31 = .ok (.invokevirtual 79, 3) := dk_182 0 79 (dk_at dksX5_deep_1 11 rfl rfl)
theorem dX5_deep_34 : decode cX5_deep 34 = .ok (.iconst 1, 1) := dk_4 (dk_at dksX5_deep_1 14 rfl rfl)
theorem dX5_deep_35 : decode cX5_deep 35 = .ok (.iadd, 1) := dk_96 (dk_at dksX5_deep_1 15 rfl rfl)
theorem dX5_deep_36 : decode cX5_deep 36 = .ok (.invokestatic 82, 3) := dk_184 0 82 (dk_at dksX5_deep_1 16 rfl rfl)
theorem dX5_deep_39 : decode cX5_deep 39 = .ok (.istore_n 1, 1) := dk_60 (dk_at dksX5_deep_1 19 rfl rfl)
theorem dX5_deep_40 : decode cX5_deep 40 = .ok (.goto (-30), 3) := dk_167 255 226 (dk_at dksX5_deep_1 20 rfl rfl)
theorem dX5_deep_43 : decode cX5_deep 43 = .ok (.iload_n 1, 1) := dk_27 (dk_at dksX5_deep_1 23 rfl rfl)
theorem dX5_deep_44 : decode cX5_deep 44 = .ok (.ireturn, 1) := dk_172 (dk_at dksX5_deep_2 0 rfl rfl)
abbrev cX5_many : ByteArray := prog_3_method_6_code
def yX5_many : MethodName := ⟨RX5, "many", "()I"⟩
def dkwX5_many_2 : List UInt8 := [96, 60, 167, 255, 230, 27, 172]
abbrev dktX5_many_2 : List UInt8 := dkwX5_many_2 ++ []
def dkwX5_many_1 : List UInt8 := [44, 185, 0, 62, 1, 0, 153, 0, 23, 44, 185, 0, 67, 1, 0, 192, 0, 2, 78, 27, 45, 182, 0, 87]
abbrev dktX5_many_1 : List UInt8 := dkwX5_many_1 ++ dktX5_many_2
def dkwX5_many_0 : List UInt8 := [42, 180, 0, 16, 182, 0, 36, 153, 0, 7, 3, 167, 0, 4, 4, 60, 42, 180, 0, 16, 182, 0, 58, 77]
abbrev dktX5_many_0 : List UInt8 := dkwX5_many_0 ++ dktX5_many_1
theorem dksX5_many_0 : cX5_many.data.toList.drop 0 = dktX5_many_0 := by decide +kernel
theorem dksX5_many_1 : cX5_many.data.toList.drop 24 = dktX5_many_1 := dk_seg dksX5_many_0 24 rfl rfl
theorem dksX5_many_2 : cX5_many.data.toList.drop 48 = dktX5_many_2 := dk_seg dksX5_many_1 24 rfl rfl
theorem dX5_many_0 : decode cX5_many 0 = .ok (.aload_n 0, 1) := dk_42 (dk_at dksX5_many_0 0 rfl rfl)
theorem dX5_many_1 : decode cX5_many 1 = .ok (.getfield 16, 3) := dk_180 0 16 (dk_at dksX5_many_0 1 rfl rfl)
theorem dX5_many_4 : decode cX5_many 4 = .ok (.invokevirtual 36, 3) := dk_182 0 36 (dk_at dksX5_many_0 4 rfl rfl)
theorem dX5_many_7 : decode cX5_many 7 = .ok (.ifCond .eq 7, 3) := dk_153 0 7 (dk_at dksX5_many_0 7 rfl rfl)
theorem dX5_many_10 : decode cX5_many 10 = .ok (.iconst 0, 1) := dk_3 (dk_at dksX5_many_0 10 rfl rfl)
theorem dX5_many_11 : decode cX5_many 11 = .ok (.goto 4, 3) := dk_167 0 4 (dk_at dksX5_many_0 11 rfl rfl)
theorem dX5_many_14 : decode cX5_many 14 = .ok (.iconst 1, 1) := dk_4 (dk_at dksX5_many_0 14 rfl rfl)
theorem dX5_many_15 : decode cX5_many 15 = .ok (.istore_n 1, 1) := dk_60 (dk_at dksX5_many_0 15 rfl rfl)
theorem dX5_many_16 : decode cX5_many 16 = .ok (.aload_n 0, 1) := dk_42 (dk_at dksX5_many_0 16 rfl rfl)
theorem dX5_many_17 : decode cX5_many 17 = .ok (.getfield 16, 3) := dk_180 0 16 (dk_at dksX5_many_0 17 rfl rfl)
theorem dX5_many_20 : decode cX5_many 20 = .ok (.invokevirtual 58, 3) := dk_182 0 58 (dk_at dksX5_many_0 20 rfl rfl)
theorem dX5_many_23 : decode cX5_many 23 = .ok (.astore_n 2, 1) := dk_77 (dk_at dksX5_many_0 23 rfl rfl)
theorem dX5_many_24 : decode cX5_many 24 = .ok (.aload_n 2, 1) := dk_44 (dk_at dksX5_many_1 0 rfl rfl)
theorem dX5_many_25 : decode cX5_many 25 = .ok (.invokeinterface 62 1, 5) := by decide +kernel
theorem dX5_many_30 : decode cX5_many 30 = .ok (.ifCond .eq 23, 3) := dk_153 0 23 (dk_at dksX5_many_1 6 rfl rfl)
theorem dX5_many_33 : decode cX5_many 33 = .ok (.aload_n 2, 1) := dk_44 (dk_at dksX5_many_1 9 rfl rfl)
theorem dX5_many_34 : decode cX5_many 34 = .ok (.invokeinterface 67 1, 5) := by decide +kernel
theorem dX5_many_39 : decode cX5_many 39 = .ok (.checkcast 2, 3) := dk_192 0 2 (dk_at dksX5_many_1 15 rfl rfl)
theorem dX5_many_42 : decode cX5_many 42 = .ok (.astore_n 3, 1) := dk_78 (dk_at dksX5_many_1 18 rfl rfl)
theorem dX5_many_43 : decode cX5_many 43 = .ok (.iload_n 1, 1) := dk_27 (dk_at dksX5_many_1 19 rfl rfl)
theorem dX5_many_44 : decode cX5_many 44 = .ok (.aload_n 3, 1) := dk_45 (dk_at dksX5_many_1 20 rfl rfl)
theorem dX5_many_45 : decode cX5_many 45 = .ok (.invokevirtual 87, 3) := dk_182 0 87 (dk_at dksX5_many_1 21 rfl rfl)
theorem dX5_many_48 : decode cX5_many 48 = .ok (.iadd, 1) := dk_96 (dk_at dksX5_many_2 0 rfl rfl)
theorem dX5_many_49 : decode cX5_many 49 = .ok (.istore_n 1, 1) := dk_60 (dk_at dksX5_many_2 1 rfl rfl)
theorem dX5_many_50 : decode cX5_many 50 = .ok (.goto (-26), 3) := dk_167 255 230 (dk_at dksX5_many_2 2 rfl rfl)
theorem dX5_many_53 : decode cX5_many 53 = .ok (.iload_n 1, 1) := dk_27 (dk_at dksX5_many_2 5 rfl rfl)
theorem dX5_many_54 : decode cX5_many 54 = .ok (.ireturn, 1) := dk_172 (dk_at dksX5_many_2 6 rfl rfl)
theorem q198 : (Jvm.Cond.initialized "DialMenus$Menu") ∈ lw_all := lw_g (lw_at lw_m1 62 rfl) rfl
theorem q266 : (Jvm.Cond.selects "DialMenus$Menu" ({ cls := "java/lang/Object", name := "getClass", desc := "()Ljava/lang/Class;" } : Jvm.MethodName) ({ cls := "java/lang/Object", name := "getClass", desc := "()Ljava/lang/Class;" } : Jvm.MethodName)) ∈ lw_all := lw_g (lw_at lw_m1 130 rfl) rfl
theorem q2358 : (Jvm.Cond.instanceMethod ({ cls := "DialMenus$Menu", name := "pathTo", desc := "(I)Ljava/util/LinkedList;" } : Jvm.MethodName)) ∈ lw_all := lw_g (lw_at lw_m10 62 rfl) rfl
theorem q2359 : (Jvm.Cond.selects "DialMenus$Menu" ({ cls := "DialMenus$Menu", name := "pathTo", desc := "(I)Ljava/util/LinkedList;" } : Jvm.MethodName) ({ cls := "DialMenus$Menu", name := "pathTo", desc := "(I)Ljava/util/LinkedList;" } : Jvm.MethodName)) ∈ lw_all := lw_g (lw_at lw_m10 63 rfl) rfl
theorem q2360 : (Jvm.Cond.code ({ cls := "DialMenus$Menu", name := "pathTo", desc := "(I)Ljava/util/LinkedList;" } : Jvm.MethodName) prog_3_method_3_code (5 : Nat) (Option.some (Jvm.ClassFile.FieldType.object "java/util/LinkedList"))) ∈ lw_all := lw_g (lw_at lw_m10 64 rfl) rfl
theorem q2361 : (Jvm.Cond.classLink "DialMenus$Menu" (33 : Nat) "java/util/LinkedList") ∈ lw_all := lw_g (lw_at lw_m10 65 rfl) rfl
theorem q2362 : (Jvm.Cond.methodLink "DialMenus$Menu" (35 : Nat) ({ cls := "java/util/LinkedList", name := "<init>", desc := "()V" } : Jvm.MethodName)) ∈ lw_all := lw_g (lw_at lw_m10 66 rfl) rfl
theorem q2363 : (Jvm.Cond.methodLink "DialMenus$Menu" (36 : Nat) ({ cls := "java/util/ArrayList", name := "isEmpty", desc := "()Z" } : Jvm.MethodName)) ∈ lw_all := lw_g (lw_at lw_m10 67 rfl) rfl
theorem q2367 : (Jvm.Cond.methodLink "DialMenus$Menu" (40 : Nat) ({ cls := "java/util/ArrayList", name := "get", desc := "(I)Ljava/lang/Object;" } : Jvm.MethodName)) ∈ lw_all := lw_g (lw_at lw_m10 71 rfl) rfl
theorem q2368 : (Jvm.Cond.classLink "DialMenus$Menu" (2 : Nat) "DialMenus$Menu") ∈ lw_all := lw_g (lw_at lw_m10 72 rfl) rfl
theorem q2369 : (Jvm.Cond.methodLink "DialMenus$Menu" (44 : Nat) ({ cls := "DialMenus$Menu", name := "has", desc := "(I)Z" } : Jvm.MethodName)) ∈ lw_all := lw_g (lw_at lw_m10 73 rfl) rfl
theorem q2370 : (Jvm.Cond.instanceMethod ({ cls := "DialMenus$Menu", name := "has", desc := "(I)Z" } : Jvm.MethodName)) ∈ lw_all := lw_g (lw_at lw_m10 74 rfl) rfl
theorem q2371 : (Jvm.Cond.selects "DialMenus$Menu" ({ cls := "DialMenus$Menu", name := "has", desc := "(I)Z" } : Jvm.MethodName) ({ cls := "DialMenus$Menu", name := "has", desc := "(I)Z" } : Jvm.MethodName)) ∈ lw_all := lw_g (lw_at lw_m10 75 rfl) rfl
theorem q2372 : (Jvm.Cond.code ({ cls := "DialMenus$Menu", name := "has", desc := "(I)Z" } : Jvm.MethodName) prog_3_method_2_code (2 : Nat) (Option.some Jvm.ClassFile.FieldType.boolean)) ∈ lw_all := lw_g (lw_at lw_m10 76 rfl) rfl
theorem q2373 : (Jvm.Cond.methodLinkNest "DialMenus$Menu" (27 : Nat) ({ cls := "DialMenus", name := "in", desc := "(III)Z" } : Jvm.MethodName) "DialMenus") ∈ lw_tbl := lw_at lw_m10 77 rfl
theorem q2374 : (Jvm.Cond.methodLink "DialMenus$Menu" (48 : Nat) ({ cls := "java/lang/Integer", name := "valueOf", desc := "(I)Ljava/lang/Integer;" } : Jvm.MethodName)) ∈ lw_all := lw_g (lw_at lw_m10 78 rfl) rfl
theorem q2375 : (Jvm.Cond.methodLink "DialMenus$Menu" (54 : Nat) ({ cls := "java/util/LinkedList", name := "addLast", desc := "(Ljava/lang/Object;)V" } : Jvm.MethodName)) ∈ lw_all := lw_g (lw_at lw_m10 79 rfl) rfl
theorem q2660 : (Jvm.Cond.instantiable "DialMenus$Menu" (4 : Nat)) ∈ lw_all := lw_g (lw_at lw_m11 124 rfl) rfl
theorem q2662 : (Jvm.Cond.instanceMethod ({ cls := "DialMenus$Menu", name := "<init>", desc := "(LDialMenus;II)V" } : Jvm.MethodName)) ∈ lw_all := lw_g (lw_at lw_m11 126 rfl) rfl
theorem q2663 : (Jvm.Cond.code ({ cls := "DialMenus$Menu", name := "<init>", desc := "(LDialMenus;II)V" } : Jvm.MethodName) prog_3_method_1_code (4 : Nat) (Option.none : Option Jvm.ClassFile.FieldType)) ∈ lw_all := lw_g (lw_at lw_m11 127 rfl) rfl
theorem q2664 : (Jvm.Cond.methodLink "DialMenus$Menu" (7 : Nat) ({ cls := "java/lang/Object", name := "<init>", desc := "()V" } : Jvm.MethodName)) ∈ lw_all := lw_g (lw_at lw_m11 128 rfl) rfl
theorem q2665 : (Jvm.Cond.classLink "DialMenus$Menu" (13 : Nat) "java/util/ArrayList") ∈ lw_all := lw_g (lw_at lw_m11 129 rfl) rfl
theorem q2666 : (Jvm.Cond.methodLink "DialMenus$Menu" (15 : Nat) ({ cls := "java/util/ArrayList", name := "<init>", desc := "()V" } : Jvm.MethodName)) ∈ lw_all := lw_g (lw_at lw_m11 130 rfl) rfl
theorem q2669 : (Jvm.Cond.fieldLink "DialMenus$Menu" (20 : Nat) "DialMenus$Menu" "from" "I") ∈ lw_all := lw_g (lw_at lw_m11 133 rfl) rfl
theorem q2671 : (Jvm.Cond.fieldLink "DialMenus$Menu" (24 : Nat) "DialMenus$Menu" "to" "I") ∈ lw_all := lw_g (lw_at lw_m11 135 rfl) rfl
theorem q2672 : (Jvm.Cond.fieldLink "DialMenus$Menu" (16 : Nat) "DialMenus$Menu" "parts" "Ljava/util/ArrayList;") ∈ lw_all := lw_g (lw_at lw_m11 136 rfl) rfl
theorem q2674 : (Jvm.Cond.fieldLink "DialMenus$Menu" (1 : Nat) "DialMenus$Menu" "this$0" "LDialMenus;") ∈ lw_all := lw_g (lw_at lw_m11 138 rfl) rfl
theorem q2675 : (Jvm.Cond.laysFinal "DialMenus$Menu" "DialMenus$Menu" "from" "I") ∈ lw_all := lw_g (lw_at lw_m11 139 rfl) rfl
theorem q2676 : (Jvm.Cond.soleField "DialMenus$Menu" "from") ∈ lw_all := lw_g (lw_at lw_m11 140 rfl) rfl
theorem q2677 : (Jvm.Cond.laysFinal "DialMenus$Menu" "DialMenus$Menu" "to" "I") ∈ lw_all := lw_g (lw_at lw_m11 141 rfl) rfl
theorem q2678 : (Jvm.Cond.soleField "DialMenus$Menu" "to") ∈ lw_all := lw_g (lw_at lw_m11 142 rfl) rfl
theorem q2679 : (Jvm.Cond.laysFinal "DialMenus$Menu" "DialMenus$Menu" "parts" "Ljava/util/ArrayList;") ∈ lw_all := lw_g (lw_at lw_m11 143 rfl) rfl
theorem q2680 : (Jvm.Cond.soleField "DialMenus$Menu" "parts") ∈ lw_all := lw_g (lw_at lw_m11 144 rfl) rfl
theorem q2681 : (Jvm.Cond.laysFinal "DialMenus$Menu" "DialMenus$Menu" "this$0" "LDialMenus;") ∈ lw_all := lw_g (lw_at lw_m11 145 rfl) rfl
theorem q2682 : (Jvm.Cond.soleField "DialMenus$Menu" "this$0") ∈ lw_all := lw_g (lw_at lw_m11 146 rfl) rfl
theorem q2683 : (Jvm.Cond.superclass "DialMenus$Menu" "java/lang/Object") ∈ lw_all := lw_g (lw_at lw_m11 147 rfl) rfl
theorem q2685 : (Jvm.Cond.instanceMethod ({ cls := "DialMenus$Menu", name := "cost", desc := "()I" } : Jvm.MethodName)) ∈ lw_all := lw_g (lw_at lw_m11 149 rfl) rfl
theorem q2686 : (Jvm.Cond.selects "DialMenus$Menu" ({ cls := "DialMenus$Menu", name := "cost", desc := "()I" } : Jvm.MethodName) ({ cls := "DialMenus$Menu", name := "cost", desc := "()I" } : Jvm.MethodName)) ∈ lw_all := lw_g (lw_at lw_m11 150 rfl) rfl
theorem q2687 : (Jvm.Cond.code ({ cls := "DialMenus$Menu", name := "cost", desc := "()I" } : Jvm.MethodName) prog_3_method_4_code (4 : Nat) (Option.some Jvm.ClassFile.FieldType.int)) ∈ lw_all := lw_g (lw_at lw_m11 151 rfl) rfl
theorem q2688 : (Jvm.Cond.methodLink "DialMenus$Menu" (58 : Nat) ({ cls := "java/util/ArrayList", name := "iterator", desc := "()Ljava/util/Iterator;" } : Jvm.MethodName)) ∈ lw_all := lw_g (lw_at lw_m11 152 rfl) rfl
theorem q2689 : (Jvm.Cond.interfaceEntry "DialMenus$Menu" (62 : Nat)) ∈ lw_tbl := lw_at lw_m11 153 rfl
theorem q2690 : (Jvm.Cond.methodLink "DialMenus$Menu" (62 : Nat) ({ cls := "java/util/Iterator", name := "hasNext", desc := "()Z" } : Jvm.MethodName)) ∈ lw_all := lw_g (lw_at lw_m11 154 rfl) rfl
theorem q2691 : (Jvm.Cond.interfaceEntry "DialMenus$Menu" (67 : Nat)) ∈ lw_tbl := lw_at lw_m11 155 rfl
theorem q2692 : (Jvm.Cond.methodLink "DialMenus$Menu" (67 : Nat) ({ cls := "java/util/Iterator", name := "next", desc := "()Ljava/lang/Object;" } : Jvm.MethodName)) ∈ lw_all := lw_g (lw_at lw_m11 156 rfl) rfl
theorem q2693 : (Jvm.Cond.methodLink "DialMenus$Menu" (71 : Nat) ({ cls := "DialMenus$Menu", name := "cost", desc := "()I" } : Jvm.MethodName)) ∈ lw_all := lw_g (lw_at lw_m11 157 rfl) rfl
theorem q2694 : (Jvm.Cond.methodLinkNest "DialMenus$Menu" (75 : Nat) ({ cls := "DialMenus", name := "usesOf", desc := "(II)I" } : Jvm.MethodName) "DialMenus") ∈ lw_tbl := lw_at lw_m11 158 rfl
theorem q2737 : (Jvm.Cond.selects "DialMenus$Menu" ({ cls := "java/lang/Object", name := "equals", desc := "(Ljava/lang/Object;)Z" } : Jvm.MethodName) ({ cls := "java/lang/Object", name := "equals", desc := "(Ljava/lang/Object;)Z" } : Jvm.MethodName)) ∈ lw_all := lw_g (lw_at lw_m11 201 rfl) rfl
theorem q2783 : (Jvm.Cond.instanceMethod ({ cls := "DialMenus$Menu", name := "deep", desc := "()I" } : Jvm.MethodName)) ∈ lw_all := lw_g (lw_at lw_m12 7 rfl) rfl
theorem q2784 : (Jvm.Cond.selects "DialMenus$Menu" ({ cls := "DialMenus$Menu", name := "deep", desc := "()I" } : Jvm.MethodName) ({ cls := "DialMenus$Menu", name := "deep", desc := "()I" } : Jvm.MethodName)) ∈ lw_all := lw_g (lw_at lw_m12 8 rfl) rfl
theorem q2785 : (Jvm.Cond.code ({ cls := "DialMenus$Menu", name := "deep", desc := "()I" } : Jvm.MethodName) prog_3_method_5_code (4 : Nat) (Option.some Jvm.ClassFile.FieldType.int)) ∈ lw_all := lw_g (lw_at lw_m12 9 rfl) rfl
theorem q2786 : (Jvm.Cond.methodLink "DialMenus$Menu" (79 : Nat) ({ cls := "DialMenus$Menu", name := "deep", desc := "()I" } : Jvm.MethodName)) ∈ lw_all := lw_g (lw_at lw_m12 10 rfl) rfl
theorem q2787 : (Jvm.Cond.methodLink "DialMenus$Menu" (82 : Nat) ({ cls := "java/lang/Math", name := "max", desc := "(II)I" } : Jvm.MethodName)) ∈ lw_all := lw_g (lw_at lw_m12 11 rfl) rfl
theorem q2789 : (Jvm.Cond.instanceMethod ({ cls := "DialMenus$Menu", name := "many", desc := "()I" } : Jvm.MethodName)) ∈ lw_all := lw_g (lw_at lw_m12 13 rfl) rfl
theorem q2790 : (Jvm.Cond.selects "DialMenus$Menu" ({ cls := "DialMenus$Menu", name := "many", desc := "()I" } : Jvm.MethodName) ({ cls := "DialMenus$Menu", name := "many", desc := "()I" } : Jvm.MethodName)) ∈ lw_all := lw_g (lw_at lw_m12 14 rfl) rfl
theorem q2791 : (Jvm.Cond.code ({ cls := "DialMenus$Menu", name := "many", desc := "()I" } : Jvm.MethodName) prog_3_method_6_code (4 : Nat) (Option.some Jvm.ClassFile.FieldType.int)) ∈ lw_all := lw_g (lw_at lw_m12 15 rfl) rfl
theorem q2792 : (Jvm.Cond.methodLink "DialMenus$Menu" (87 : Nat) ({ cls := "DialMenus$Menu", name := "many", desc := "()I" } : Jvm.MethodName)) ∈ lw_all := lw_g (lw_at lw_m12 16 rfl) rfl
theorem q3354 : (Jvm.Cond.castable "DialMenus$Menu" "java/lang/Object") ∈ lw_tbl := lw_at lw_m14 98 rfl
theorem in_X5 : ∀ w ∈ wsX50, w ∈ lw_all := lw_in wsX50 [2675, 2677, 2679, 2681] (by decide +kernel) (by decide +kernel)
